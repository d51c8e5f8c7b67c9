theorem d_Model_init_0 : decode prog_9_method_1_code 0 = .ok (.aload_n 0, 1) := by decide +kernel
theorem d_Model_init_1 : decode prog_9_method_1_code 1 = .ok (.invokespecial 1, 3) := by decide +kernel
theorem d_Model_init_4 : decode prog_9_method_1_code 4 = .ok (.aload_n 0, 1) := by decide +kernel
theorem d_Model_init_5 : decode prog_9_method_1_code 5 = .ok (.sipush 1503, 3) := by decide +kernel
theorem d_Model_init_8 : decode prog_9_method_1_code 8 = .ok (.newarray .long, 2) := by decide +kernel
theorem d_Model_init_10 : decode prog_9_method_1_code 10 = .ok (.putfield 7, 3) := by decide +kernel
theorem d_Model_init_13 : decode prog_9_method_1_code 13 = .ok (.aload_n 0, 1) := by decide +kernel
theorem d_Model_init_14 : decode prog_9_method_1_code 14 = .ok (.sipush 1503, 3) := by decide +kernel
theorem d_Model_init_17 : decode prog_9_method_1_code 17 = .ok (.newarray .long, 2) := by decide +kernel
theorem d_Model_init_19 : decode prog_9_method_1_code 19 = .ok (.putfield 13, 3) := by decide +kernel
theorem d_Model_init_22 : decode prog_9_method_1_code 22 = .ok (.aload_n 0, 1) := by decide +kernel
theorem d_Model_init_23 : decode prog_9_method_1_code 23 = .ok (.ldc 16, 2) := by decide +kernel
theorem d_Model_init_25 : decode prog_9_method_1_code 25 = .ok (.newarray .int, 2) := by decide +kernel
theorem d_Model_init_27 : decode prog_9_method_1_code 27 = .ok (.putfield 17, 3) := by decide +kernel
theorem d_Model_init_30 : decode prog_9_method_1_code 30 = .ok (.aload_n 0, 1) := by decide +kernel
theorem d_Model_init_31 : decode prog_9_method_1_code 31 = .ok (.sipush 1503, 3) := by decide +kernel
theorem d_Model_init_34 : decode prog_9_method_1_code 34 = .ok (.newarray .int, 2) := by decide +kernel
theorem d_Model_init_36 : decode prog_9_method_1_code 36 = .ok (.putfield 21, 3) := by decide +kernel
theorem d_Model_init_39 : decode prog_9_method_1_code 39 = .ok (.aload_n 0, 1) := by decide +kernel
theorem d_Model_init_40 : decode prog_9_method_1_code 40 = .ok (.sipush 1500, 3) := by decide +kernel
theorem d_Model_init_43 : decode prog_9_method_1_code 43 = .ok (.newarray .long, 2) := by decide +kernel
theorem d_Model_init_45 : decode prog_9_method_1_code 45 = .ok (.putfield 24, 3) := by decide +kernel
theorem d_Model_init_48 : decode prog_9_method_1_code 48 = .ok (.aload_n 0, 1) := by decide +kernel
theorem d_Model_init_49 : decode prog_9_method_1_code 49 = .ok (.sipush 1500, 3) := by decide +kernel
theorem d_Model_init_52 : decode prog_9_method_1_code 52 = .ok (.newarray .int, 2) := by decide +kernel
theorem d_Model_init_54 : decode prog_9_method_1_code 54 = .ok (.putfield 27, 3) := by decide +kernel
theorem d_Model_init_57 : decode prog_9_method_1_code 57 = .ok (.aload_n 0, 1) := by decide +kernel
theorem d_Model_init_58 : decode prog_9_method_1_code 58 = .ok (.sipush 1500, 3) := by decide +kernel
theorem d_Model_init_61 : decode prog_9_method_1_code 61 = .ok (.newarray .int, 2) := by decide +kernel
theorem d_Model_init_63 : decode prog_9_method_1_code 63 = .ok (.putfield 30, 3) := by decide +kernel
theorem d_Model_init_66 : decode prog_9_method_1_code 66 = .ok (.aload_n 0, 1) := by decide +kernel
theorem d_Model_init_67 : decode prog_9_method_1_code 67 = .ok (.bipush 50, 2) := by decide +kernel
theorem d_Model_init_69 : decode prog_9_method_1_code 69 = .ok (.newarray .int, 2) := by decide +kernel
theorem d_Model_init_71 : decode prog_9_method_1_code 71 = .ok (.putfield 33, 3) := by decide +kernel
theorem d_Model_init_74 : decode prog_9_method_1_code 74 = .ok (.aload_n 0, 1) := by decide +kernel
theorem d_Model_init_75 : decode prog_9_method_1_code 75 = .ok (.bipush 50, 2) := by decide +kernel
theorem d_Model_init_77 : decode prog_9_method_1_code 77 = .ok (.newarray .int, 2) := by decide +kernel
theorem d_Model_init_79 : decode prog_9_method_1_code 79 = .ok (.putfield 36, 3) := by decide +kernel
theorem d_Model_init_82 : decode prog_9_method_1_code 82 = .ok (.aload_n 0, 1) := by decide +kernel
theorem d_Model_init_83 : decode prog_9_method_1_code 83 = .ok (.sipush 1500, 3) := by decide +kernel
theorem d_Model_init_86 : decode prog_9_method_1_code 86 = .ok (.newarray .int, 2) := by decide +kernel
theorem d_Model_init_88 : decode prog_9_method_1_code 88 = .ok (.putfield 39, 3) := by decide +kernel
theorem d_Model_init_91 : decode prog_9_method_1_code 91 = .ok (.aload_n 0, 1) := by decide +kernel
theorem d_Model_init_92 : decode prog_9_method_1_code 92 = .ok (.bipush 50, 2) := by decide +kernel
theorem d_Model_init_94 : decode prog_9_method_1_code 94 = .ok (.newarray .int, 2) := by decide +kernel
theorem d_Model_init_96 : decode prog_9_method_1_code 96 = .ok (.putfield 42, 3) := by decide +kernel
theorem d_Model_init_99 : decode prog_9_method_1_code 99 = .ok (.iload_n 1, 1) := by decide +kernel
theorem d_Model_init_100 : decode prog_9_method_1_code 100 = .ok (.iconst 3, 1) := by decide +kernel
theorem d_Model_init_101 : decode prog_9_method_1_code 101 = .ok (.irem, 1) := by decide +kernel
theorem d_Model_init_102 : decode prog_9_method_1_code 102 = .ok (.istore_n 2, 1) := by decide +kernel
theorem d_Model_init_103 : decode prog_9_method_1_code 103 = .ok (.aload_n 0, 1) := by decide +kernel
theorem d_Model_init_104 : decode prog_9_method_1_code 104 = .ok (.iload_n 2, 1) := by decide +kernel
theorem d_Model_init_105 : decode prog_9_method_1_code 105 = .ok (.ifCond .ge 9, 3) := by decide +kernel
theorem d_Model_init_108 : decode prog_9_method_1_code 108 = .ok (.iload_n 2, 1) := by decide +kernel
theorem d_Model_init_109 : decode prog_9_method_1_code 109 = .ok (.iconst 3, 1) := by decide +kernel
theorem d_Model_init_110 : decode prog_9_method_1_code 110 = .ok (.iadd, 1) := by decide +kernel
theorem d_Model_init_111 : decode prog_9_method_1_code 111 = .ok (.goto 4, 3) := by decide +kernel
theorem d_Model_init_114 : decode prog_9_method_1_code 114 = .ok (.iload_n 2, 1) := by decide +kernel
theorem d_Model_init_115 : decode prog_9_method_1_code 115 = .ok (.putfield 45, 3) := by decide +kernel
theorem d_Model_init_118 : decode prog_9_method_1_code 118 = .ok (.iconst 0, 1) := by decide +kernel
theorem d_Model_init_119 : decode prog_9_method_1_code 119 = .ok (.istore_n 3, 1) := by decide +kernel
theorem d_Model_init_120 : decode prog_9_method_1_code 120 = .ok (.iload_n 3, 1) := by decide +kernel
theorem d_Model_init_121 : decode prog_9_method_1_code 121 = .ok (.sipush 1500, 3) := by decide +kernel
theorem d_Model_init_124 : decode prog_9_method_1_code 124 = .ok (.if_icmp .ge 20, 3) := by decide +kernel
theorem d_Model_init_127 : decode prog_9_method_1_code 127 = .ok (.aload_n 0, 1) := by decide +kernel
theorem d_Model_init_128 : decode prog_9_method_1_code 128 = .ok (.getfield 30, 3) := by decide +kernel
theorem d_Model_init_131 : decode prog_9_method_1_code 131 = .ok (.iload_n 3, 1) := by decide +kernel
theorem d_Model_init_132 : decode prog_9_method_1_code 132 = .ok (.sipush 1499, 3) := by decide +kernel
theorem d_Model_init_135 : decode prog_9_method_1_code 135 = .ok (.iload_n 3, 1) := by decide +kernel
theorem d_Model_init_136 : decode prog_9_method_1_code 136 = .ok (.isub, 1) := by decide +kernel
theorem d_Model_init_137 : decode prog_9_method_1_code 137 = .ok (.iastore, 1) := by decide +kernel
theorem d_Model_init_138 : decode prog_9_method_1_code 138 = .ok (.iinc 3 1, 3) := by decide +kernel
theorem d_Model_init_141 : decode prog_9_method_1_code 141 = .ok (.goto (-21), 3) := by decide +kernel
theorem d_Model_init_144 : decode prog_9_method_1_code 144 = .ok (.aload_n 0, 1) := by decide +kernel
theorem d_Model_init_145 : decode prog_9_method_1_code 145 = .ok (.sipush 1500, 3) := by decide +kernel
theorem d_Model_init_148 : decode prog_9_method_1_code 148 = .ok (.putfield 49, 3) := by decide +kernel
theorem d_Model_init_151 : decode prog_9_method_1_code 151 = .ok (.return_, 1) := by decide +kernel
theorem d_Model_thrown_0 : decode prog_9_method_2_code 0 = .ok (.aload_n 0, 1) := by decide +kernel
theorem d_Model_thrown_1 : decode prog_9_method_2_code 1 = .ok (.getfield 52, 3) := by decide +kernel
theorem d_Model_thrown_4 : decode prog_9_method_2_code 4 = .ok (.ireturn, 1) := by decide +kernel
theorem d_Model_fails_0 : decode prog_9_method_3_code 0 = .ok (.aload_n 0, 1) := by decide +kernel
theorem d_Model_fails_1 : decode prog_9_method_3_code 1 = .ok (.iload_n 1, 1) := by decide +kernel
theorem d_Model_fails_2 : decode prog_9_method_3_code 2 = .ok (.ifCond .eq 7, 3) := by decide +kernel
theorem d_Model_fails_5 : decode prog_9_method_3_code 5 = .ok (.iload_n 2, 1) := by decide +kernel
theorem d_Model_fails_6 : decode prog_9_method_3_code 6 = .ok (.goto 4, 3) := by decide +kernel
theorem d_Model_fails_9 : decode prog_9_method_3_code 9 = .ok (.iconst 0, 1) := by decide +kernel
theorem d_Model_fails_10 : decode prog_9_method_3_code 10 = .ok (.putfield 52, 3) := by decide +kernel
theorem d_Model_fails_13 : decode prog_9_method_3_code 13 = .ok (.iload_n 1, 1) := by decide +kernel
theorem d_Model_fails_14 : decode prog_9_method_3_code 14 = .ok (.ireturn, 1) := by decide +kernel
theorem d_Model_byOrder_0 : decode prog_9_method_4_code 0 = .ok (.lload_n 0, 1) := by decide +kernel
theorem d_Model_byOrder_1 : decode prog_9_method_4_code 1 = .ok (.lload_n 2, 1) := by decide +kernel
theorem d_Model_byOrder_2 : decode prog_9_method_4_code 2 = .ok (.lcmp, 1) := by decide +kernel
theorem d_Model_byOrder_3 : decode prog_9_method_4_code 3 = .ok (.ifCond .ge 7, 3) := by decide +kernel
theorem d_Model_byOrder_6 : decode prog_9_method_4_code 6 = .ok (.iconst (-1), 1) := by decide +kernel
theorem d_Model_byOrder_7 : decode prog_9_method_4_code 7 = .ok (.goto 14, 3) := by decide +kernel
theorem d_Model_byOrder_10 : decode prog_9_method_4_code 10 = .ok (.lload_n 0, 1) := by decide +kernel
theorem d_Model_byOrder_11 : decode prog_9_method_4_code 11 = .ok (.lload_n 2, 1) := by decide +kernel
theorem d_Model_byOrder_12 : decode prog_9_method_4_code 12 = .ok (.lcmp, 1) := by decide +kernel
theorem d_Model_byOrder_13 : decode prog_9_method_4_code 13 = .ok (.ifCond .le 7, 3) := by decide +kernel
theorem d_Model_byOrder_16 : decode prog_9_method_4_code 16 = .ok (.iconst 1, 1) := by decide +kernel
theorem d_Model_byOrder_17 : decode prog_9_method_4_code 17 = .ok (.goto 4, 3) := by decide +kernel
theorem d_Model_byOrder_20 : decode prog_9_method_4_code 20 = .ok (.iconst 0, 1) := by decide +kernel
theorem d_Model_byOrder_21 : decode prog_9_method_4_code 21 = .ok (.ireturn, 1) := by decide +kernel
theorem d_Model_compare_0 : decode prog_9_method_5_code 0 = .ok (.aload_n 0, 1) := by decide +kernel
theorem d_Model_compare_1 : decode prog_9_method_5_code 1 = .ok (.getfield 45, 3) := by decide +kernel
theorem d_Model_compare_4 : decode prog_9_method_5_code 4 = .ok (.iconst 2, 1) := by decide +kernel
theorem d_Model_compare_5 : decode prog_9_method_5_code 5 = .ok (.if_icmp .ge 50, 3) := by decide +kernel
theorem d_Model_compare_8 : decode prog_9_method_5_code 8 = .ok (.aload_n 0, 1) := by decide +kernel
theorem d_Model_compare_9 : decode prog_9_method_5_code 9 = .ok (.getfield 7, 3) := by decide +kernel
theorem d_Model_compare_12 : decode prog_9_method_5_code 12 = .ok (.iload_n 1, 1) := by decide +kernel
theorem d_Model_compare_13 : decode prog_9_method_5_code 13 = .ok (.laload, 1) := by decide +kernel
theorem d_Model_compare_14 : decode prog_9_method_5_code 14 = .ok (.aload_n 0, 1) := by decide +kernel
theorem d_Model_compare_15 : decode prog_9_method_5_code 15 = .ok (.getfield 7, 3) := by decide +kernel
theorem d_Model_compare_18 : decode prog_9_method_5_code 18 = .ok (.iload_n 2, 1) := by decide +kernel
theorem d_Model_compare_19 : decode prog_9_method_5_code 19 = .ok (.laload, 1) := by decide +kernel
theorem d_Model_compare_20 : decode prog_9_method_5_code 20 = .ok (.invokestatic 55, 3) := by decide +kernel
theorem d_Model_compare_23 : decode prog_9_method_5_code 23 = .ok (.istore_n 3, 1) := by decide +kernel
theorem d_Model_compare_24 : decode prog_9_method_5_code 24 = .ok (.iload_n 3, 1) := by decide +kernel
theorem d_Model_compare_25 : decode prog_9_method_5_code 25 = .ok (.ifCond .ne 10, 3) := by decide +kernel
theorem d_Model_compare_28 : decode prog_9_method_5_code 28 = .ok (.aload_n 0, 1) := by decide +kernel
theorem d_Model_compare_29 : decode prog_9_method_5_code 29 = .ok (.getfield 45, 3) := by decide +kernel
theorem d_Model_compare_32 : decode prog_9_method_5_code 32 = .ok (.ifCond .ne 7, 3) := by decide +kernel
theorem d_Model_compare_35 : decode prog_9_method_5_code 35 = .ok (.iload_n 3, 1) := by decide +kernel
theorem d_Model_compare_36 : decode prog_9_method_5_code 36 = .ok (.goto 18, 3) := by decide +kernel
theorem d_Model_compare_39 : decode prog_9_method_5_code 39 = .ok (.aload_n 0, 1) := by decide +kernel
theorem d_Model_compare_40 : decode prog_9_method_5_code 40 = .ok (.getfield 13, 3) := by decide +kernel
theorem d_Model_compare_43 : decode prog_9_method_5_code 43 = .ok (.iload_n 1, 1) := by decide +kernel
theorem d_Model_compare_44 : decode prog_9_method_5_code 44 = .ok (.laload, 1) := by decide +kernel
theorem d_Model_compare_45 : decode prog_9_method_5_code 45 = .ok (.aload_n 0, 1) := by decide +kernel
theorem d_Model_compare_46 : decode prog_9_method_5_code 46 = .ok (.getfield 13, 3) := by decide +kernel
theorem d_Model_compare_49 : decode prog_9_method_5_code 49 = .ok (.iload_n 2, 1) := by decide +kernel
theorem d_Model_compare_50 : decode prog_9_method_5_code 50 = .ok (.laload, 1) := by decide +kernel
theorem d_Model_compare_51 : decode prog_9_method_5_code 51 = .ok (.invokestatic 55, 3) := by decide +kernel
theorem d_Model_compare_54 : decode prog_9_method_5_code 54 = .ok (.ireturn, 1) := by decide +kernel
theorem d_Model_compare_55 : decode prog_9_method_5_code 55 = .ok (.iconst 0, 1) := by decide +kernel
theorem d_Model_compare_56 : decode prog_9_method_5_code 56 = .ok (.istore_n 3, 1) := by decide +kernel
theorem d_Model_compare_57 : decode prog_9_method_5_code 57 = .ok (.iload_n 3, 1) := by decide +kernel
theorem d_Model_compare_58 : decode prog_9_method_5_code 58 = .ok (.aload_n 0, 1) := by decide +kernel
theorem d_Model_compare_59 : decode prog_9_method_5_code 59 = .ok (.getfield 21, 3) := by decide +kernel
theorem d_Model_compare_62 : decode prog_9_method_5_code 62 = .ok (.iload_n 1, 1) := by decide +kernel
theorem d_Model_compare_63 : decode prog_9_method_5_code 63 = .ok (.iaload, 1) := by decide +kernel
theorem d_Model_compare_64 : decode prog_9_method_5_code 64 = .ok (.if_icmp .ge 65, 3) := by decide +kernel
theorem d_Model_compare_67 : decode prog_9_method_5_code 67 = .ok (.iload_n 3, 1) := by decide +kernel
theorem d_Model_compare_68 : decode prog_9_method_5_code 68 = .ok (.aload_n 0, 1) := by decide +kernel
theorem d_Model_compare_69 : decode prog_9_method_5_code 69 = .ok (.getfield 21, 3) := by decide +kernel
theorem d_Model_compare_72 : decode prog_9_method_5_code 72 = .ok (.iload_n 2, 1) := by decide +kernel
theorem d_Model_compare_73 : decode prog_9_method_5_code 73 = .ok (.iaload, 1) := by decide +kernel
theorem d_Model_compare_74 : decode prog_9_method_5_code 74 = .ok (.if_icmp .ge 55, 3) := by decide +kernel
theorem d_Model_compare_77 : decode prog_9_method_5_code 77 = .ok (.aload_n 0, 1) := by decide +kernel
theorem d_Model_compare_78 : decode prog_9_method_5_code 78 = .ok (.getfield 17, 3) := by decide +kernel
theorem d_Model_compare_81 : decode prog_9_method_5_code 81 = .ok (.bipush 24, 2) := by decide +kernel
theorem d_Model_compare_83 : decode prog_9_method_5_code 83 = .ok (.iload_n 1, 1) := by decide +kernel
theorem d_Model_compare_84 : decode prog_9_method_5_code 84 = .ok (.imul, 1) := by decide +kernel
theorem d_Model_compare_85 : decode prog_9_method_5_code 85 = .ok (.iload_n 3, 1) := by decide +kernel
theorem d_Model_compare_86 : decode prog_9_method_5_code 86 = .ok (.iadd, 1) := by decide +kernel
theorem d_Model_compare_87 : decode prog_9_method_5_code 87 = .ok (.iaload, 1) := by decide +kernel
theorem d_Model_compare_88 : decode prog_9_method_5_code 88 = .ok (.istore 4, 2) := by decide +kernel
theorem d_Model_compare_90 : decode prog_9_method_5_code 90 = .ok (.aload_n 0, 1) := by decide +kernel
theorem d_Model_compare_91 : decode prog_9_method_5_code 91 = .ok (.getfield 17, 3) := by decide +kernel
theorem d_Model_compare_94 : decode prog_9_method_5_code 94 = .ok (.bipush 24, 2) := by decide +kernel
theorem d_Model_compare_96 : decode prog_9_method_5_code 96 = .ok (.iload_n 2, 1) := by decide +kernel
theorem d_Model_compare_97 : decode prog_9_method_5_code 97 = .ok (.imul, 1) := by decide +kernel
theorem d_Model_compare_98 : decode prog_9_method_5_code 98 = .ok (.iload_n 3, 1) := by decide +kernel
theorem d_Model_compare_99 : decode prog_9_method_5_code 99 = .ok (.iadd, 1) := by decide +kernel
theorem d_Model_compare_100 : decode prog_9_method_5_code 100 = .ok (.iaload, 1) := by decide +kernel
theorem d_Model_compare_101 : decode prog_9_method_5_code 101 = .ok (.istore 5, 2) := by decide +kernel
theorem d_Model_compare_103 : decode prog_9_method_5_code 103 = .ok (.iload 4, 2) := by decide +kernel
theorem d_Model_compare_105 : decode prog_9_method_5_code 105 = .ok (.iload 5, 2) := by decide +kernel
theorem d_Model_compare_107 : decode prog_9_method_5_code 107 = .ok (.if_icmp .eq 16, 3) := by decide +kernel
theorem d_Model_compare_110 : decode prog_9_method_5_code 110 = .ok (.iload 4, 2) := by decide +kernel
theorem d_Model_compare_112 : decode prog_9_method_5_code 112 = .ok (.iload 5, 2) := by decide +kernel
theorem d_Model_compare_114 : decode prog_9_method_5_code 114 = .ok (.if_icmp .ge 7, 3) := by decide +kernel
theorem d_Model_compare_117 : decode prog_9_method_5_code 117 = .ok (.iconst (-1), 1) := by decide +kernel
theorem d_Model_compare_118 : decode prog_9_method_5_code 118 = .ok (.goto 4, 3) := by decide +kernel
theorem d_Model_compare_121 : decode prog_9_method_5_code 121 = .ok (.iconst 1, 1) := by decide +kernel
theorem d_Model_compare_122 : decode prog_9_method_5_code 122 = .ok (.ireturn, 1) := by decide +kernel
theorem d_Model_compare_123 : decode prog_9_method_5_code 123 = .ok (.iinc 3 1, 3) := by decide +kernel
theorem d_Model_compare_126 : decode prog_9_method_5_code 126 = .ok (.goto (-69), 3) := by decide +kernel
theorem d_Model_compare_129 : decode prog_9_method_5_code 129 = .ok (.aload_n 0, 1) := by decide +kernel
theorem d_Model_compare_130 : decode prog_9_method_5_code 130 = .ok (.getfield 21, 3) := by decide +kernel
theorem d_Model_compare_133 : decode prog_9_method_5_code 133 = .ok (.iload_n 1, 1) := by decide +kernel
theorem d_Model_compare_134 : decode prog_9_method_5_code 134 = .ok (.iaload, 1) := by decide +kernel
theorem d_Model_compare_135 : decode prog_9_method_5_code 135 = .ok (.aload_n 0, 1) := by decide +kernel
theorem d_Model_compare_136 : decode prog_9_method_5_code 136 = .ok (.getfield 21, 3) := by decide +kernel
theorem d_Model_compare_139 : decode prog_9_method_5_code 139 = .ok (.iload_n 2, 1) := by decide +kernel
theorem d_Model_compare_140 : decode prog_9_method_5_code 140 = .ok (.iaload, 1) := by decide +kernel
theorem d_Model_compare_141 : decode prog_9_method_5_code 141 = .ok (.if_icmp .ge 7, 3) := by decide +kernel
theorem d_Model_compare_144 : decode prog_9_method_5_code 144 = .ok (.iconst (-1), 1) := by decide +kernel
theorem d_Model_compare_145 : decode prog_9_method_5_code 145 = .ok (.goto 23, 3) := by decide +kernel
theorem d_Model_compare_148 : decode prog_9_method_5_code 148 = .ok (.aload_n 0, 1) := by decide +kernel
theorem d_Model_compare_149 : decode prog_9_method_5_code 149 = .ok (.getfield 21, 3) := by decide +kernel
theorem d_Model_compare_152 : decode prog_9_method_5_code 152 = .ok (.iload_n 1, 1) := by decide +kernel
theorem d_Model_compare_153 : decode prog_9_method_5_code 153 = .ok (.iaload, 1) := by decide +kernel
theorem d_Model_compare_154 : decode prog_9_method_5_code 154 = .ok (.aload_n 0, 1) := by decide +kernel
theorem d_Model_compare_155 : decode prog_9_method_5_code 155 = .ok (.getfield 21, 3) := by decide +kernel
theorem d_Model_compare_158 : decode prog_9_method_5_code 158 = .ok (.iload_n 2, 1) := by decide +kernel
theorem d_Model_compare_159 : decode prog_9_method_5_code 159 = .ok (.iaload, 1) := by decide +kernel
theorem d_Model_compare_160 : decode prog_9_method_5_code 160 = .ok (.if_icmp .le 7, 3) := by decide +kernel
theorem d_Model_compare_163 : decode prog_9_method_5_code 163 = .ok (.iconst 1, 1) := by decide +kernel
theorem d_Model_compare_164 : decode prog_9_method_5_code 164 = .ok (.goto 4, 3) := by decide +kernel
theorem d_Model_compare_167 : decode prog_9_method_5_code 167 = .ok (.iconst 0, 1) := by decide +kernel
theorem d_Model_compare_168 : decode prog_9_method_5_code 168 = .ok (.ireturn, 1) := by decide +kernel
theorem d_Model_copy_0 : decode prog_9_method_6_code 0 = .ok (.aload_n 0, 1) := by decide +kernel
theorem d_Model_copy_1 : decode prog_9_method_6_code 1 = .ok (.getfield 7, 3) := by decide +kernel
theorem d_Model_copy_4 : decode prog_9_method_6_code 4 = .ok (.iload_n 1, 1) := by decide +kernel
theorem d_Model_copy_5 : decode prog_9_method_6_code 5 = .ok (.aload_n 0, 1) := by decide +kernel
theorem d_Model_copy_6 : decode prog_9_method_6_code 6 = .ok (.getfield 7, 3) := by decide +kernel
theorem d_Model_copy_9 : decode prog_9_method_6_code 9 = .ok (.iload_n 2, 1) := by decide +kernel
theorem d_Model_copy_10 : decode prog_9_method_6_code 10 = .ok (.laload, 1) := by decide +kernel
theorem d_Model_copy_11 : decode prog_9_method_6_code 11 = .ok (.lastore, 1) := by decide +kernel
theorem d_Model_copy_12 : decode prog_9_method_6_code 12 = .ok (.aload_n 0, 1) := by decide +kernel
theorem d_Model_copy_13 : decode prog_9_method_6_code 13 = .ok (.getfield 13, 3) := by decide +kernel
theorem d_Model_copy_16 : decode prog_9_method_6_code 16 = .ok (.iload_n 1, 1) := by decide +kernel
theorem d_Model_copy_17 : decode prog_9_method_6_code 17 = .ok (.aload_n 0, 1) := by decide +kernel
theorem d_Model_copy_18 : decode prog_9_method_6_code 18 = .ok (.getfield 13, 3) := by decide +kernel
theorem d_Model_copy_21 : decode prog_9_method_6_code 21 = .ok (.iload_n 2, 1) := by decide +kernel
theorem d_Model_copy_22 : decode prog_9_method_6_code 22 = .ok (.laload, 1) := by decide +kernel
theorem d_Model_copy_23 : decode prog_9_method_6_code 23 = .ok (.lastore, 1) := by decide +kernel
theorem d_Model_copy_24 : decode prog_9_method_6_code 24 = .ok (.aload_n 0, 1) := by decide +kernel
theorem d_Model_copy_25 : decode prog_9_method_6_code 25 = .ok (.getfield 21, 3) := by decide +kernel
theorem d_Model_copy_28 : decode prog_9_method_6_code 28 = .ok (.iload_n 1, 1) := by decide +kernel
theorem d_Model_copy_29 : decode prog_9_method_6_code 29 = .ok (.aload_n 0, 1) := by decide +kernel
theorem d_Model_copy_30 : decode prog_9_method_6_code 30 = .ok (.getfield 21, 3) := by decide +kernel
theorem d_Model_copy_33 : decode prog_9_method_6_code 33 = .ok (.iload_n 2, 1) := by decide +kernel
theorem d_Model_copy_34 : decode prog_9_method_6_code 34 = .ok (.iaload, 1) := by decide +kernel
theorem d_Model_copy_35 : decode prog_9_method_6_code 35 = .ok (.iastore, 1) := by decide +kernel
theorem d_Model_copy_36 : decode prog_9_method_6_code 36 = .ok (.iconst 0, 1) := by decide +kernel
theorem d_Model_copy_37 : decode prog_9_method_6_code 37 = .ok (.istore_n 3, 1) := by decide +kernel
theorem d_Model_copy_38 : decode prog_9_method_6_code 38 = .ok (.iload_n 3, 1) := by decide +kernel
theorem d_Model_copy_39 : decode prog_9_method_6_code 39 = .ok (.bipush 24, 2) := by decide +kernel
theorem d_Model_copy_41 : decode prog_9_method_6_code 41 = .ok (.if_icmp .ge 31, 3) := by decide +kernel
theorem d_Model_copy_44 : decode prog_9_method_6_code 44 = .ok (.aload_n 0, 1) := by decide +kernel
theorem d_Model_copy_45 : decode prog_9_method_6_code 45 = .ok (.getfield 17, 3) := by decide +kernel
theorem d_Model_copy_48 : decode prog_9_method_6_code 48 = .ok (.bipush 24, 2) := by decide +kernel
theorem d_Model_copy_50 : decode prog_9_method_6_code 50 = .ok (.iload_n 1, 1) := by decide +kernel
theorem d_Model_copy_51 : decode prog_9_method_6_code 51 = .ok (.imul, 1) := by decide +kernel
theorem d_Model_copy_52 : decode prog_9_method_6_code 52 = .ok (.iload_n 3, 1) := by decide +kernel
theorem d_Model_copy_53 : decode prog_9_method_6_code 53 = .ok (.iadd, 1) := by decide +kernel
theorem d_Model_copy_54 : decode prog_9_method_6_code 54 = .ok (.aload_n 0, 1) := by decide +kernel
theorem d_Model_copy_55 : decode prog_9_method_6_code 55 = .ok (.getfield 17, 3) := by decide +kernel
theorem d_Model_copy_58 : decode prog_9_method_6_code 58 = .ok (.bipush 24, 2) := by decide +kernel
theorem d_Model_copy_60 : decode prog_9_method_6_code 60 = .ok (.iload_n 2, 1) := by decide +kernel
theorem d_Model_copy_61 : decode prog_9_method_6_code 61 = .ok (.imul, 1) := by decide +kernel
theorem d_Model_copy_62 : decode prog_9_method_6_code 62 = .ok (.iload_n 3, 1) := by decide +kernel
theorem d_Model_copy_63 : decode prog_9_method_6_code 63 = .ok (.iadd, 1) := by decide +kernel
theorem d_Model_copy_64 : decode prog_9_method_6_code 64 = .ok (.iaload, 1) := by decide +kernel
theorem d_Model_copy_65 : decode prog_9_method_6_code 65 = .ok (.iastore, 1) := by decide +kernel
theorem d_Model_copy_66 : decode prog_9_method_6_code 66 = .ok (.iinc 3 1, 3) := by decide +kernel
theorem d_Model_copy_69 : decode prog_9_method_6_code 69 = .ok (.goto (-31), 3) := by decide +kernel
theorem d_Model_copy_72 : decode prog_9_method_6_code 72 = .ok (.return_, 1) := by decide +kernel
theorem d_Model_blank_0 : decode prog_9_method_7_code 0 = .ok (.aload_n 0, 1) := by decide +kernel
theorem d_Model_blank_1 : decode prog_9_method_7_code 1 = .ok (.getfield 7, 3) := by decide +kernel
theorem d_Model_blank_4 : decode prog_9_method_7_code 4 = .ok (.iload_n 1, 1) := by decide +kernel
theorem d_Model_blank_5 : decode prog_9_method_7_code 5 = .ok (.lconst 0, 1) := by decide +kernel
theorem d_Model_blank_6 : decode prog_9_method_7_code 6 = .ok (.lastore, 1) := by decide +kernel
theorem d_Model_blank_7 : decode prog_9_method_7_code 7 = .ok (.aload_n 0, 1) := by decide +kernel
theorem d_Model_blank_8 : decode prog_9_method_7_code 8 = .ok (.getfield 13, 3) := by decide +kernel
theorem d_Model_blank_11 : decode prog_9_method_7_code 11 = .ok (.iload_n 1, 1) := by decide +kernel
theorem d_Model_blank_12 : decode prog_9_method_7_code 12 = .ok (.lconst 0, 1) := by decide +kernel
theorem d_Model_blank_13 : decode prog_9_method_7_code 13 = .ok (.lastore, 1) := by decide +kernel
theorem d_Model_blank_14 : decode prog_9_method_7_code 14 = .ok (.aload_n 0, 1) := by decide +kernel
theorem d_Model_blank_15 : decode prog_9_method_7_code 15 = .ok (.getfield 21, 3) := by decide +kernel
theorem d_Model_blank_18 : decode prog_9_method_7_code 18 = .ok (.iload_n 1, 1) := by decide +kernel
theorem d_Model_blank_19 : decode prog_9_method_7_code 19 = .ok (.iconst 0, 1) := by decide +kernel
theorem d_Model_blank_20 : decode prog_9_method_7_code 20 = .ok (.iastore, 1) := by decide +kernel
theorem d_Model_blank_21 : decode prog_9_method_7_code 21 = .ok (.return_, 1) := by decide +kernel
theorem d_Model_below_0 : decode prog_9_method_8_code 0 = .ok (.iconst 0, 1) := by decide +kernel
theorem d_Model_below_1 : decode prog_9_method_8_code 1 = .ok (.istore_n 2, 1) := by decide +kernel
theorem d_Model_below_2 : decode prog_9_method_8_code 2 = .ok (.aload_n 0, 1) := by decide +kernel
theorem d_Model_below_3 : decode prog_9_method_8_code 3 = .ok (.getfield 59, 3) := by decide +kernel
theorem d_Model_below_6 : decode prog_9_method_8_code 6 = .ok (.istore_n 3, 1) := by decide +kernel
theorem d_Model_below_7 : decode prog_9_method_8_code 7 = .ok (.iload_n 2, 1) := by decide +kernel
theorem d_Model_below_8 : decode prog_9_method_8_code 8 = .ok (.iload_n 3, 1) := by decide +kernel
theorem d_Model_below_9 : decode prog_9_method_8_code 9 = .ok (.if_icmp .ge 39, 3) := by decide +kernel
theorem d_Model_below_12 : decode prog_9_method_8_code 12 = .ok (.iload_n 2, 1) := by decide +kernel
theorem d_Model_below_13 : decode prog_9_method_8_code 13 = .ok (.iload_n 3, 1) := by decide +kernel
theorem d_Model_below_14 : decode prog_9_method_8_code 14 = .ok (.iadd, 1) := by decide +kernel
theorem d_Model_below_15 : decode prog_9_method_8_code 15 = .ok (.iconst 2, 1) := by decide +kernel
theorem d_Model_below_16 : decode prog_9_method_8_code 16 = .ok (.idiv, 1) := by decide +kernel
theorem d_Model_below_17 : decode prog_9_method_8_code 17 = .ok (.istore 4, 2) := by decide +kernel
theorem d_Model_below_19 : decode prog_9_method_8_code 19 = .ok (.aload_n 0, 1) := by decide +kernel
theorem d_Model_below_20 : decode prog_9_method_8_code 20 = .ok (.aload_n 0, 1) := by decide +kernel
theorem d_Model_below_21 : decode prog_9_method_8_code 21 = .ok (.getfield 27, 3) := by decide +kernel
theorem d_Model_below_24 : decode prog_9_method_8_code 24 = .ok (.iload 4, 2) := by decide +kernel
theorem d_Model_below_26 : decode prog_9_method_8_code 26 = .ok (.iaload, 1) := by decide +kernel
theorem d_Model_below_27 : decode prog_9_method_8_code 27 = .ok (.iload_n 1, 1) := by decide +kernel
theorem d_Model_below_28 : decode prog_9_method_8_code 28 = .ok (.invokevirtual 62, 3) := by decide +kernel
theorem d_Model_below_31 : decode prog_9_method_8_code 31 = .ok (.ifCond .ge 11, 3) := by decide +kernel
theorem d_Model_below_34 : decode prog_9_method_8_code 34 = .ok (.iload 4, 2) := by decide +kernel
theorem d_Model_below_36 : decode prog_9_method_8_code 36 = .ok (.iconst 1, 1) := by decide +kernel
theorem d_Model_below_37 : decode prog_9_method_8_code 37 = .ok (.iadd, 1) := by decide +kernel
theorem d_Model_below_38 : decode prog_9_method_8_code 38 = .ok (.istore_n 2, 1) := by decide +kernel
theorem d_Model_below_39 : decode prog_9_method_8_code 39 = .ok (.goto 6, 3) := by decide +kernel
theorem d_Model_below_42 : decode prog_9_method_8_code 42 = .ok (.iload 4, 2) := by decide +kernel
theorem d_Model_below_44 : decode prog_9_method_8_code 44 = .ok (.istore_n 3, 1) := by decide +kernel
theorem d_Model_below_45 : decode prog_9_method_8_code 45 = .ok (.goto (-38), 3) := by decide +kernel
theorem d_Model_below_48 : decode prog_9_method_8_code 48 = .ok (.iload_n 2, 1) := by decide +kernel
theorem d_Model_below_49 : decode prog_9_method_8_code 49 = .ok (.ireturn, 1) := by decide +kernel
theorem d_Model_isAt_0 : decode prog_9_method_9_code 0 = .ok (.iload_n 1, 1) := by decide +kernel
theorem d_Model_isAt_1 : decode prog_9_method_9_code 1 = .ok (.aload_n 0, 1) := by decide +kernel
theorem d_Model_isAt_2 : decode prog_9_method_9_code 2 = .ok (.getfield 59, 3) := by decide +kernel
theorem d_Model_isAt_5 : decode prog_9_method_9_code 5 = .ok (.if_icmp .ge 21, 3) := by decide +kernel
theorem d_Model_isAt_8 : decode prog_9_method_9_code 8 = .ok (.aload_n 0, 1) := by decide +kernel
theorem d_Model_isAt_9 : decode prog_9_method_9_code 9 = .ok (.aload_n 0, 1) := by decide +kernel
theorem d_Model_isAt_10 : decode prog_9_method_9_code 10 = .ok (.getfield 27, 3) := by decide +kernel
theorem d_Model_isAt_13 : decode prog_9_method_9_code 13 = .ok (.iload_n 1, 1) := by decide +kernel
theorem d_Model_isAt_14 : decode prog_9_method_9_code 14 = .ok (.iaload, 1) := by decide +kernel
theorem d_Model_isAt_15 : decode prog_9_method_9_code 15 = .ok (.iload_n 2, 1) := by decide +kernel
theorem d_Model_isAt_16 : decode prog_9_method_9_code 16 = .ok (.invokevirtual 62, 3) := by decide +kernel
theorem d_Model_isAt_19 : decode prog_9_method_9_code 19 = .ok (.ifCond .ne 7, 3) := by decide +kernel
theorem d_Model_isAt_22 : decode prog_9_method_9_code 22 = .ok (.iconst 1, 1) := by decide +kernel
theorem d_Model_isAt_23 : decode prog_9_method_9_code 23 = .ok (.goto 4, 3) := by decide +kernel
theorem d_Model_isAt_26 : decode prog_9_method_9_code 26 = .ok (.iconst 0, 1) := by decide +kernel
theorem d_Model_isAt_27 : decode prog_9_method_9_code 27 = .ok (.ireturn, 1) := by decide +kernel
theorem d_Model_insert_0 : decode prog_9_method_10_code 0 = .ok (.aload_n 0, 1) := by decide +kernel
theorem d_Model_insert_1 : decode prog_9_method_10_code 1 = .ok (.getfield 59, 3) := by decide +kernel
theorem d_Model_insert_4 : decode prog_9_method_10_code 4 = .ok (.istore 5, 2) := by decide +kernel
theorem d_Model_insert_6 : decode prog_9_method_10_code 6 = .ok (.iload 5, 2) := by decide +kernel
theorem d_Model_insert_8 : decode prog_9_method_10_code 8 = .ok (.iload_n 1, 1) := by decide +kernel
theorem d_Model_insert_9 : decode prog_9_method_10_code 9 = .ok (.if_icmp .le 25, 3) := by decide +kernel
theorem d_Model_insert_12 : decode prog_9_method_10_code 12 = .ok (.aload_n 0, 1) := by decide +kernel
theorem d_Model_insert_13 : decode prog_9_method_10_code 13 = .ok (.getfield 27, 3) := by decide +kernel
theorem d_Model_insert_16 : decode prog_9_method_10_code 16 = .ok (.iload 5, 2) := by decide +kernel
theorem d_Model_insert_18 : decode prog_9_method_10_code 18 = .ok (.aload_n 0, 1) := by decide +kernel
theorem d_Model_insert_19 : decode prog_9_method_10_code 19 = .ok (.getfield 27, 3) := by decide +kernel
theorem d_Model_insert_22 : decode prog_9_method_10_code 22 = .ok (.iload 5, 2) := by decide +kernel
theorem d_Model_insert_24 : decode prog_9_method_10_code 24 = .ok (.iconst 1, 1) := by decide +kernel
theorem d_Model_insert_25 : decode prog_9_method_10_code 25 = .ok (.isub, 1) := by decide +kernel
theorem d_Model_insert_26 : decode prog_9_method_10_code 26 = .ok (.iaload, 1) := by decide +kernel
theorem d_Model_insert_27 : decode prog_9_method_10_code 27 = .ok (.iastore, 1) := by decide +kernel
theorem d_Model_insert_28 : decode prog_9_method_10_code 28 = .ok (.iinc 5 (-1), 3) := by decide +kernel
theorem d_Model_insert_31 : decode prog_9_method_10_code 31 = .ok (.goto (-25), 3) := by decide +kernel
theorem d_Model_insert_34 : decode prog_9_method_10_code 34 = .ok (.aload_n 0, 1) := by decide +kernel
theorem d_Model_insert_35 : decode prog_9_method_10_code 35 = .ok (.getfield 27, 3) := by decide +kernel
theorem d_Model_insert_38 : decode prog_9_method_10_code 38 = .ok (.iload_n 1, 1) := by decide +kernel
theorem d_Model_insert_39 : decode prog_9_method_10_code 39 = .ok (.aload_n 0, 1) := by decide +kernel
theorem d_Model_insert_40 : decode prog_9_method_10_code 40 = .ok (.getfield 30, 3) := by decide +kernel
theorem d_Model_insert_43 : decode prog_9_method_10_code 43 = .ok (.aload_n 0, 1) := by decide +kernel
theorem d_Model_insert_44 : decode prog_9_method_10_code 44 = .ok (.dup, 1) := by decide +kernel
theorem d_Model_insert_45 : decode prog_9_method_10_code 45 = .ok (.getfield 49, 3) := by decide +kernel
theorem d_Model_insert_48 : decode prog_9_method_10_code 48 = .ok (.iconst 1, 1) := by decide +kernel
theorem d_Model_insert_49 : decode prog_9_method_10_code 49 = .ok (.isub, 1) := by decide +kernel
theorem d_Model_insert_50 : decode prog_9_method_10_code 50 = .ok (.dup_x1, 1) := by decide +kernel
theorem d_Model_insert_51 : decode prog_9_method_10_code 51 = .ok (.putfield 49, 3) := by decide +kernel
theorem d_Model_insert_54 : decode prog_9_method_10_code 54 = .ok (.iaload, 1) := by decide +kernel
theorem d_Model_insert_55 : decode prog_9_method_10_code 55 = .ok (.iastore, 1) := by decide +kernel
theorem d_Model_insert_56 : decode prog_9_method_10_code 56 = .ok (.aload_n 0, 1) := by decide +kernel
theorem d_Model_insert_57 : decode prog_9_method_10_code 57 = .ok (.dup, 1) := by decide +kernel
theorem d_Model_insert_58 : decode prog_9_method_10_code 58 = .ok (.getfield 59, 3) := by decide +kernel
theorem d_Model_insert_61 : decode prog_9_method_10_code 61 = .ok (.iconst 1, 1) := by decide +kernel
theorem d_Model_insert_62 : decode prog_9_method_10_code 62 = .ok (.iadd, 1) := by decide +kernel
theorem d_Model_insert_63 : decode prog_9_method_10_code 63 = .ok (.putfield 59, 3) := by decide +kernel
theorem d_Model_insert_66 : decode prog_9_method_10_code 66 = .ok (.aload_n 0, 1) := by decide +kernel
theorem d_Model_insert_67 : decode prog_9_method_10_code 67 = .ok (.aload_n 0, 1) := by decide +kernel
theorem d_Model_insert_68 : decode prog_9_method_10_code 68 = .ok (.getfield 27, 3) := by decide +kernel
theorem d_Model_insert_71 : decode prog_9_method_10_code 71 = .ok (.iload_n 1, 1) := by decide +kernel
theorem d_Model_insert_72 : decode prog_9_method_10_code 72 = .ok (.iaload, 1) := by decide +kernel
theorem d_Model_insert_73 : decode prog_9_method_10_code 73 = .ok (.iload_n 2, 1) := by decide +kernel
theorem d_Model_insert_74 : decode prog_9_method_10_code 74 = .ok (.invokevirtual 66, 3) := by decide +kernel
theorem d_Model_insert_77 : decode prog_9_method_10_code 77 = .ok (.aload_n 0, 1) := by decide +kernel
theorem d_Model_insert_78 : decode prog_9_method_10_code 78 = .ok (.getfield 24, 3) := by decide +kernel
theorem d_Model_insert_81 : decode prog_9_method_10_code 81 = .ok (.aload_n 0, 1) := by decide +kernel
theorem d_Model_insert_82 : decode prog_9_method_10_code 82 = .ok (.getfield 27, 3) := by decide +kernel
theorem d_Model_insert_85 : decode prog_9_method_10_code 85 = .ok (.iload_n 1, 1) := by decide +kernel
theorem d_Model_insert_86 : decode prog_9_method_10_code 86 = .ok (.iaload, 1) := by decide +kernel
theorem d_Model_insert_87 : decode prog_9_method_10_code 87 = .ok (.lload_n 3, 1) := by decide +kernel
theorem d_Model_insert_88 : decode prog_9_method_10_code 88 = .ok (.lastore, 1) := by decide +kernel
theorem d_Model_insert_89 : decode prog_9_method_10_code 89 = .ok (.return_, 1) := by decide +kernel
theorem d_Model_delete_0 : decode prog_9_method_11_code 0 = .ok (.aload_n 0, 1) := by decide +kernel
theorem d_Model_delete_1 : decode prog_9_method_11_code 1 = .ok (.getfield 30, 3) := by decide +kernel
theorem d_Model_delete_4 : decode prog_9_method_11_code 4 = .ok (.aload_n 0, 1) := by decide +kernel
theorem d_Model_delete_5 : decode prog_9_method_11_code 5 = .ok (.dup, 1) := by decide +kernel
theorem d_Model_delete_6 : decode prog_9_method_11_code 6 = .ok (.getfield 49, 3) := by decide +kernel
theorem d_Model_delete_9 : decode prog_9_method_11_code 9 = .ok (.dup_x1, 1) := by decide +kernel
theorem d_Model_delete_10 : decode prog_9_method_11_code 10 = .ok (.iconst 1, 1) := by decide +kernel
theorem d_Model_delete_11 : decode prog_9_method_11_code 11 = .ok (.iadd, 1) := by decide +kernel
theorem d_Model_delete_12 : decode prog_9_method_11_code 12 = .ok (.putfield 49, 3) := by decide +kernel
theorem d_Model_delete_15 : decode prog_9_method_11_code 15 = .ok (.aload_n 0, 1) := by decide +kernel
theorem d_Model_delete_16 : decode prog_9_method_11_code 16 = .ok (.getfield 27, 3) := by decide +kernel
theorem d_Model_delete_19 : decode prog_9_method_11_code 19 = .ok (.iload_n 1, 1) := by decide +kernel
theorem d_Model_delete_20 : decode prog_9_method_11_code 20 = .ok (.iaload, 1) := by decide +kernel
theorem d_Model_delete_21 : decode prog_9_method_11_code 21 = .ok (.iastore, 1) := by decide +kernel
theorem d_Model_delete_22 : decode prog_9_method_11_code 22 = .ok (.aload_n 0, 1) := by decide +kernel
theorem d_Model_delete_23 : decode prog_9_method_11_code 23 = .ok (.dup, 1) := by decide +kernel
theorem d_Model_delete_24 : decode prog_9_method_11_code 24 = .ok (.getfield 59, 3) := by decide +kernel
theorem d_Model_delete_27 : decode prog_9_method_11_code 27 = .ok (.iconst 1, 1) := by decide +kernel
theorem d_Model_delete_28 : decode prog_9_method_11_code 28 = .ok (.isub, 1) := by decide +kernel
theorem d_Model_delete_29 : decode prog_9_method_11_code 29 = .ok (.putfield 59, 3) := by decide +kernel
theorem d_Model_delete_32 : decode prog_9_method_11_code 32 = .ok (.iload_n 1, 1) := by decide +kernel
theorem d_Model_delete_33 : decode prog_9_method_11_code 33 = .ok (.istore_n 2, 1) := by decide +kernel
theorem d_Model_delete_34 : decode prog_9_method_11_code 34 = .ok (.iload_n 2, 1) := by decide +kernel
theorem d_Model_delete_35 : decode prog_9_method_11_code 35 = .ok (.aload_n 0, 1) := by decide +kernel
theorem d_Model_delete_36 : decode prog_9_method_11_code 36 = .ok (.getfield 59, 3) := by decide +kernel
theorem d_Model_delete_39 : decode prog_9_method_11_code 39 = .ok (.if_icmp .ge 23, 3) := by decide +kernel
theorem d_Model_delete_42 : decode prog_9_method_11_code 42 = .ok (.aload_n 0, 1) := by decide +kernel
theorem d_Model_delete_43 : decode prog_9_method_11_code 43 = .ok (.getfield 27, 3) := by decide +kernel
theorem d_Model_delete_46 : decode prog_9_method_11_code 46 = .ok (.iload_n 2, 1) := by decide +kernel
theorem d_Model_delete_47 : decode prog_9_method_11_code 47 = .ok (.aload_n 0, 1) := by decide +kernel
theorem d_Model_delete_48 : decode prog_9_method_11_code 48 = .ok (.getfield 27, 3) := by decide +kernel
theorem d_Model_delete_51 : decode prog_9_method_11_code 51 = .ok (.iload_n 2, 1) := by decide +kernel
theorem d_Model_delete_52 : decode prog_9_method_11_code 52 = .ok (.iconst 1, 1) := by decide +kernel
theorem d_Model_delete_53 : decode prog_9_method_11_code 53 = .ok (.iadd, 1) := by decide +kernel
theorem d_Model_delete_54 : decode prog_9_method_11_code 54 = .ok (.iaload, 1) := by decide +kernel
theorem d_Model_delete_55 : decode prog_9_method_11_code 55 = .ok (.iastore, 1) := by decide +kernel
theorem d_Model_delete_56 : decode prog_9_method_11_code 56 = .ok (.iinc 2 1, 3) := by decide +kernel
theorem d_Model_delete_59 : decode prog_9_method_11_code 59 = .ok (.goto (-25), 3) := by decide +kernel
theorem d_Model_delete_62 : decode prog_9_method_11_code 62 = .ok (.return_, 1) := by decide +kernel
theorem d_Model_number_0 : decode prog_9_method_12_code 0 = .ok (.aload_n 0, 1) := by decide +kernel
theorem d_Model_number_1 : decode prog_9_method_12_code 1 = .ok (.aload_n 0, 1) := by decide +kernel
theorem d_Model_number_2 : decode prog_9_method_12_code 2 = .ok (.getfield 45, 3) := by decide +kernel
theorem d_Model_number_5 : decode prog_9_method_12_code 5 = .ok (.ifCond .eq 7, 3) := by decide +kernel
theorem d_Model_number_8 : decode prog_9_method_12_code 8 = .ok (.iconst 1, 1) := by decide +kernel
theorem d_Model_number_9 : decode prog_9_method_12_code 9 = .ok (.goto 4, 3) := by decide +kernel
theorem d_Model_number_12 : decode prog_9_method_12_code 12 = .ok (.iconst 0, 1) := by decide +kernel
theorem d_Model_number_13 : decode prog_9_method_12_code 13 = .ok (.iconst 1, 1) := by decide +kernel
theorem d_Model_number_14 : decode prog_9_method_12_code 14 = .ok (.invokevirtual 70, 3) := by decide +kernel
theorem d_Model_number_17 : decode prog_9_method_12_code 17 = .ok (.ifCond .eq 4, 3) := by decide +kernel
theorem d_Model_number_20 : decode prog_9_method_12_code 20 = .ok (.return_, 1) := by decide +kernel
theorem d_Model_number_21 : decode prog_9_method_12_code 21 = .ok (.aload_n 0, 1) := by decide +kernel
theorem d_Model_number_22 : decode prog_9_method_12_code 22 = .ok (.getfield 7, 3) := by decide +kernel
theorem d_Model_number_25 : decode prog_9_method_12_code 25 = .ok (.sipush 1500, 3) := by decide +kernel
theorem d_Model_number_28 : decode prog_9_method_12_code 28 = .ok (.lload_n 1, 1) := by decide +kernel
theorem d_Model_number_29 : decode prog_9_method_12_code 29 = .ok (.lastore, 1) := by decide +kernel
theorem d_Model_number_30 : decode prog_9_method_12_code 30 = .ok (.return_, 1) := by decide +kernel
theorem d_Model_pair_0 : decode prog_9_method_13_code 0 = .ok (.aload_n 0, 1) := by decide +kernel
theorem d_Model_pair_1 : decode prog_9_method_13_code 1 = .ok (.aload_n 0, 1) := by decide +kernel
theorem d_Model_pair_2 : decode prog_9_method_13_code 2 = .ok (.getfield 45, 3) := by decide +kernel
theorem d_Model_pair_5 : decode prog_9_method_13_code 5 = .ok (.iconst 1, 1) := by decide +kernel
theorem d_Model_pair_6 : decode prog_9_method_13_code 6 = .ok (.if_icmp .eq 7, 3) := by decide +kernel
theorem d_Model_pair_9 : decode prog_9_method_13_code 9 = .ok (.iconst 1, 1) := by decide +kernel
theorem d_Model_pair_10 : decode prog_9_method_13_code 10 = .ok (.goto 4, 3) := by decide +kernel
theorem d_Model_pair_13 : decode prog_9_method_13_code 13 = .ok (.iconst 0, 1) := by decide +kernel
theorem d_Model_pair_14 : decode prog_9_method_13_code 14 = .ok (.iconst 1, 1) := by decide +kernel
theorem d_Model_pair_15 : decode prog_9_method_13_code 15 = .ok (.invokevirtual 70, 3) := by decide +kernel
theorem d_Model_pair_18 : decode prog_9_method_13_code 18 = .ok (.ifCond .eq 4, 3) := by decide +kernel
theorem d_Model_pair_21 : decode prog_9_method_13_code 21 = .ok (.return_, 1) := by decide +kernel
theorem d_Model_pair_22 : decode prog_9_method_13_code 22 = .ok (.aload_n 0, 1) := by decide +kernel
theorem d_Model_pair_23 : decode prog_9_method_13_code 23 = .ok (.getfield 7, 3) := by decide +kernel
theorem d_Model_pair_26 : decode prog_9_method_13_code 26 = .ok (.sipush 1500, 3) := by decide +kernel
theorem d_Model_pair_29 : decode prog_9_method_13_code 29 = .ok (.lload_n 1, 1) := by decide +kernel
theorem d_Model_pair_30 : decode prog_9_method_13_code 30 = .ok (.lastore, 1) := by decide +kernel
theorem d_Model_pair_31 : decode prog_9_method_13_code 31 = .ok (.aload_n 0, 1) := by decide +kernel
theorem d_Model_pair_32 : decode prog_9_method_13_code 32 = .ok (.getfield 13, 3) := by decide +kernel
theorem d_Model_pair_35 : decode prog_9_method_13_code 35 = .ok (.sipush 1500, 3) := by decide +kernel
theorem d_Model_pair_38 : decode prog_9_method_13_code 38 = .ok (.lload_n 3, 1) := by decide +kernel
theorem d_Model_pair_39 : decode prog_9_method_13_code 39 = .ok (.lastore, 1) := by decide +kernel
theorem d_Model_pair_40 : decode prog_9_method_13_code 40 = .ok (.return_, 1) := by decide +kernel
theorem d_Model_letter_0 : decode prog_9_method_14_code 0 = .ok (.aload_n 0, 1) := by decide +kernel
theorem d_Model_letter_1 : decode prog_9_method_14_code 1 = .ok (.aload_n 0, 1) := by decide +kernel
theorem d_Model_letter_2 : decode prog_9_method_14_code 2 = .ok (.getfield 45, 3) := by decide +kernel
theorem d_Model_letter_5 : decode prog_9_method_14_code 5 = .ok (.iconst 2, 1) := by decide +kernel
theorem d_Model_letter_6 : decode prog_9_method_14_code 6 = .ok (.if_icmp .eq 7, 3) := by decide +kernel
theorem d_Model_letter_9 : decode prog_9_method_14_code 9 = .ok (.iconst 1, 1) := by decide +kernel
theorem d_Model_letter_10 : decode prog_9_method_14_code 10 = .ok (.goto 4, 3) := by decide +kernel
theorem d_Model_letter_13 : decode prog_9_method_14_code 13 = .ok (.iconst 0, 1) := by decide +kernel
theorem d_Model_letter_14 : decode prog_9_method_14_code 14 = .ok (.iconst 1, 1) := by decide +kernel
theorem d_Model_letter_15 : decode prog_9_method_14_code 15 = .ok (.invokevirtual 70, 3) := by decide +kernel
theorem d_Model_letter_18 : decode prog_9_method_14_code 18 = .ok (.ifCond .ne 53, 3) := by decide +kernel
theorem d_Model_letter_21 : decode prog_9_method_14_code 21 = .ok (.aload_n 0, 1) := by decide +kernel
theorem d_Model_letter_22 : decode prog_9_method_14_code 22 = .ok (.iload_n 1, 1) := by decide +kernel
theorem d_Model_letter_23 : decode prog_9_method_14_code 23 = .ok (.ifCond .lt 10, 3) := by decide +kernel
theorem d_Model_letter_26 : decode prog_9_method_14_code 26 = .ok (.iload_n 1, 1) := by decide +kernel
theorem d_Model_letter_27 : decode prog_9_method_14_code 27 = .ok (.sipush 255, 3) := by decide +kernel
theorem d_Model_letter_30 : decode prog_9_method_14_code 30 = .ok (.if_icmp .le 7, 3) := by decide +kernel
theorem d_Model_letter_33 : decode prog_9_method_14_code 33 = .ok (.iconst 1, 1) := by decide +kernel
theorem d_Model_letter_34 : decode prog_9_method_14_code 34 = .ok (.goto 4, 3) := by decide +kernel
theorem d_Model_letter_37 : decode prog_9_method_14_code 37 = .ok (.iconst 0, 1) := by decide +kernel
theorem d_Model_letter_38 : decode prog_9_method_14_code 38 = .ok (.iconst 2, 1) := by decide +kernel
theorem d_Model_letter_39 : decode prog_9_method_14_code 39 = .ok (.invokevirtual 70, 3) := by decide +kernel
theorem d_Model_letter_42 : decode prog_9_method_14_code 42 = .ok (.ifCond .ne 29, 3) := by decide +kernel
theorem d_Model_letter_45 : decode prog_9_method_14_code 45 = .ok (.aload_n 0, 1) := by decide +kernel
theorem d_Model_letter_46 : decode prog_9_method_14_code 46 = .ok (.aload_n 0, 1) := by decide +kernel
theorem d_Model_letter_47 : decode prog_9_method_14_code 47 = .ok (.getfield 21, 3) := by decide +kernel
theorem d_Model_letter_50 : decode prog_9_method_14_code 50 = .ok (.sipush 1500, 3) := by decide +kernel
theorem d_Model_letter_53 : decode prog_9_method_14_code 53 = .ok (.iaload, 1) := by decide +kernel
theorem d_Model_letter_54 : decode prog_9_method_14_code 54 = .ok (.bipush 24, 2) := by decide +kernel
theorem d_Model_letter_56 : decode prog_9_method_14_code 56 = .ok (.if_icmp .ne 7, 3) := by decide +kernel
theorem d_Model_letter_59 : decode prog_9_method_14_code 59 = .ok (.iconst 1, 1) := by decide +kernel
theorem d_Model_letter_60 : decode prog_9_method_14_code 60 = .ok (.goto 4, 3) := by decide +kernel
theorem d_Model_letter_63 : decode prog_9_method_14_code 63 = .ok (.iconst 0, 1) := by decide +kernel
theorem d_Model_letter_64 : decode prog_9_method_14_code 64 = .ok (.iconst 3, 1) := by decide +kernel
theorem d_Model_letter_65 : decode prog_9_method_14_code 65 = .ok (.invokevirtual 70, 3) := by decide +kernel
theorem d_Model_letter_68 : decode prog_9_method_14_code 68 = .ok (.ifCond .eq 5, 3) := by decide +kernel
theorem d_Model_letter_71 : decode prog_9_method_14_code 71 = .ok (.iconst 0, 1) := by decide +kernel
theorem d_Model_letter_72 : decode prog_9_method_14_code 72 = .ok (.ireturn, 1) := by decide +kernel
theorem d_Model_letter_73 : decode prog_9_method_14_code 73 = .ok (.aload_n 0, 1) := by decide +kernel
theorem d_Model_letter_74 : decode prog_9_method_14_code 74 = .ok (.getfield 17, 3) := by decide +kernel
theorem d_Model_letter_77 : decode prog_9_method_14_code 77 = .ok (.ldc 74, 2) := by decide +kernel
theorem d_Model_letter_79 : decode prog_9_method_14_code 79 = .ok (.aload_n 0, 1) := by decide +kernel
theorem d_Model_letter_80 : decode prog_9_method_14_code 80 = .ok (.getfield 21, 3) := by decide +kernel
theorem d_Model_letter_83 : decode prog_9_method_14_code 83 = .ok (.sipush 1500, 3) := by decide +kernel
theorem d_Model_letter_86 : decode prog_9_method_14_code 86 = .ok (.iaload, 1) := by decide +kernel
theorem d_Model_letter_87 : decode prog_9_method_14_code 87 = .ok (.iadd, 1) := by decide +kernel
theorem d_Model_letter_88 : decode prog_9_method_14_code 88 = .ok (.iload_n 1, 1) := by decide +kernel
theorem d_Model_letter_89 : decode prog_9_method_14_code 89 = .ok (.iastore, 1) := by decide +kernel
theorem d_Model_letter_90 : decode prog_9_method_14_code 90 = .ok (.aload_n 0, 1) := by decide +kernel
theorem d_Model_letter_91 : decode prog_9_method_14_code 91 = .ok (.getfield 21, 3) := by decide +kernel
theorem d_Model_letter_94 : decode prog_9_method_14_code 94 = .ok (.sipush 1500, 3) := by decide +kernel
theorem d_Model_letter_97 : decode prog_9_method_14_code 97 = .ok (.dup2, 1) := by decide +kernel
theorem d_Model_letter_98 : decode prog_9_method_14_code 98 = .ok (.iaload, 1) := by decide +kernel
theorem d_Model_letter_99 : decode prog_9_method_14_code 99 = .ok (.iconst 1, 1) := by decide +kernel
theorem d_Model_letter_100 : decode prog_9_method_14_code 100 = .ok (.iadd, 1) := by decide +kernel
theorem d_Model_letter_101 : decode prog_9_method_14_code 101 = .ok (.iastore, 1) := by decide +kernel
theorem d_Model_letter_102 : decode prog_9_method_14_code 102 = .ok (.aload_n 0, 1) := by decide +kernel
theorem d_Model_letter_103 : decode prog_9_method_14_code 103 = .ok (.getfield 21, 3) := by decide +kernel
theorem d_Model_letter_106 : decode prog_9_method_14_code 106 = .ok (.sipush 1500, 3) := by decide +kernel
theorem d_Model_letter_109 : decode prog_9_method_14_code 109 = .ok (.iaload, 1) := by decide +kernel
theorem d_Model_letter_110 : decode prog_9_method_14_code 110 = .ok (.ireturn, 1) := by decide +kernel
theorem d_Model_erase_0 : decode prog_9_method_15_code 0 = .ok (.aload_n 0, 1) := by decide +kernel
theorem d_Model_erase_1 : decode prog_9_method_15_code 1 = .ok (.iconst 0, 1) := by decide +kernel
theorem d_Model_erase_2 : decode prog_9_method_15_code 2 = .ok (.putfield 52, 3) := by decide +kernel
theorem d_Model_erase_5 : decode prog_9_method_15_code 5 = .ok (.aload_n 0, 1) := by decide +kernel
theorem d_Model_erase_6 : decode prog_9_method_15_code 6 = .ok (.sipush 1500, 3) := by decide +kernel
theorem d_Model_erase_9 : decode prog_9_method_15_code 9 = .ok (.invokevirtual 75, 3) := by decide +kernel
theorem d_Model_erase_12 : decode prog_9_method_15_code 12 = .ok (.return_, 1) := by decide +kernel
theorem d_Model_keep_0 : decode prog_9_method_16_code 0 = .ok (.aload_n 0, 1) := by decide +kernel
theorem d_Model_keep_1 : decode prog_9_method_16_code 1 = .ok (.iconst 0, 1) := by decide +kernel
theorem d_Model_keep_2 : decode prog_9_method_16_code 2 = .ok (.putfield 52, 3) := by decide +kernel
theorem d_Model_keep_5 : decode prog_9_method_16_code 5 = .ok (.aload_n 0, 1) := by decide +kernel
theorem d_Model_keep_6 : decode prog_9_method_16_code 6 = .ok (.sipush 1501, 3) := by decide +kernel
theorem d_Model_keep_9 : decode prog_9_method_16_code 9 = .ok (.sipush 1500, 3) := by decide +kernel
theorem d_Model_keep_12 : decode prog_9_method_16_code 12 = .ok (.invokevirtual 66, 3) := by decide +kernel
theorem d_Model_keep_15 : decode prog_9_method_16_code 15 = .ok (.return_, 1) := by decide +kernel
theorem d_Model_take_0 : decode prog_9_method_17_code 0 = .ok (.aload_n 0, 1) := by decide +kernel
theorem d_Model_take_1 : decode prog_9_method_17_code 1 = .ok (.aload_n 0, 1) := by decide +kernel
theorem d_Model_take_2 : decode prog_9_method_17_code 2 = .ok (.getfield 79, 3) := by decide +kernel
theorem d_Model_take_5 : decode prog_9_method_17_code 5 = .ok (.ifCond .ne 7, 3) := by decide +kernel
theorem d_Model_take_8 : decode prog_9_method_17_code 8 = .ok (.iconst 1, 1) := by decide +kernel
theorem d_Model_take_9 : decode prog_9_method_17_code 9 = .ok (.goto 4, 3) := by decide +kernel
theorem d_Model_take_12 : decode prog_9_method_17_code 12 = .ok (.iconst 0, 1) := by decide +kernel
theorem d_Model_take_13 : decode prog_9_method_17_code 13 = .ok (.iconst 1, 1) := by decide +kernel
theorem d_Model_take_14 : decode prog_9_method_17_code 14 = .ok (.invokevirtual 70, 3) := by decide +kernel
theorem d_Model_take_17 : decode prog_9_method_17_code 17 = .ok (.ifCond .eq 4, 3) := by decide +kernel
theorem d_Model_take_20 : decode prog_9_method_17_code 20 = .ok (.return_, 1) := by decide +kernel
theorem d_Model_take_21 : decode prog_9_method_17_code 21 = .ok (.aload_n 0, 1) := by decide +kernel
theorem d_Model_take_22 : decode prog_9_method_17_code 22 = .ok (.sipush 1500, 3) := by decide +kernel
theorem d_Model_take_25 : decode prog_9_method_17_code 25 = .ok (.sipush 1502, 3) := by decide +kernel
theorem d_Model_take_28 : decode prog_9_method_17_code 28 = .ok (.invokevirtual 66, 3) := by decide +kernel
theorem d_Model_take_31 : decode prog_9_method_17_code 31 = .ok (.return_, 1) := by decide +kernel
theorem d_Model_put_0 : decode prog_9_method_18_code 0 = .ok (.aload_n 0, 1) := by decide +kernel
theorem d_Model_put_1 : decode prog_9_method_18_code 1 = .ok (.sipush 1500, 3) := by decide +kernel
theorem d_Model_put_4 : decode prog_9_method_18_code 4 = .ok (.invokevirtual 83, 3) := by decide +kernel
theorem d_Model_put_7 : decode prog_9_method_18_code 7 = .ok (.istore_n 3, 1) := by decide +kernel
theorem d_Model_put_8 : decode prog_9_method_18_code 8 = .ok (.aload_n 0, 1) := by decide +kernel
theorem d_Model_put_9 : decode prog_9_method_18_code 9 = .ok (.iload_n 3, 1) := by decide +kernel
theorem d_Model_put_10 : decode prog_9_method_18_code 10 = .ok (.sipush 1500, 3) := by decide +kernel
theorem d_Model_put_13 : decode prog_9_method_18_code 13 = .ok (.invokevirtual 87, 3) := by decide +kernel
theorem d_Model_put_16 : decode prog_9_method_18_code 16 = .ok (.istore 4, 2) := by decide +kernel
theorem d_Model_put_18 : decode prog_9_method_18_code 18 = .ok (.aload_n 0, 1) := by decide +kernel
theorem d_Model_put_19 : decode prog_9_method_18_code 19 = .ok (.iload 4, 2) := by decide +kernel
theorem d_Model_put_21 : decode prog_9_method_18_code 21 = .ok (.ifCond .ne 17, 3) := by decide +kernel
theorem d_Model_put_24 : decode prog_9_method_18_code 24 = .ok (.aload_n 0, 1) := by decide +kernel
theorem d_Model_put_25 : decode prog_9_method_18_code 25 = .ok (.getfield 59, 3) := by decide +kernel
theorem d_Model_put_28 : decode prog_9_method_18_code 28 = .ok (.sipush 1500, 3) := by decide +kernel
theorem d_Model_put_31 : decode prog_9_method_18_code 31 = .ok (.if_icmp .ne 7, 3) := by decide +kernel
theorem d_Model_put_34 : decode prog_9_method_18_code 34 = .ok (.iconst 1, 1) := by decide +kernel
theorem d_Model_put_35 : decode prog_9_method_18_code 35 = .ok (.goto 4, 3) := by decide +kernel
theorem d_Model_put_38 : decode prog_9_method_18_code 38 = .ok (.iconst 0, 1) := by decide +kernel
theorem d_Model_put_39 : decode prog_9_method_18_code 39 = .ok (.iconst 1, 1) := by decide +kernel
theorem d_Model_put_40 : decode prog_9_method_18_code 40 = .ok (.invokevirtual 70, 3) := by decide +kernel
theorem d_Model_put_43 : decode prog_9_method_18_code 43 = .ok (.ifCond .eq 5, 3) := by decide +kernel
theorem d_Model_put_46 : decode prog_9_method_18_code 46 = .ok (.iconst 0, 1) := by decide +kernel
theorem d_Model_put_47 : decode prog_9_method_18_code 47 = .ok (.ireturn, 1) := by decide +kernel
theorem d_Model_put_48 : decode prog_9_method_18_code 48 = .ok (.iload 4, 2) := by decide +kernel
theorem d_Model_put_50 : decode prog_9_method_18_code 50 = .ok (.ifCond .eq 18, 3) := by decide +kernel
theorem d_Model_put_53 : decode prog_9_method_18_code 53 = .ok (.aload_n 0, 1) := by decide +kernel
theorem d_Model_put_54 : decode prog_9_method_18_code 54 = .ok (.getfield 24, 3) := by decide +kernel
theorem d_Model_put_57 : decode prog_9_method_18_code 57 = .ok (.aload_n 0, 1) := by decide +kernel
theorem d_Model_put_58 : decode prog_9_method_18_code 58 = .ok (.getfield 27, 3) := by decide +kernel
theorem d_Model_put_61 : decode prog_9_method_18_code 61 = .ok (.iload_n 3, 1) := by decide +kernel
theorem d_Model_put_62 : decode prog_9_method_18_code 62 = .ok (.iaload, 1) := by decide +kernel
theorem d_Model_put_63 : decode prog_9_method_18_code 63 = .ok (.lload_n 1, 1) := by decide +kernel
theorem d_Model_put_64 : decode prog_9_method_18_code 64 = .ok (.lastore, 1) := by decide +kernel
theorem d_Model_put_65 : decode prog_9_method_18_code 65 = .ok (.goto 12, 3) := by decide +kernel
theorem d_Model_put_68 : decode prog_9_method_18_code 68 = .ok (.aload_n 0, 1) := by decide +kernel
theorem d_Model_put_69 : decode prog_9_method_18_code 69 = .ok (.iload_n 3, 1) := by decide +kernel
theorem d_Model_put_70 : decode prog_9_method_18_code 70 = .ok (.sipush 1500, 3) := by decide +kernel
theorem d_Model_put_73 : decode prog_9_method_18_code 73 = .ok (.lload_n 1, 1) := by decide +kernel
theorem d_Model_put_74 : decode prog_9_method_18_code 74 = .ok (.invokevirtual 91, 3) := by decide +kernel
theorem d_Model_put_77 : decode prog_9_method_18_code 77 = .ok (.iload 4, 2) := by decide +kernel
theorem d_Model_put_79 : decode prog_9_method_18_code 79 = .ok (.ifCond .ne 7, 3) := by decide +kernel
theorem d_Model_put_82 : decode prog_9_method_18_code 82 = .ok (.iconst 1, 1) := by decide +kernel
theorem d_Model_put_83 : decode prog_9_method_18_code 83 = .ok (.goto 4, 3) := by decide +kernel
theorem d_Model_put_86 : decode prog_9_method_18_code 86 = .ok (.iconst 0, 1) := by decide +kernel
theorem d_Model_put_87 : decode prog_9_method_18_code 87 = .ok (.ireturn, 1) := by decide +kernel
theorem d_Model_get_0 : decode prog_9_method_19_code 0 = .ok (.aload_n 0, 1) := by decide +kernel
theorem d_Model_get_1 : decode prog_9_method_19_code 1 = .ok (.sipush 1500, 3) := by decide +kernel
theorem d_Model_get_4 : decode prog_9_method_19_code 4 = .ok (.invokevirtual 83, 3) := by decide +kernel
theorem d_Model_get_7 : decode prog_9_method_19_code 7 = .ok (.istore_n 1, 1) := by decide +kernel
theorem d_Model_get_8 : decode prog_9_method_19_code 8 = .ok (.aload_n 0, 1) := by decide +kernel
theorem d_Model_get_9 : decode prog_9_method_19_code 9 = .ok (.aload_n 0, 1) := by decide +kernel
theorem d_Model_get_10 : decode prog_9_method_19_code 10 = .ok (.iload_n 1, 1) := by decide +kernel
theorem d_Model_get_11 : decode prog_9_method_19_code 11 = .ok (.sipush 1500, 3) := by decide +kernel
theorem d_Model_get_14 : decode prog_9_method_19_code 14 = .ok (.invokevirtual 87, 3) := by decide +kernel
theorem d_Model_get_17 : decode prog_9_method_19_code 17 = .ok (.ifCond .ne 7, 3) := by decide +kernel
theorem d_Model_get_20 : decode prog_9_method_19_code 20 = .ok (.iconst 1, 1) := by decide +kernel
theorem d_Model_get_21 : decode prog_9_method_19_code 21 = .ok (.goto 4, 3) := by decide +kernel
theorem d_Model_get_24 : decode prog_9_method_19_code 24 = .ok (.iconst 0, 1) := by decide +kernel
theorem d_Model_get_25 : decode prog_9_method_19_code 25 = .ok (.iconst 1, 1) := by decide +kernel
theorem d_Model_get_26 : decode prog_9_method_19_code 26 = .ok (.invokevirtual 70, 3) := by decide +kernel
theorem d_Model_get_29 : decode prog_9_method_19_code 29 = .ok (.ifCond .eq 5, 3) := by decide +kernel
theorem d_Model_get_32 : decode prog_9_method_19_code 32 = .ok (.lconst 0, 1) := by decide +kernel
theorem d_Model_get_33 : decode prog_9_method_19_code 33 = .ok (.lreturn, 1) := by decide +kernel
theorem d_Model_get_34 : decode prog_9_method_19_code 34 = .ok (.aload_n 0, 1) := by decide +kernel
theorem d_Model_get_35 : decode prog_9_method_19_code 35 = .ok (.getfield 24, 3) := by decide +kernel
theorem d_Model_get_38 : decode prog_9_method_19_code 38 = .ok (.aload_n 0, 1) := by decide +kernel
theorem d_Model_get_39 : decode prog_9_method_19_code 39 = .ok (.getfield 27, 3) := by decide +kernel
theorem d_Model_get_42 : decode prog_9_method_19_code 42 = .ok (.iload_n 1, 1) := by decide +kernel
theorem d_Model_get_43 : decode prog_9_method_19_code 43 = .ok (.iaload, 1) := by decide +kernel
theorem d_Model_get_44 : decode prog_9_method_19_code 44 = .ok (.laload, 1) := by decide +kernel
theorem d_Model_get_45 : decode prog_9_method_19_code 45 = .ok (.lreturn, 1) := by decide +kernel
theorem d_Model_remove_0 : decode prog_9_method_20_code 0 = .ok (.aload_n 0, 1) := by decide +kernel
theorem d_Model_remove_1 : decode prog_9_method_20_code 1 = .ok (.sipush 1500, 3) := by decide +kernel
theorem d_Model_remove_4 : decode prog_9_method_20_code 4 = .ok (.invokevirtual 83, 3) := by decide +kernel
theorem d_Model_remove_7 : decode prog_9_method_20_code 7 = .ok (.istore_n 1, 1) := by decide +kernel
theorem d_Model_remove_8 : decode prog_9_method_20_code 8 = .ok (.aload_n 0, 1) := by decide +kernel
theorem d_Model_remove_9 : decode prog_9_method_20_code 9 = .ok (.aload_n 0, 1) := by decide +kernel
theorem d_Model_remove_10 : decode prog_9_method_20_code 10 = .ok (.iload_n 1, 1) := by decide +kernel
theorem d_Model_remove_11 : decode prog_9_method_20_code 11 = .ok (.sipush 1500, 3) := by decide +kernel
theorem d_Model_remove_14 : decode prog_9_method_20_code 14 = .ok (.invokevirtual 87, 3) := by decide +kernel
theorem d_Model_remove_17 : decode prog_9_method_20_code 17 = .ok (.ifCond .ne 7, 3) := by decide +kernel
theorem d_Model_remove_20 : decode prog_9_method_20_code 20 = .ok (.iconst 1, 1) := by decide +kernel
theorem d_Model_remove_21 : decode prog_9_method_20_code 21 = .ok (.goto 4, 3) := by decide +kernel
theorem d_Model_remove_24 : decode prog_9_method_20_code 24 = .ok (.iconst 0, 1) := by decide +kernel
theorem d_Model_remove_25 : decode prog_9_method_20_code 25 = .ok (.iconst 1, 1) := by decide +kernel
theorem d_Model_remove_26 : decode prog_9_method_20_code 26 = .ok (.invokevirtual 70, 3) := by decide +kernel
theorem d_Model_remove_29 : decode prog_9_method_20_code 29 = .ok (.ifCond .eq 5, 3) := by decide +kernel
theorem d_Model_remove_32 : decode prog_9_method_20_code 32 = .ok (.lconst 0, 1) := by decide +kernel
theorem d_Model_remove_33 : decode prog_9_method_20_code 33 = .ok (.lreturn, 1) := by decide +kernel
theorem d_Model_remove_34 : decode prog_9_method_20_code 34 = .ok (.aload_n 0, 1) := by decide +kernel
theorem d_Model_remove_35 : decode prog_9_method_20_code 35 = .ok (.getfield 24, 3) := by decide +kernel
theorem d_Model_remove_38 : decode prog_9_method_20_code 38 = .ok (.aload_n 0, 1) := by decide +kernel
theorem d_Model_remove_39 : decode prog_9_method_20_code 39 = .ok (.getfield 27, 3) := by decide +kernel
theorem d_Model_remove_42 : decode prog_9_method_20_code 42 = .ok (.iload_n 1, 1) := by decide +kernel
theorem d_Model_remove_43 : decode prog_9_method_20_code 43 = .ok (.iaload, 1) := by decide +kernel
theorem d_Model_remove_44 : decode prog_9_method_20_code 44 = .ok (.laload, 1) := by decide +kernel
theorem d_Model_remove_45 : decode prog_9_method_20_code 45 = .ok (.lstore_n 2, 1) := by decide +kernel
theorem d_Model_remove_46 : decode prog_9_method_20_code 46 = .ok (.aload_n 0, 1) := by decide +kernel
theorem d_Model_remove_47 : decode prog_9_method_20_code 47 = .ok (.iload_n 1, 1) := by decide +kernel
theorem d_Model_remove_48 : decode prog_9_method_20_code 48 = .ok (.invokevirtual 95, 3) := by decide +kernel
theorem d_Model_remove_51 : decode prog_9_method_20_code 51 = .ok (.lload_n 2, 1) := by decide +kernel
theorem d_Model_remove_52 : decode prog_9_method_20_code 52 = .ok (.lreturn, 1) := by decide +kernel
theorem d_Model_goes_0 : decode prog_9_method_21_code 0 = .ok (.iload_n 1, 1) := by decide +kernel
theorem d_Model_goes_1 : decode prog_9_method_21_code 1 = .ok (.ifCond .lt 11, 3) := by decide +kernel
theorem d_Model_goes_4 : decode prog_9_method_21_code 4 = .ok (.iload_n 1, 1) := by decide +kernel
theorem d_Model_goes_5 : decode prog_9_method_21_code 5 = .ok (.aload_n 0, 1) := by decide +kernel
theorem d_Model_goes_6 : decode prog_9_method_21_code 6 = .ok (.getfield 59, 3) := by decide +kernel
theorem d_Model_goes_9 : decode prog_9_method_21_code 9 = .ok (.if_icmp .lt 5, 3) := by decide +kernel
theorem d_Model_goes_12 : decode prog_9_method_21_code 12 = .ok (.iconst 0, 1) := by decide +kernel
theorem d_Model_goes_13 : decode prog_9_method_21_code 13 = .ok (.ireturn, 1) := by decide +kernel
theorem d_Model_goes_14 : decode prog_9_method_21_code 14 = .ok (.aload_n 0, 1) := by decide +kernel
theorem d_Model_goes_15 : decode prog_9_method_21_code 15 = .ok (.sipush 1502, 3) := by decide +kernel
theorem d_Model_goes_18 : decode prog_9_method_21_code 18 = .ok (.aload_n 0, 1) := by decide +kernel
theorem d_Model_goes_19 : decode prog_9_method_21_code 19 = .ok (.getfield 27, 3) := by decide +kernel
theorem d_Model_goes_22 : decode prog_9_method_21_code 22 = .ok (.iload_n 1, 1) := by decide +kernel
theorem d_Model_goes_23 : decode prog_9_method_21_code 23 = .ok (.iaload, 1) := by decide +kernel
theorem d_Model_goes_24 : decode prog_9_method_21_code 24 = .ok (.invokevirtual 66, 3) := by decide +kernel
theorem d_Model_goes_27 : decode prog_9_method_21_code 27 = .ok (.aload_n 0, 1) := by decide +kernel
theorem d_Model_goes_28 : decode prog_9_method_21_code 28 = .ok (.iconst 1, 1) := by decide +kernel
theorem d_Model_goes_29 : decode prog_9_method_21_code 29 = .ok (.putfield 79, 3) := by decide +kernel
theorem d_Model_goes_32 : decode prog_9_method_21_code 32 = .ok (.iconst 1, 1) := by decide +kernel
theorem d_Model_goes_33 : decode prog_9_method_21_code 33 = .ok (.ireturn, 1) := by decide +kernel
theorem d_Model_seek_0 : decode prog_9_method_22_code 0 = .ok (.aload_n 0, 1) := by decide +kernel
theorem d_Model_seek_1 : decode prog_9_method_22_code 1 = .ok (.iload_n 1, 1) := by decide +kernel
theorem d_Model_seek_2 : decode prog_9_method_22_code 2 = .ok (.ifCond .lt 8, 3) := by decide +kernel
theorem d_Model_seek_5 : decode prog_9_method_22_code 5 = .ok (.iload_n 1, 1) := by decide +kernel
theorem d_Model_seek_6 : decode prog_9_method_22_code 6 = .ok (.iconst 5, 1) := by decide +kernel
theorem d_Model_seek_7 : decode prog_9_method_22_code 7 = .ok (.if_icmp .le 7, 3) := by decide +kernel
theorem d_Model_seek_10 : decode prog_9_method_22_code 10 = .ok (.iconst 1, 1) := by decide +kernel
theorem d_Model_seek_11 : decode prog_9_method_22_code 11 = .ok (.goto 4, 3) := by decide +kernel
theorem d_Model_seek_14 : decode prog_9_method_22_code 14 = .ok (.iconst 0, 1) := by decide +kernel
theorem d_Model_seek_15 : decode prog_9_method_22_code 15 = .ok (.iconst 1, 1) := by decide +kernel
theorem d_Model_seek_16 : decode prog_9_method_22_code 16 = .ok (.invokevirtual 70, 3) := by decide +kernel
theorem d_Model_seek_19 : decode prog_9_method_22_code 19 = .ok (.ifCond .eq 5, 3) := by decide +kernel
theorem d_Model_seek_22 : decode prog_9_method_22_code 22 = .ok (.iconst 0, 1) := by decide +kernel
theorem d_Model_seek_23 : decode prog_9_method_22_code 23 = .ok (.ireturn, 1) := by decide +kernel
theorem d_Model_seek_24 : decode prog_9_method_22_code 24 = .ok (.aload_n 0, 1) := by decide +kernel
theorem d_Model_seek_25 : decode prog_9_method_22_code 25 = .ok (.sipush 1500, 3) := by decide +kernel
theorem d_Model_seek_28 : decode prog_9_method_22_code 28 = .ok (.invokevirtual 83, 3) := by decide +kernel
theorem d_Model_seek_31 : decode prog_9_method_22_code 31 = .ok (.istore_n 2, 1) := by decide +kernel
theorem d_Model_seek_32 : decode prog_9_method_22_code 32 = .ok (.aload_n 0, 1) := by decide +kernel
theorem d_Model_seek_33 : decode prog_9_method_22_code 33 = .ok (.iload_n 2, 1) := by decide +kernel
theorem d_Model_seek_34 : decode prog_9_method_22_code 34 = .ok (.sipush 1500, 3) := by decide +kernel
theorem d_Model_seek_37 : decode prog_9_method_22_code 37 = .ok (.invokevirtual 87, 3) := by decide +kernel
theorem d_Model_seek_40 : decode prog_9_method_22_code 40 = .ok (.istore_n 3, 1) := by decide +kernel
theorem d_Model_seek_41 : decode prog_9_method_22_code 41 = .ok (.iload_n 1, 1) := by decide +kernel
theorem d_Model_seek_42 : decode prog_9_method_22_code 42 = .ok (.tableswitch 86 0 4 #[34, 50, 56, 64, 80], 34) := by decide +kernel
theorem d_Model_seek_76 : decode prog_9_method_22_code 76 = .ok (.aload_n 0, 1) := by decide +kernel
theorem d_Model_seek_77 : decode prog_9_method_22_code 77 = .ok (.iload_n 3, 1) := by decide +kernel
theorem d_Model_seek_78 : decode prog_9_method_22_code 78 = .ok (.ifCond .eq 7, 3) := by decide +kernel
theorem d_Model_seek_81 : decode prog_9_method_22_code 81 = .ok (.iload_n 2, 1) := by decide +kernel
theorem d_Model_seek_82 : decode prog_9_method_22_code 82 = .ok (.goto 6, 3) := by decide +kernel
theorem d_Model_seek_85 : decode prog_9_method_22_code 85 = .ok (.iload_n 2, 1) := by decide +kernel
theorem d_Model_seek_86 : decode prog_9_method_22_code 86 = .ok (.iconst 1, 1) := by decide +kernel
theorem d_Model_seek_87 : decode prog_9_method_22_code 87 = .ok (.isub, 1) := by decide +kernel
theorem d_Model_seek_88 : decode prog_9_method_22_code 88 = .ok (.invokevirtual 98, 3) := by decide +kernel
theorem d_Model_seek_91 : decode prog_9_method_22_code 91 = .ok (.ireturn, 1) := by decide +kernel
theorem d_Model_seek_92 : decode prog_9_method_22_code 92 = .ok (.aload_n 0, 1) := by decide +kernel
theorem d_Model_seek_93 : decode prog_9_method_22_code 93 = .ok (.iload_n 2, 1) := by decide +kernel
theorem d_Model_seek_94 : decode prog_9_method_22_code 94 = .ok (.invokevirtual 98, 3) := by decide +kernel
theorem d_Model_seek_97 : decode prog_9_method_22_code 97 = .ok (.ireturn, 1) := by decide +kernel
theorem d_Model_seek_98 : decode prog_9_method_22_code 98 = .ok (.aload_n 0, 1) := by decide +kernel
theorem d_Model_seek_99 : decode prog_9_method_22_code 99 = .ok (.iload_n 2, 1) := by decide +kernel
theorem d_Model_seek_100 : decode prog_9_method_22_code 100 = .ok (.iconst 1, 1) := by decide +kernel
theorem d_Model_seek_101 : decode prog_9_method_22_code 101 = .ok (.isub, 1) := by decide +kernel
theorem d_Model_seek_102 : decode prog_9_method_22_code 102 = .ok (.invokevirtual 98, 3) := by decide +kernel
theorem d_Model_seek_105 : decode prog_9_method_22_code 105 = .ok (.ireturn, 1) := by decide +kernel
theorem d_Model_seek_106 : decode prog_9_method_22_code 106 = .ok (.aload_n 0, 1) := by decide +kernel
theorem d_Model_seek_107 : decode prog_9_method_22_code 107 = .ok (.iload_n 3, 1) := by decide +kernel
theorem d_Model_seek_108 : decode prog_9_method_22_code 108 = .ok (.ifCond .eq 9, 3) := by decide +kernel
theorem d_Model_seek_111 : decode prog_9_method_22_code 111 = .ok (.iload_n 2, 1) := by decide +kernel
theorem d_Model_seek_112 : decode prog_9_method_22_code 112 = .ok (.iconst 1, 1) := by decide +kernel
theorem d_Model_seek_113 : decode prog_9_method_22_code 113 = .ok (.iadd, 1) := by decide +kernel
theorem d_Model_seek_114 : decode prog_9_method_22_code 114 = .ok (.goto 4, 3) := by decide +kernel
theorem d_Model_seek_117 : decode prog_9_method_22_code 117 = .ok (.iload_n 2, 1) := by decide +kernel
theorem d_Model_seek_118 : decode prog_9_method_22_code 118 = .ok (.invokevirtual 98, 3) := by decide +kernel
theorem d_Model_seek_121 : decode prog_9_method_22_code 121 = .ok (.ireturn, 1) := by decide +kernel
theorem d_Model_seek_122 : decode prog_9_method_22_code 122 = .ok (.aload_n 0, 1) := by decide +kernel
theorem d_Model_seek_123 : decode prog_9_method_22_code 123 = .ok (.iconst 0, 1) := by decide +kernel
theorem d_Model_seek_124 : decode prog_9_method_22_code 124 = .ok (.invokevirtual 98, 3) := by decide +kernel
theorem d_Model_seek_127 : decode prog_9_method_22_code 127 = .ok (.ireturn, 1) := by decide +kernel
theorem d_Model_seek_128 : decode prog_9_method_22_code 128 = .ok (.aload_n 0, 1) := by decide +kernel
theorem d_Model_seek_129 : decode prog_9_method_22_code 129 = .ok (.aload_n 0, 1) := by decide +kernel
theorem d_Model_seek_130 : decode prog_9_method_22_code 130 = .ok (.getfield 59, 3) := by decide +kernel
theorem d_Model_seek_133 : decode prog_9_method_22_code 133 = .ok (.iconst 1, 1) := by decide +kernel
theorem d_Model_seek_134 : decode prog_9_method_22_code 134 = .ok (.isub, 1) := by decide +kernel
theorem d_Model_seek_135 : decode prog_9_method_22_code 135 = .ok (.invokevirtual 98, 3) := by decide +kernel
theorem d_Model_seek_138 : decode prog_9_method_22_code 138 = .ok (.ireturn, 1) := by decide +kernel
theorem d_Model_move_0 : decode prog_9_method_23_code 0 = .ok (.aload_n 0, 1) := by decide +kernel
theorem d_Model_move_1 : decode prog_9_method_23_code 1 = .ok (.aload_n 0, 1) := by decide +kernel
theorem d_Model_move_2 : decode prog_9_method_23_code 2 = .ok (.getfield 79, 3) := by decide +kernel
theorem d_Model_move_5 : decode prog_9_method_23_code 5 = .ok (.ifCond .ne 7, 3) := by decide +kernel
theorem d_Model_move_8 : decode prog_9_method_23_code 8 = .ok (.iconst 1, 1) := by decide +kernel
theorem d_Model_move_9 : decode prog_9_method_23_code 9 = .ok (.goto 4, 3) := by decide +kernel
theorem d_Model_move_12 : decode prog_9_method_23_code 12 = .ok (.iconst 0, 1) := by decide +kernel
theorem d_Model_move_13 : decode prog_9_method_23_code 13 = .ok (.iconst 1, 1) := by decide +kernel
theorem d_Model_move_14 : decode prog_9_method_23_code 14 = .ok (.invokevirtual 70, 3) := by decide +kernel
theorem d_Model_move_17 : decode prog_9_method_23_code 17 = .ok (.ifCond .eq 5, 3) := by decide +kernel
theorem d_Model_move_20 : decode prog_9_method_23_code 20 = .ok (.iconst 0, 1) := by decide +kernel
theorem d_Model_move_21 : decode prog_9_method_23_code 21 = .ok (.ireturn, 1) := by decide +kernel
theorem d_Model_move_22 : decode prog_9_method_23_code 22 = .ok (.aload_n 0, 1) := by decide +kernel
theorem d_Model_move_23 : decode prog_9_method_23_code 23 = .ok (.sipush 1502, 3) := by decide +kernel
theorem d_Model_move_26 : decode prog_9_method_23_code 26 = .ok (.invokevirtual 83, 3) := by decide +kernel
theorem d_Model_move_29 : decode prog_9_method_23_code 29 = .ok (.istore_n 2, 1) := by decide +kernel
theorem d_Model_move_30 : decode prog_9_method_23_code 30 = .ok (.aload_n 0, 1) := by decide +kernel
theorem d_Model_move_31 : decode prog_9_method_23_code 31 = .ok (.iload_n 1, 1) := by decide +kernel
theorem d_Model_move_32 : decode prog_9_method_23_code 32 = .ok (.ifCond .ne 9, 3) := by decide +kernel
theorem d_Model_move_35 : decode prog_9_method_23_code 35 = .ok (.iload_n 2, 1) := by decide +kernel
theorem d_Model_move_36 : decode prog_9_method_23_code 36 = .ok (.iconst 1, 1) := by decide +kernel
theorem d_Model_move_37 : decode prog_9_method_23_code 37 = .ok (.isub, 1) := by decide +kernel
theorem d_Model_move_38 : decode prog_9_method_23_code 38 = .ok (.goto 21, 3) := by decide +kernel
theorem d_Model_move_41 : decode prog_9_method_23_code 41 = .ok (.aload_n 0, 1) := by decide +kernel
theorem d_Model_move_42 : decode prog_9_method_23_code 42 = .ok (.iload_n 2, 1) := by decide +kernel
theorem d_Model_move_43 : decode prog_9_method_23_code 43 = .ok (.sipush 1502, 3) := by decide +kernel
theorem d_Model_move_46 : decode prog_9_method_23_code 46 = .ok (.invokevirtual 87, 3) := by decide +kernel
theorem d_Model_move_49 : decode prog_9_method_23_code 49 = .ok (.ifCond .eq 9, 3) := by decide +kernel
theorem d_Model_move_52 : decode prog_9_method_23_code 52 = .ok (.iload_n 2, 1) := by decide +kernel
theorem d_Model_move_53 : decode prog_9_method_23_code 53 = .ok (.iconst 1, 1) := by decide +kernel
theorem d_Model_move_54 : decode prog_9_method_23_code 54 = .ok (.iadd, 1) := by decide +kernel
theorem d_Model_move_55 : decode prog_9_method_23_code 55 = .ok (.goto 4, 3) := by decide +kernel
theorem d_Model_move_58 : decode prog_9_method_23_code 58 = .ok (.iload_n 2, 1) := by decide +kernel
theorem d_Model_move_59 : decode prog_9_method_23_code 59 = .ok (.invokevirtual 98, 3) := by decide +kernel
theorem d_Model_move_62 : decode prog_9_method_23_code 62 = .ok (.ireturn, 1) := by decide +kernel
theorem d_Model_there_0 : decode prog_9_method_24_code 0 = .ok (.aload_n 0, 1) := by decide +kernel
theorem d_Model_there_1 : decode prog_9_method_24_code 1 = .ok (.iconst 0, 1) := by decide +kernel
theorem d_Model_there_2 : decode prog_9_method_24_code 2 = .ok (.putfield 52, 3) := by decide +kernel
theorem d_Model_there_5 : decode prog_9_method_24_code 5 = .ok (.aload_n 0, 1) := by decide +kernel
theorem d_Model_there_6 : decode prog_9_method_24_code 6 = .ok (.getfield 79, 3) := by decide +kernel
theorem d_Model_there_9 : decode prog_9_method_24_code 9 = .ok (.ifCond .eq 24, 3) := by decide +kernel
theorem d_Model_there_12 : decode prog_9_method_24_code 12 = .ok (.aload_n 0, 1) := by decide +kernel
theorem d_Model_there_13 : decode prog_9_method_24_code 13 = .ok (.aload_n 0, 1) := by decide +kernel
theorem d_Model_there_14 : decode prog_9_method_24_code 14 = .ok (.sipush 1502, 3) := by decide +kernel
theorem d_Model_there_17 : decode prog_9_method_24_code 17 = .ok (.invokevirtual 83, 3) := by decide +kernel
theorem d_Model_there_20 : decode prog_9_method_24_code 20 = .ok (.sipush 1502, 3) := by decide +kernel
theorem d_Model_there_23 : decode prog_9_method_24_code 23 = .ok (.invokevirtual 87, 3) := by decide +kernel
theorem d_Model_there_26 : decode prog_9_method_24_code 26 = .ok (.ifCond .eq 7, 3) := by decide +kernel
theorem d_Model_there_29 : decode prog_9_method_24_code 29 = .ok (.iconst 1, 1) := by decide +kernel
theorem d_Model_there_30 : decode prog_9_method_24_code 30 = .ok (.goto 4, 3) := by decide +kernel
theorem d_Model_there_33 : decode prog_9_method_24_code 33 = .ok (.iconst 0, 1) := by decide +kernel
theorem d_Model_there_34 : decode prog_9_method_24_code 34 = .ok (.ireturn, 1) := by decide +kernel
theorem d_Model_length_0 : decode prog_9_method_25_code 0 = .ok (.aload_n 0, 1) := by decide +kernel
theorem d_Model_length_1 : decode prog_9_method_25_code 1 = .ok (.aload_n 0, 1) := by decide +kernel
theorem d_Model_length_2 : decode prog_9_method_25_code 2 = .ok (.getfield 79, 3) := by decide +kernel
theorem d_Model_length_5 : decode prog_9_method_25_code 5 = .ok (.ifCond .ne 7, 3) := by decide +kernel
theorem d_Model_length_8 : decode prog_9_method_25_code 8 = .ok (.iconst 1, 1) := by decide +kernel
theorem d_Model_length_9 : decode prog_9_method_25_code 9 = .ok (.goto 4, 3) := by decide +kernel
theorem d_Model_length_12 : decode prog_9_method_25_code 12 = .ok (.iconst 0, 1) := by decide +kernel
theorem d_Model_length_13 : decode prog_9_method_25_code 13 = .ok (.iconst 1, 1) := by decide +kernel
theorem d_Model_length_14 : decode prog_9_method_25_code 14 = .ok (.invokevirtual 70, 3) := by decide +kernel
theorem d_Model_length_17 : decode prog_9_method_25_code 17 = .ok (.ifCond .eq 5, 3) := by decide +kernel
theorem d_Model_length_20 : decode prog_9_method_25_code 20 = .ok (.iconst 0, 1) := by decide +kernel
theorem d_Model_length_21 : decode prog_9_method_25_code 21 = .ok (.ireturn, 1) := by decide +kernel
theorem d_Model_length_22 : decode prog_9_method_25_code 22 = .ok (.aload_n 0, 1) := by decide +kernel
theorem d_Model_length_23 : decode prog_9_method_25_code 23 = .ok (.getfield 45, 3) := by decide +kernel
theorem d_Model_length_26 : decode prog_9_method_25_code 26 = .ok (.iconst 2, 1) := by decide +kernel
theorem d_Model_length_27 : decode prog_9_method_25_code 27 = .ok (.if_icmp .ge 12, 3) := by decide +kernel
theorem d_Model_length_30 : decode prog_9_method_25_code 30 = .ok (.aload_n 0, 1) := by decide +kernel
theorem d_Model_length_31 : decode prog_9_method_25_code 31 = .ok (.getfield 45, 3) := by decide +kernel
theorem d_Model_length_34 : decode prog_9_method_25_code 34 = .ok (.iconst 1, 1) := by decide +kernel
theorem d_Model_length_35 : decode prog_9_method_25_code 35 = .ok (.iadd, 1) := by decide +kernel
theorem d_Model_length_36 : decode prog_9_method_25_code 36 = .ok (.goto 11, 3) := by decide +kernel
theorem d_Model_length_39 : decode prog_9_method_25_code 39 = .ok (.aload_n 0, 1) := by decide +kernel
theorem d_Model_length_40 : decode prog_9_method_25_code 40 = .ok (.getfield 21, 3) := by decide +kernel
theorem d_Model_length_43 : decode prog_9_method_25_code 43 = .ok (.sipush 1502, 3) := by decide +kernel
theorem d_Model_length_46 : decode prog_9_method_25_code 46 = .ok (.iaload, 1) := by decide +kernel
theorem d_Model_length_47 : decode prog_9_method_25_code 47 = .ok (.ireturn, 1) := by decide +kernel
theorem d_Model_part_0 : decode prog_9_method_26_code 0 = .ok (.aload_n 0, 1) := by decide +kernel
theorem d_Model_part_1 : decode prog_9_method_26_code 1 = .ok (.aload_n 0, 1) := by decide +kernel
theorem d_Model_part_2 : decode prog_9_method_26_code 2 = .ok (.getfield 79, 3) := by decide +kernel
theorem d_Model_part_5 : decode prog_9_method_26_code 5 = .ok (.ifCond .ne 7, 3) := by decide +kernel
theorem d_Model_part_8 : decode prog_9_method_26_code 8 = .ok (.iconst 1, 1) := by decide +kernel
theorem d_Model_part_9 : decode prog_9_method_26_code 9 = .ok (.goto 4, 3) := by decide +kernel
theorem d_Model_part_12 : decode prog_9_method_26_code 12 = .ok (.iconst 0, 1) := by decide +kernel
theorem d_Model_part_13 : decode prog_9_method_26_code 13 = .ok (.iconst 1, 1) := by decide +kernel
theorem d_Model_part_14 : decode prog_9_method_26_code 14 = .ok (.invokevirtual 70, 3) := by decide +kernel
theorem d_Model_part_17 : decode prog_9_method_26_code 17 = .ok (.ifCond .eq 5, 3) := by decide +kernel
theorem d_Model_part_20 : decode prog_9_method_26_code 20 = .ok (.lconst 0, 1) := by decide +kernel
theorem d_Model_part_21 : decode prog_9_method_26_code 21 = .ok (.lreturn, 1) := by decide +kernel
theorem d_Model_part_22 : decode prog_9_method_26_code 22 = .ok (.aload_n 0, 1) := by decide +kernel
theorem d_Model_part_23 : decode prog_9_method_26_code 23 = .ok (.getfield 45, 3) := by decide +kernel
theorem d_Model_part_26 : decode prog_9_method_26_code 26 = .ok (.iconst 2, 1) := by decide +kernel
theorem d_Model_part_27 : decode prog_9_method_26_code 27 = .ok (.if_icmp .ge 12, 3) := by decide +kernel
theorem d_Model_part_30 : decode prog_9_method_26_code 30 = .ok (.aload_n 0, 1) := by decide +kernel
theorem d_Model_part_31 : decode prog_9_method_26_code 31 = .ok (.getfield 45, 3) := by decide +kernel
theorem d_Model_part_34 : decode prog_9_method_26_code 34 = .ok (.iconst 1, 1) := by decide +kernel
theorem d_Model_part_35 : decode prog_9_method_26_code 35 = .ok (.iadd, 1) := by decide +kernel
theorem d_Model_part_36 : decode prog_9_method_26_code 36 = .ok (.goto 11, 3) := by decide +kernel
theorem d_Model_part_39 : decode prog_9_method_26_code 39 = .ok (.aload_n 0, 1) := by decide +kernel
theorem d_Model_part_40 : decode prog_9_method_26_code 40 = .ok (.getfield 21, 3) := by decide +kernel
theorem d_Model_part_43 : decode prog_9_method_26_code 43 = .ok (.sipush 1502, 3) := by decide +kernel
theorem d_Model_part_46 : decode prog_9_method_26_code 46 = .ok (.iaload, 1) := by decide +kernel
theorem d_Model_part_47 : decode prog_9_method_26_code 47 = .ok (.istore_n 2, 1) := by decide +kernel
theorem d_Model_part_48 : decode prog_9_method_26_code 48 = .ok (.aload_n 0, 1) := by decide +kernel
theorem d_Model_part_49 : decode prog_9_method_26_code 49 = .ok (.iload_n 1, 1) := by decide +kernel
theorem d_Model_part_50 : decode prog_9_method_26_code 50 = .ok (.ifCond .lt 8, 3) := by decide +kernel
theorem d_Model_part_53 : decode prog_9_method_26_code 53 = .ok (.iload_n 1, 1) := by decide +kernel
theorem d_Model_part_54 : decode prog_9_method_26_code 54 = .ok (.iload_n 2, 1) := by decide +kernel
theorem d_Model_part_55 : decode prog_9_method_26_code 55 = .ok (.if_icmp .lt 7, 3) := by decide +kernel
theorem d_Model_part_58 : decode prog_9_method_26_code 58 = .ok (.iconst 1, 1) := by decide +kernel
theorem d_Model_part_59 : decode prog_9_method_26_code 59 = .ok (.goto 4, 3) := by decide +kernel
theorem d_Model_part_62 : decode prog_9_method_26_code 62 = .ok (.iconst 0, 1) := by decide +kernel
theorem d_Model_part_63 : decode prog_9_method_26_code 63 = .ok (.iconst 2, 1) := by decide +kernel
theorem d_Model_part_64 : decode prog_9_method_26_code 64 = .ok (.invokevirtual 70, 3) := by decide +kernel
theorem d_Model_part_67 : decode prog_9_method_26_code 67 = .ok (.ifCond .eq 5, 3) := by decide +kernel
theorem d_Model_part_70 : decode prog_9_method_26_code 70 = .ok (.lconst 0, 1) := by decide +kernel
theorem d_Model_part_71 : decode prog_9_method_26_code 71 = .ok (.lreturn, 1) := by decide +kernel
theorem d_Model_part_72 : decode prog_9_method_26_code 72 = .ok (.aload_n 0, 1) := by decide +kernel
theorem d_Model_part_73 : decode prog_9_method_26_code 73 = .ok (.getfield 45, 3) := by decide +kernel
theorem d_Model_part_76 : decode prog_9_method_26_code 76 = .ok (.iconst 2, 1) := by decide +kernel
theorem d_Model_part_77 : decode prog_9_method_26_code 77 = .ok (.if_icmp .ne 16, 3) := by decide +kernel
theorem d_Model_part_80 : decode prog_9_method_26_code 80 = .ok (.aload_n 0, 1) := by decide +kernel
theorem d_Model_part_81 : decode prog_9_method_26_code 81 = .ok (.getfield 17, 3) := by decide +kernel
theorem d_Model_part_84 : decode prog_9_method_26_code 84 = .ok (.ldc 102, 2) := by decide +kernel
theorem d_Model_part_86 : decode prog_9_method_26_code 86 = .ok (.iload_n 1, 1) := by decide +kernel
theorem d_Model_part_87 : decode prog_9_method_26_code 87 = .ok (.iadd, 1) := by decide +kernel
theorem d_Model_part_88 : decode prog_9_method_26_code 88 = .ok (.iaload, 1) := by decide +kernel
theorem d_Model_part_89 : decode prog_9_method_26_code 89 = .ok (.i2l, 1) := by decide +kernel
theorem d_Model_part_90 : decode prog_9_method_26_code 90 = .ok (.goto 26, 3) := by decide +kernel
theorem d_Model_part_93 : decode prog_9_method_26_code 93 = .ok (.iload_n 1, 1) := by decide +kernel
theorem d_Model_part_94 : decode prog_9_method_26_code 94 = .ok (.ifCond .ne 14, 3) := by decide +kernel
theorem d_Model_part_97 : decode prog_9_method_26_code 97 = .ok (.aload_n 0, 1) := by decide +kernel
theorem d_Model_part_98 : decode prog_9_method_26_code 98 = .ok (.getfield 7, 3) := by decide +kernel
theorem d_Model_part_101 : decode prog_9_method_26_code 101 = .ok (.sipush 1502, 3) := by decide +kernel
theorem d_Model_part_104 : decode prog_9_method_26_code 104 = .ok (.laload, 1) := by decide +kernel
theorem d_Model_part_105 : decode prog_9_method_26_code 105 = .ok (.goto 11, 3) := by decide +kernel
theorem d_Model_part_108 : decode prog_9_method_26_code 108 = .ok (.aload_n 0, 1) := by decide +kernel
theorem d_Model_part_109 : decode prog_9_method_26_code 109 = .ok (.getfield 13, 3) := by decide +kernel
theorem d_Model_part_112 : decode prog_9_method_26_code 112 = .ok (.sipush 1502, 3) := by decide +kernel
theorem d_Model_part_115 : decode prog_9_method_26_code 115 = .ok (.laload, 1) := by decide +kernel
theorem d_Model_part_116 : decode prog_9_method_26_code 116 = .ok (.lreturn, 1) := by decide +kernel
theorem d_Model_value_0 : decode prog_9_method_27_code 0 = .ok (.aload_n 0, 1) := by decide +kernel
theorem d_Model_value_1 : decode prog_9_method_27_code 1 = .ok (.getfield 79, 3) := by decide +kernel
theorem d_Model_value_4 : decode prog_9_method_27_code 4 = .ok (.ifCond .eq 13, 3) := by decide +kernel
theorem d_Model_value_7 : decode prog_9_method_27_code 7 = .ok (.aload_n 0, 1) := by decide +kernel
theorem d_Model_value_8 : decode prog_9_method_27_code 8 = .ok (.sipush 1502, 3) := by decide +kernel
theorem d_Model_value_11 : decode prog_9_method_27_code 11 = .ok (.invokevirtual 83, 3) := by decide +kernel
theorem d_Model_value_14 : decode prog_9_method_27_code 14 = .ok (.goto 7, 3) := by decide +kernel
theorem d_Model_value_17 : decode prog_9_method_27_code 17 = .ok (.aload_n 0, 1) := by decide +kernel
theorem d_Model_value_18 : decode prog_9_method_27_code 18 = .ok (.getfield 59, 3) := by decide +kernel
theorem d_Model_value_21 : decode prog_9_method_27_code 21 = .ok (.istore_n 1, 1) := by decide +kernel
theorem d_Model_value_22 : decode prog_9_method_27_code 22 = .ok (.aload_n 0, 1) := by decide +kernel
theorem d_Model_value_23 : decode prog_9_method_27_code 23 = .ok (.aload_n 0, 1) := by decide +kernel
theorem d_Model_value_24 : decode prog_9_method_27_code 24 = .ok (.getfield 79, 3) := by decide +kernel
theorem d_Model_value_27 : decode prog_9_method_27_code 27 = .ok (.ifCond .eq 14, 3) := by decide +kernel
theorem d_Model_value_30 : decode prog_9_method_27_code 30 = .ok (.aload_n 0, 1) := by decide +kernel
theorem d_Model_value_31 : decode prog_9_method_27_code 31 = .ok (.iload_n 1, 1) := by decide +kernel
theorem d_Model_value_32 : decode prog_9_method_27_code 32 = .ok (.sipush 1502, 3) := by decide +kernel
theorem d_Model_value_35 : decode prog_9_method_27_code 35 = .ok (.invokevirtual 87, 3) := by decide +kernel
theorem d_Model_value_38 : decode prog_9_method_27_code 38 = .ok (.ifCond .ne 7, 3) := by decide +kernel
theorem d_Model_value_41 : decode prog_9_method_27_code 41 = .ok (.iconst 1, 1) := by decide +kernel
theorem d_Model_value_42 : decode prog_9_method_27_code 42 = .ok (.goto 4, 3) := by decide +kernel
theorem d_Model_value_45 : decode prog_9_method_27_code 45 = .ok (.iconst 0, 1) := by decide +kernel
theorem d_Model_value_46 : decode prog_9_method_27_code 46 = .ok (.iconst 1, 1) := by decide +kernel
theorem d_Model_value_47 : decode prog_9_method_27_code 47 = .ok (.invokevirtual 70, 3) := by decide +kernel
theorem d_Model_value_50 : decode prog_9_method_27_code 50 = .ok (.ifCond .eq 5, 3) := by decide +kernel
theorem d_Model_value_53 : decode prog_9_method_27_code 53 = .ok (.lconst 0, 1) := by decide +kernel
theorem d_Model_value_54 : decode prog_9_method_27_code 54 = .ok (.lreturn, 1) := by decide +kernel
theorem d_Model_value_55 : decode prog_9_method_27_code 55 = .ok (.aload_n 0, 1) := by decide +kernel
theorem d_Model_value_56 : decode prog_9_method_27_code 56 = .ok (.getfield 24, 3) := by decide +kernel
theorem d_Model_value_59 : decode prog_9_method_27_code 59 = .ok (.aload_n 0, 1) := by decide +kernel
theorem d_Model_value_60 : decode prog_9_method_27_code 60 = .ok (.getfield 27, 3) := by decide +kernel
theorem d_Model_value_63 : decode prog_9_method_27_code 63 = .ok (.iload_n 1, 1) := by decide +kernel
theorem d_Model_value_64 : decode prog_9_method_27_code 64 = .ok (.iaload, 1) := by decide +kernel
theorem d_Model_value_65 : decode prog_9_method_27_code 65 = .ok (.laload, 1) := by decide +kernel
theorem d_Model_value_66 : decode prog_9_method_27_code 66 = .ok (.lreturn, 1) := by decide +kernel
theorem d_Model_rank_0 : decode prog_9_method_28_code 0 = .ok (.aload_n 0, 1) := by decide +kernel
theorem d_Model_rank_1 : decode prog_9_method_28_code 1 = .ok (.iconst 0, 1) := by decide +kernel
theorem d_Model_rank_2 : decode prog_9_method_28_code 2 = .ok (.putfield 52, 3) := by decide +kernel
theorem d_Model_rank_5 : decode prog_9_method_28_code 5 = .ok (.aload_n 0, 1) := by decide +kernel
theorem d_Model_rank_6 : decode prog_9_method_28_code 6 = .ok (.sipush 1500, 3) := by decide +kernel
theorem d_Model_rank_9 : decode prog_9_method_28_code 9 = .ok (.invokevirtual 83, 3) := by decide +kernel
theorem d_Model_rank_12 : decode prog_9_method_28_code 12 = .ok (.ireturn, 1) := by decide +kernel
theorem d_Model_select_0 : decode prog_9_method_29_code 0 = .ok (.aload_n 0, 1) := by decide +kernel
theorem d_Model_select_1 : decode prog_9_method_29_code 1 = .ok (.iload_n 1, 1) := by decide +kernel
theorem d_Model_select_2 : decode prog_9_method_29_code 2 = .ok (.ifCond .lt 11, 3) := by decide +kernel
theorem d_Model_select_5 : decode prog_9_method_29_code 5 = .ok (.iload_n 1, 1) := by decide +kernel
theorem d_Model_select_6 : decode prog_9_method_29_code 6 = .ok (.aload_n 0, 1) := by decide +kernel
theorem d_Model_select_7 : decode prog_9_method_29_code 7 = .ok (.getfield 59, 3) := by decide +kernel
theorem d_Model_select_10 : decode prog_9_method_29_code 10 = .ok (.if_icmp .lt 7, 3) := by decide +kernel
theorem d_Model_select_13 : decode prog_9_method_29_code 13 = .ok (.iconst 1, 1) := by decide +kernel
theorem d_Model_select_14 : decode prog_9_method_29_code 14 = .ok (.goto 4, 3) := by decide +kernel
theorem d_Model_select_17 : decode prog_9_method_29_code 17 = .ok (.iconst 0, 1) := by decide +kernel
theorem d_Model_select_18 : decode prog_9_method_29_code 18 = .ok (.iconst 1, 1) := by decide +kernel
theorem d_Model_select_19 : decode prog_9_method_29_code 19 = .ok (.invokevirtual 70, 3) := by decide +kernel
theorem d_Model_select_22 : decode prog_9_method_29_code 22 = .ok (.ifCond .eq 4, 3) := by decide +kernel
theorem d_Model_select_25 : decode prog_9_method_29_code 25 = .ok (.return_, 1) := by decide +kernel
theorem d_Model_select_26 : decode prog_9_method_29_code 26 = .ok (.aload_n 0, 1) := by decide +kernel
theorem d_Model_select_27 : decode prog_9_method_29_code 27 = .ok (.iload_n 1, 1) := by decide +kernel
theorem d_Model_select_28 : decode prog_9_method_29_code 28 = .ok (.invokevirtual 98, 3) := by decide +kernel
theorem d_Model_select_31 : decode prog_9_method_29_code 31 = .ok (.pop, 1) := by decide +kernel
theorem d_Model_select_32 : decode prog_9_method_29_code 32 = .ok (.return_, 1) := by decide +kernel
theorem d_Model_range_0 : decode prog_9_method_30_code 0 = .ok (.aload_n 0, 1) := by decide +kernel
theorem d_Model_range_1 : decode prog_9_method_30_code 1 = .ok (.iconst 0, 1) := by decide +kernel
theorem d_Model_range_2 : decode prog_9_method_30_code 2 = .ok (.putfield 52, 3) := by decide +kernel
theorem d_Model_range_5 : decode prog_9_method_30_code 5 = .ok (.aload_n 0, 1) := by decide +kernel
theorem d_Model_range_6 : decode prog_9_method_30_code 6 = .ok (.sipush 1501, 3) := by decide +kernel
theorem d_Model_range_9 : decode prog_9_method_30_code 9 = .ok (.invokevirtual 83, 3) := by decide +kernel
theorem d_Model_range_12 : decode prog_9_method_30_code 12 = .ok (.istore_n 1, 1) := by decide +kernel
theorem d_Model_range_13 : decode prog_9_method_30_code 13 = .ok (.aload_n 0, 1) := by decide +kernel
theorem d_Model_range_14 : decode prog_9_method_30_code 14 = .ok (.sipush 1500, 3) := by decide +kernel
theorem d_Model_range_17 : decode prog_9_method_30_code 17 = .ok (.invokevirtual 83, 3) := by decide +kernel
theorem d_Model_range_20 : decode prog_9_method_30_code 20 = .ok (.istore_n 2, 1) := by decide +kernel
theorem d_Model_range_21 : decode prog_9_method_30_code 21 = .ok (.iload_n 2, 1) := by decide +kernel
theorem d_Model_range_22 : decode prog_9_method_30_code 22 = .ok (.aload_n 0, 1) := by decide +kernel
theorem d_Model_range_23 : decode prog_9_method_30_code 23 = .ok (.iload_n 2, 1) := by decide +kernel
theorem d_Model_range_24 : decode prog_9_method_30_code 24 = .ok (.sipush 1500, 3) := by decide +kernel
theorem d_Model_range_27 : decode prog_9_method_30_code 27 = .ok (.invokevirtual 87, 3) := by decide +kernel
theorem d_Model_range_30 : decode prog_9_method_30_code 30 = .ok (.ifCond .eq 7, 3) := by decide +kernel
theorem d_Model_range_33 : decode prog_9_method_30_code 33 = .ok (.iconst 1, 1) := by decide +kernel
theorem d_Model_range_34 : decode prog_9_method_30_code 34 = .ok (.goto 4, 3) := by decide +kernel
theorem d_Model_range_37 : decode prog_9_method_30_code 37 = .ok (.iconst 0, 1) := by decide +kernel
theorem d_Model_range_38 : decode prog_9_method_30_code 38 = .ok (.iadd, 1) := by decide +kernel
theorem d_Model_range_39 : decode prog_9_method_30_code 39 = .ok (.istore_n 2, 1) := by decide +kernel
theorem d_Model_range_40 : decode prog_9_method_30_code 40 = .ok (.iload_n 2, 1) := by decide +kernel
theorem d_Model_range_41 : decode prog_9_method_30_code 41 = .ok (.iload_n 1, 1) := by decide +kernel
theorem d_Model_range_42 : decode prog_9_method_30_code 42 = .ok (.if_icmp .le 9, 3) := by decide +kernel
theorem d_Model_range_45 : decode prog_9_method_30_code 45 = .ok (.iload_n 2, 1) := by decide +kernel
theorem d_Model_range_46 : decode prog_9_method_30_code 46 = .ok (.iload_n 1, 1) := by decide +kernel
theorem d_Model_range_47 : decode prog_9_method_30_code 47 = .ok (.isub, 1) := by decide +kernel
theorem d_Model_range_48 : decode prog_9_method_30_code 48 = .ok (.goto 4, 3) := by decide +kernel
theorem d_Model_range_51 : decode prog_9_method_30_code 51 = .ok (.iconst 0, 1) := by decide +kernel
theorem d_Model_range_52 : decode prog_9_method_30_code 52 = .ok (.ireturn, 1) := by decide +kernel
theorem d_Model_cut_0 : decode prog_9_method_31_code 0 = .ok (.aload_n 0, 1) := by decide +kernel
theorem d_Model_cut_1 : decode prog_9_method_31_code 1 = .ok (.invokevirtual 103, 3) := by decide +kernel
theorem d_Model_cut_4 : decode prog_9_method_31_code 4 = .ok (.istore_n 1, 1) := by decide +kernel
theorem d_Model_cut_5 : decode prog_9_method_31_code 5 = .ok (.aload_n 0, 1) := by decide +kernel
theorem d_Model_cut_6 : decode prog_9_method_31_code 6 = .ok (.sipush 1501, 3) := by decide +kernel
theorem d_Model_cut_9 : decode prog_9_method_31_code 9 = .ok (.invokevirtual 83, 3) := by decide +kernel
theorem d_Model_cut_12 : decode prog_9_method_31_code 12 = .ok (.istore_n 2, 1) := by decide +kernel
theorem d_Model_cut_13 : decode prog_9_method_31_code 13 = .ok (.iconst 0, 1) := by decide +kernel
theorem d_Model_cut_14 : decode prog_9_method_31_code 14 = .ok (.istore_n 3, 1) := by decide +kernel
theorem d_Model_cut_15 : decode prog_9_method_31_code 15 = .ok (.iload_n 3, 1) := by decide +kernel
theorem d_Model_cut_16 : decode prog_9_method_31_code 16 = .ok (.iload_n 1, 1) := by decide +kernel
theorem d_Model_cut_17 : decode prog_9_method_31_code 17 = .ok (.if_icmp .ge 20, 3) := by decide +kernel
theorem d_Model_cut_20 : decode prog_9_method_31_code 20 = .ok (.aload_n 0, 1) := by decide +kernel
theorem d_Model_cut_21 : decode prog_9_method_31_code 21 = .ok (.iload_n 2, 1) := by decide +kernel
theorem d_Model_cut_22 : decode prog_9_method_31_code 22 = .ok (.iload_n 1, 1) := by decide +kernel
theorem d_Model_cut_23 : decode prog_9_method_31_code 23 = .ok (.iadd, 1) := by decide +kernel
theorem d_Model_cut_24 : decode prog_9_method_31_code 24 = .ok (.iconst 1, 1) := by decide +kernel
theorem d_Model_cut_25 : decode prog_9_method_31_code 25 = .ok (.isub, 1) := by decide +kernel
theorem d_Model_cut_26 : decode prog_9_method_31_code 26 = .ok (.iload_n 3, 1) := by decide +kernel
theorem d_Model_cut_27 : decode prog_9_method_31_code 27 = .ok (.isub, 1) := by decide +kernel
theorem d_Model_cut_28 : decode prog_9_method_31_code 28 = .ok (.invokevirtual 95, 3) := by decide +kernel
theorem d_Model_cut_31 : decode prog_9_method_31_code 31 = .ok (.iinc 3 1, 3) := by decide +kernel
theorem d_Model_cut_34 : decode prog_9_method_31_code 34 = .ok (.goto (-19), 3) := by decide +kernel
theorem d_Model_cut_37 : decode prog_9_method_31_code 37 = .ok (.iload_n 1, 1) := by decide +kernel
theorem d_Model_cut_38 : decode prog_9_method_31_code 38 = .ok (.ireturn, 1) := by decide +kernel
theorem d_Model_isLonger_0 : decode prog_9_method_32_code 0 = .ok (.aload_n 0, 1) := by decide +kernel
theorem d_Model_isLonger_1 : decode prog_9_method_32_code 1 = .ok (.getfield 21, 3) := by decide +kernel
theorem d_Model_isLonger_4 : decode prog_9_method_32_code 4 = .ok (.iload_n 1, 1) := by decide +kernel
theorem d_Model_isLonger_5 : decode prog_9_method_32_code 5 = .ok (.iaload, 1) := by decide +kernel
theorem d_Model_isLonger_6 : decode prog_9_method_32_code 6 = .ok (.aload_n 0, 1) := by decide +kernel
theorem d_Model_isLonger_7 : decode prog_9_method_32_code 7 = .ok (.getfield 21, 3) := by decide +kernel
theorem d_Model_isLonger_10 : decode prog_9_method_32_code 10 = .ok (.sipush 1500, 3) := by decide +kernel
theorem d_Model_isLonger_13 : decode prog_9_method_32_code 13 = .ok (.iaload, 1) := by decide +kernel
theorem d_Model_isLonger_14 : decode prog_9_method_32_code 14 = .ok (.if_icmp .ge 5, 3) := by decide +kernel
theorem d_Model_isLonger_17 : decode prog_9_method_32_code 17 = .ok (.iconst 0, 1) := by decide +kernel
theorem d_Model_isLonger_18 : decode prog_9_method_32_code 18 = .ok (.ireturn, 1) := by decide +kernel
theorem d_Model_isLonger_19 : decode prog_9_method_32_code 19 = .ok (.iconst 0, 1) := by decide +kernel
theorem d_Model_isLonger_20 : decode prog_9_method_32_code 20 = .ok (.istore_n 2, 1) := by decide +kernel
theorem d_Model_isLonger_21 : decode prog_9_method_32_code 21 = .ok (.iload_n 2, 1) := by decide +kernel
theorem d_Model_isLonger_22 : decode prog_9_method_32_code 22 = .ok (.aload_n 0, 1) := by decide +kernel
theorem d_Model_isLonger_23 : decode prog_9_method_32_code 23 = .ok (.getfield 21, 3) := by decide +kernel
theorem d_Model_isLonger_26 : decode prog_9_method_32_code 26 = .ok (.sipush 1500, 3) := by decide +kernel
theorem d_Model_isLonger_29 : decode prog_9_method_32_code 29 = .ok (.iaload, 1) := by decide +kernel
theorem d_Model_isLonger_30 : decode prog_9_method_32_code 30 = .ok (.if_icmp .ge 34, 3) := by decide +kernel
theorem d_Model_isLonger_33 : decode prog_9_method_32_code 33 = .ok (.aload_n 0, 1) := by decide +kernel
theorem d_Model_isLonger_34 : decode prog_9_method_32_code 34 = .ok (.getfield 17, 3) := by decide +kernel
theorem d_Model_isLonger_37 : decode prog_9_method_32_code 37 = .ok (.bipush 24, 2) := by decide +kernel
theorem d_Model_isLonger_39 : decode prog_9_method_32_code 39 = .ok (.iload_n 1, 1) := by decide +kernel
theorem d_Model_isLonger_40 : decode prog_9_method_32_code 40 = .ok (.imul, 1) := by decide +kernel
theorem d_Model_isLonger_41 : decode prog_9_method_32_code 41 = .ok (.iload_n 2, 1) := by decide +kernel
theorem d_Model_isLonger_42 : decode prog_9_method_32_code 42 = .ok (.iadd, 1) := by decide +kernel
theorem d_Model_isLonger_43 : decode prog_9_method_32_code 43 = .ok (.iaload, 1) := by decide +kernel
theorem d_Model_isLonger_44 : decode prog_9_method_32_code 44 = .ok (.aload_n 0, 1) := by decide +kernel
theorem d_Model_isLonger_45 : decode prog_9_method_32_code 45 = .ok (.getfield 17, 3) := by decide +kernel
theorem d_Model_isLonger_48 : decode prog_9_method_32_code 48 = .ok (.ldc 74, 2) := by decide +kernel
theorem d_Model_isLonger_50 : decode prog_9_method_32_code 50 = .ok (.iload_n 2, 1) := by decide +kernel
theorem d_Model_isLonger_51 : decode prog_9_method_32_code 51 = .ok (.iadd, 1) := by decide +kernel
theorem d_Model_isLonger_52 : decode prog_9_method_32_code 52 = .ok (.iaload, 1) := by decide +kernel
theorem d_Model_isLonger_53 : decode prog_9_method_32_code 53 = .ok (.if_icmp .eq 5, 3) := by decide +kernel
theorem d_Model_isLonger_56 : decode prog_9_method_32_code 56 = .ok (.iconst 0, 1) := by decide +kernel
theorem d_Model_isLonger_57 : decode prog_9_method_32_code 57 = .ok (.ireturn, 1) := by decide +kernel
theorem d_Model_isLonger_58 : decode prog_9_method_32_code 58 = .ok (.iinc 2 1, 3) := by decide +kernel
theorem d_Model_isLonger_61 : decode prog_9_method_32_code 61 = .ok (.goto (-40), 3) := by decide +kernel
theorem d_Model_isLonger_64 : decode prog_9_method_32_code 64 = .ok (.iconst 1, 1) := by decide +kernel
theorem d_Model_isLonger_65 : decode prog_9_method_32_code 65 = .ok (.ireturn, 1) := by decide +kernel
theorem d_Model_begins_0 : decode prog_9_method_33_code 0 = .ok (.aload_n 0, 1) := by decide +kernel
theorem d_Model_begins_1 : decode prog_9_method_33_code 1 = .ok (.aload_n 0, 1) := by decide +kernel
theorem d_Model_begins_2 : decode prog_9_method_33_code 2 = .ok (.getfield 45, 3) := by decide +kernel
theorem d_Model_begins_5 : decode prog_9_method_33_code 5 = .ok (.iconst 2, 1) := by decide +kernel
theorem d_Model_begins_6 : decode prog_9_method_33_code 6 = .ok (.if_icmp .eq 7, 3) := by decide +kernel
theorem d_Model_begins_9 : decode prog_9_method_33_code 9 = .ok (.iconst 1, 1) := by decide +kernel
theorem d_Model_begins_10 : decode prog_9_method_33_code 10 = .ok (.goto 4, 3) := by decide +kernel
theorem d_Model_begins_13 : decode prog_9_method_33_code 13 = .ok (.iconst 0, 1) := by decide +kernel
theorem d_Model_begins_14 : decode prog_9_method_33_code 14 = .ok (.iconst 1, 1) := by decide +kernel
theorem d_Model_begins_15 : decode prog_9_method_33_code 15 = .ok (.invokevirtual 70, 3) := by decide +kernel
theorem d_Model_begins_18 : decode prog_9_method_33_code 18 = .ok (.ifCond .eq 5, 3) := by decide +kernel
theorem d_Model_begins_21 : decode prog_9_method_33_code 21 = .ok (.iconst 0, 1) := by decide +kernel
theorem d_Model_begins_22 : decode prog_9_method_33_code 22 = .ok (.ireturn, 1) := by decide +kernel
theorem d_Model_begins_23 : decode prog_9_method_33_code 23 = .ok (.iconst 0, 1) := by decide +kernel
theorem d_Model_begins_24 : decode prog_9_method_33_code 24 = .ok (.istore_n 1, 1) := by decide +kernel
theorem d_Model_begins_25 : decode prog_9_method_33_code 25 = .ok (.iconst 0, 1) := by decide +kernel
theorem d_Model_begins_26 : decode prog_9_method_33_code 26 = .ok (.istore_n 2, 1) := by decide +kernel
theorem d_Model_begins_27 : decode prog_9_method_33_code 27 = .ok (.iload_n 2, 1) := by decide +kernel
theorem d_Model_begins_28 : decode prog_9_method_33_code 28 = .ok (.aload_n 0, 1) := by decide +kernel
theorem d_Model_begins_29 : decode prog_9_method_33_code 29 = .ok (.getfield 59, 3) := by decide +kernel
theorem d_Model_begins_32 : decode prog_9_method_33_code 32 = .ok (.if_icmp .ge 30, 3) := by decide +kernel
theorem d_Model_begins_35 : decode prog_9_method_33_code 35 = .ok (.iload_n 1, 1) := by decide +kernel
theorem d_Model_begins_36 : decode prog_9_method_33_code 36 = .ok (.aload_n 0, 1) := by decide +kernel
theorem d_Model_begins_37 : decode prog_9_method_33_code 37 = .ok (.aload_n 0, 1) := by decide +kernel
theorem d_Model_begins_38 : decode prog_9_method_33_code 38 = .ok (.getfield 27, 3) := by decide +kernel
theorem d_Model_begins_41 : decode prog_9_method_33_code 41 = .ok (.iload_n 2, 1) := by decide +kernel
theorem d_Model_begins_42 : decode prog_9_method_33_code 42 = .ok (.iaload, 1) := by decide +kernel
theorem d_Model_begins_43 : decode prog_9_method_33_code 43 = .ok (.invokevirtual 107, 3) := by decide +kernel
theorem d_Model_begins_46 : decode prog_9_method_33_code 46 = .ok (.ifCond .eq 7, 3) := by decide +kernel
theorem d_Model_begins_49 : decode prog_9_method_33_code 49 = .ok (.iconst 1, 1) := by decide +kernel
theorem d_Model_begins_50 : decode prog_9_method_33_code 50 = .ok (.goto 4, 3) := by decide +kernel
theorem d_Model_begins_53 : decode prog_9_method_33_code 53 = .ok (.iconst 0, 1) := by decide +kernel
theorem d_Model_begins_54 : decode prog_9_method_33_code 54 = .ok (.iadd, 1) := by decide +kernel
theorem d_Model_begins_55 : decode prog_9_method_33_code 55 = .ok (.istore_n 1, 1) := by decide +kernel
theorem d_Model_begins_56 : decode prog_9_method_33_code 56 = .ok (.iinc 2 1, 3) := by decide +kernel
theorem d_Model_begins_59 : decode prog_9_method_33_code 59 = .ok (.goto (-32), 3) := by decide +kernel
theorem d_Model_begins_62 : decode prog_9_method_33_code 62 = .ok (.iload_n 1, 1) := by decide +kernel
theorem d_Model_begins_63 : decode prog_9_method_33_code 63 = .ok (.ireturn, 1) := by decide +kernel
theorem d_Model_load_0 : decode prog_9_method_34_code 0 = .ok (.aload_n 0, 1) := by decide +kernel
theorem d_Model_load_1 : decode prog_9_method_34_code 1 = .ok (.aload_n 0, 1) := by decide +kernel
theorem d_Model_load_2 : decode prog_9_method_34_code 2 = .ok (.getfield 45, 3) := by decide +kernel
theorem d_Model_load_5 : decode prog_9_method_34_code 5 = .ok (.ifCond .ne 10, 3) := by decide +kernel
theorem d_Model_load_8 : decode prog_9_method_34_code 8 = .ok (.aload_n 0, 1) := by decide +kernel
theorem d_Model_load_9 : decode prog_9_method_34_code 9 = .ok (.getfield 59, 3) := by decide +kernel
theorem d_Model_load_12 : decode prog_9_method_34_code 12 = .ok (.ifCond .le 7, 3) := by decide +kernel
theorem d_Model_load_15 : decode prog_9_method_34_code 15 = .ok (.iconst 1, 1) := by decide +kernel
theorem d_Model_load_16 : decode prog_9_method_34_code 16 = .ok (.goto 4, 3) := by decide +kernel
theorem d_Model_load_19 : decode prog_9_method_34_code 19 = .ok (.iconst 0, 1) := by decide +kernel
theorem d_Model_load_20 : decode prog_9_method_34_code 20 = .ok (.iconst 1, 1) := by decide +kernel
theorem d_Model_load_21 : decode prog_9_method_34_code 21 = .ok (.invokevirtual 70, 3) := by decide +kernel
theorem d_Model_load_24 : decode prog_9_method_34_code 24 = .ok (.ifCond .ne 26, 3) := by decide +kernel
theorem d_Model_load_27 : decode prog_9_method_34_code 27 = .ok (.aload_n 0, 1) := by decide +kernel
theorem d_Model_load_28 : decode prog_9_method_34_code 28 = .ok (.lload_n 1, 1) := by decide +kernel
theorem d_Model_load_29 : decode prog_9_method_34_code 29 = .ok (.lconst 1, 1) := by decide +kernel
theorem d_Model_load_30 : decode prog_9_method_34_code 30 = .ok (.lcmp, 1) := by decide +kernel
theorem d_Model_load_31 : decode prog_9_method_34_code 31 = .ok (.ifCond .lt 7, 3) := by decide +kernel
theorem d_Model_load_34 : decode prog_9_method_34_code 34 = .ok (.iload_n 3, 1) := by decide +kernel
theorem d_Model_load_35 : decode prog_9_method_34_code 35 = .ok (.ifCond .ge 7, 3) := by decide +kernel
theorem d_Model_load_38 : decode prog_9_method_34_code 38 = .ok (.iconst 1, 1) := by decide +kernel
theorem d_Model_load_39 : decode prog_9_method_34_code 39 = .ok (.goto 4, 3) := by decide +kernel
theorem d_Model_load_42 : decode prog_9_method_34_code 42 = .ok (.iconst 0, 1) := by decide +kernel
theorem d_Model_load_43 : decode prog_9_method_34_code 43 = .ok (.iconst 2, 1) := by decide +kernel
theorem d_Model_load_44 : decode prog_9_method_34_code 44 = .ok (.invokevirtual 70, 3) := by decide +kernel
theorem d_Model_load_47 : decode prog_9_method_34_code 47 = .ok (.ifCond .eq 4, 3) := by decide +kernel
theorem d_Model_load_50 : decode prog_9_method_34_code 50 = .ok (.return_, 1) := by decide +kernel
theorem d_Model_load_51 : decode prog_9_method_34_code 51 = .ok (.aload_n 0, 1) := by decide +kernel
theorem d_Model_load_52 : decode prog_9_method_34_code 52 = .ok (.getfield 7, 3) := by decide +kernel
theorem d_Model_load_55 : decode prog_9_method_34_code 55 = .ok (.sipush 1500, 3) := by decide +kernel
theorem d_Model_load_58 : decode prog_9_method_34_code 58 = .ok (.laload, 1) := by decide +kernel
theorem d_Model_load_59 : decode prog_9_method_34_code 59 = .ok (.lstore 6, 2) := by decide +kernel
theorem d_Model_load_61 : decode prog_9_method_34_code 61 = .ok (.iload_n 3, 1) := by decide +kernel
theorem d_Model_load_62 : decode prog_9_method_34_code 62 = .ok (.iconst 1, 1) := by decide +kernel
theorem d_Model_load_63 : decode prog_9_method_34_code 63 = .ok (.if_icmp .le 25, 3) := by decide +kernel
theorem d_Model_load_66 : decode prog_9_method_34_code 66 = .ok (.iload_n 3, 1) := by decide +kernel
theorem d_Model_load_67 : decode prog_9_method_34_code 67 = .ok (.iconst 1, 1) := by decide +kernel
theorem d_Model_load_68 : decode prog_9_method_34_code 68 = .ok (.isub, 1) := by decide +kernel
theorem d_Model_load_69 : decode prog_9_method_34_code 69 = .ok (.i2l, 1) := by decide +kernel
theorem d_Model_load_70 : decode prog_9_method_34_code 70 = .ok (.ldc2_w 110, 3) := by decide +kernel
theorem d_Model_load_73 : decode prog_9_method_34_code 73 = .ok (.lload 6, 2) := by decide +kernel
theorem d_Model_load_75 : decode prog_9_method_34_code 75 = .ok (.lsub, 1) := by decide +kernel
theorem d_Model_load_76 : decode prog_9_method_34_code 76 = .ok (.lload_n 1, 1) := by decide +kernel
theorem d_Model_load_77 : decode prog_9_method_34_code 77 = .ok (.invokestatic 112, 3) := by decide +kernel
theorem d_Model_load_80 : decode prog_9_method_34_code 80 = .ok (.lcmp, 1) := by decide +kernel
theorem d_Model_load_81 : decode prog_9_method_34_code 81 = .ok (.ifCond .le 7, 3) := by decide +kernel
theorem d_Model_load_84 : decode prog_9_method_34_code 84 = .ok (.iconst 1, 1) := by decide +kernel
theorem d_Model_load_85 : decode prog_9_method_34_code 85 = .ok (.goto 4, 3) := by decide +kernel
theorem d_Model_load_88 : decode prog_9_method_34_code 88 = .ok (.iconst 0, 1) := by decide +kernel
theorem d_Model_load_89 : decode prog_9_method_34_code 89 = .ok (.istore 8, 2) := by decide +kernel
theorem d_Model_load_91 : decode prog_9_method_34_code 91 = .ok (.aload_n 0, 1) := by decide +kernel
theorem d_Model_load_92 : decode prog_9_method_34_code 92 = .ok (.iload 8, 2) := by decide +kernel
theorem d_Model_load_94 : decode prog_9_method_34_code 94 = .ok (.iconst 2, 1) := by decide +kernel
theorem d_Model_load_95 : decode prog_9_method_34_code 95 = .ok (.invokevirtual 70, 3) := by decide +kernel
theorem d_Model_load_98 : decode prog_9_method_34_code 98 = .ok (.ifCond .ne 23, 3) := by decide +kernel
theorem d_Model_load_101 : decode prog_9_method_34_code 101 = .ok (.aload_n 0, 1) := by decide +kernel
theorem d_Model_load_102 : decode prog_9_method_34_code 102 = .ok (.iload_n 3, 1) := by decide +kernel
theorem d_Model_load_103 : decode prog_9_method_34_code 103 = .ok (.sipush 1500, 3) := by decide +kernel
theorem d_Model_load_106 : decode prog_9_method_34_code 106 = .ok (.if_icmp .le 7, 3) := by decide +kernel
theorem d_Model_load_109 : decode prog_9_method_34_code 109 = .ok (.iconst 1, 1) := by decide +kernel
theorem d_Model_load_110 : decode prog_9_method_34_code 110 = .ok (.goto 4, 3) := by decide +kernel
theorem d_Model_load_113 : decode prog_9_method_34_code 113 = .ok (.iconst 0, 1) := by decide +kernel
theorem d_Model_load_114 : decode prog_9_method_34_code 114 = .ok (.iconst 3, 1) := by decide +kernel
theorem d_Model_load_115 : decode prog_9_method_34_code 115 = .ok (.invokevirtual 70, 3) := by decide +kernel
theorem d_Model_load_118 : decode prog_9_method_34_code 118 = .ok (.ifCond .eq 4, 3) := by decide +kernel
theorem d_Model_load_121 : decode prog_9_method_34_code 121 = .ok (.return_, 1) := by decide +kernel
theorem d_Model_load_122 : decode prog_9_method_34_code 122 = .ok (.lload 6, 2) := by decide +kernel
theorem d_Model_load_124 : decode prog_9_method_34_code 124 = .ok (.lstore 9, 2) := by decide +kernel
theorem d_Model_load_126 : decode prog_9_method_34_code 126 = .ok (.iconst 0, 1) := by decide +kernel
theorem d_Model_load_127 : decode prog_9_method_34_code 127 = .ok (.istore 11, 2) := by decide +kernel
theorem d_Model_load_129 : decode prog_9_method_34_code 129 = .ok (.iload 11, 2) := by decide +kernel
theorem d_Model_load_131 : decode prog_9_method_34_code 131 = .ok (.iload_n 3, 1) := by decide +kernel
theorem d_Model_load_132 : decode prog_9_method_34_code 132 = .ok (.if_icmp .ge 40, 3) := by decide +kernel
theorem d_Model_load_135 : decode prog_9_method_34_code 135 = .ok (.aload_n 0, 1) := by decide +kernel
theorem d_Model_load_136 : decode prog_9_method_34_code 136 = .ok (.getfield 7, 3) := by decide +kernel
theorem d_Model_load_139 : decode prog_9_method_34_code 139 = .ok (.sipush 1500, 3) := by decide +kernel
theorem d_Model_load_142 : decode prog_9_method_34_code 142 = .ok (.lload 9, 2) := by decide +kernel
theorem d_Model_load_144 : decode prog_9_method_34_code 144 = .ok (.lastore, 1) := by decide +kernel
theorem d_Model_load_145 : decode prog_9_method_34_code 145 = .ok (.aload_n 0, 1) := by decide +kernel
theorem d_Model_load_146 : decode prog_9_method_34_code 146 = .ok (.iload 11, 2) := by decide +kernel
theorem d_Model_load_148 : decode prog_9_method_34_code 148 = .ok (.sipush 1500, 3) := by decide +kernel
theorem d_Model_load_151 : decode prog_9_method_34_code 151 = .ok (.lload 4, 2) := by decide +kernel
theorem d_Model_load_153 : decode prog_9_method_34_code 153 = .ok (.iload 11, 2) := by decide +kernel
theorem d_Model_load_155 : decode prog_9_method_34_code 155 = .ok (.i2l, 1) := by decide +kernel
theorem d_Model_load_156 : decode prog_9_method_34_code 156 = .ok (.ladd, 1) := by decide +kernel
theorem d_Model_load_157 : decode prog_9_method_34_code 157 = .ok (.invokevirtual 91, 3) := by decide +kernel
theorem d_Model_load_160 : decode prog_9_method_34_code 160 = .ok (.lload 9, 2) := by decide +kernel
theorem d_Model_load_162 : decode prog_9_method_34_code 162 = .ok (.lload_n 1, 1) := by decide +kernel
theorem d_Model_load_163 : decode prog_9_method_34_code 163 = .ok (.ladd, 1) := by decide +kernel
theorem d_Model_load_164 : decode prog_9_method_34_code 164 = .ok (.lstore 9, 2) := by decide +kernel
theorem d_Model_load_166 : decode prog_9_method_34_code 166 = .ok (.iinc 11 1, 3) := by decide +kernel
theorem d_Model_load_169 : decode prog_9_method_34_code 169 = .ok (.goto (-40), 3) := by decide +kernel
theorem d_Model_load_172 : decode prog_9_method_34_code 172 = .ok (.aload_n 0, 1) := by decide +kernel
theorem d_Model_load_173 : decode prog_9_method_34_code 173 = .ok (.getfield 7, 3) := by decide +kernel
theorem d_Model_load_176 : decode prog_9_method_34_code 176 = .ok (.sipush 1500, 3) := by decide +kernel
theorem d_Model_load_179 : decode prog_9_method_34_code 179 = .ok (.lload 6, 2) := by decide +kernel
theorem d_Model_load_181 : decode prog_9_method_34_code 181 = .ok (.lastore, 1) := by decide +kernel
theorem d_Model_load_182 : decode prog_9_method_34_code 182 = .ok (.return_, 1) := by decide +kernel
theorem d_Model_steps_0 : decode prog_9_method_35_code 0 = .ok (.lload_n 0, 1) := by decide +kernel
theorem d_Model_steps_1 : decode prog_9_method_35_code 1 = .ok (.lconst 0, 1) := by decide +kernel
theorem d_Model_steps_2 : decode prog_9_method_35_code 2 = .ok (.lcmp, 1) := by decide +kernel
theorem d_Model_steps_3 : decode prog_9_method_35_code 3 = .ok (.ifCond .lt 7, 3) := by decide +kernel
theorem d_Model_steps_6 : decode prog_9_method_35_code 6 = .ok (.lload_n 0, 1) := by decide +kernel
theorem d_Model_steps_7 : decode prog_9_method_35_code 7 = .ok (.lload_n 2, 1) := by decide +kernel
theorem d_Model_steps_8 : decode prog_9_method_35_code 8 = .ok (.ldiv, 1) := by decide +kernel
theorem d_Model_steps_9 : decode prog_9_method_35_code 9 = .ok (.lreturn, 1) := by decide +kernel
theorem d_Model_steps_10 : decode prog_9_method_35_code 10 = .ok (.lload_n 2, 1) := by decide +kernel
theorem d_Model_steps_11 : decode prog_9_method_35_code 11 = .ok (.lconst 1, 1) := by decide +kernel
theorem d_Model_steps_12 : decode prog_9_method_35_code 12 = .ok (.lcmp, 1) := by decide +kernel
theorem d_Model_steps_13 : decode prog_9_method_35_code 13 = .ok (.ifCond .ne 7, 3) := by decide +kernel
theorem d_Model_steps_16 : decode prog_9_method_35_code 16 = .ok (.ldc2_w 110, 3) := by decide +kernel
theorem d_Model_steps_19 : decode prog_9_method_35_code 19 = .ok (.lreturn, 1) := by decide +kernel
theorem d_Model_steps_20 : decode prog_9_method_35_code 20 = .ok (.lload_n 0, 1) := by decide +kernel
theorem d_Model_steps_21 : decode prog_9_method_35_code 21 = .ok (.iconst 1, 1) := by decide +kernel
theorem d_Model_steps_22 : decode prog_9_method_35_code 22 = .ok (.lushr, 1) := by decide +kernel
theorem d_Model_steps_23 : decode prog_9_method_35_code 23 = .ok (.lload_n 2, 1) := by decide +kernel
theorem d_Model_steps_24 : decode prog_9_method_35_code 24 = .ok (.ldiv, 1) := by decide +kernel
theorem d_Model_steps_25 : decode prog_9_method_35_code 25 = .ok (.ldc2_w 116, 3) := by decide +kernel
theorem d_Model_steps_28 : decode prog_9_method_35_code 28 = .ok (.lmul, 1) := by decide +kernel
theorem d_Model_steps_29 : decode prog_9_method_35_code 29 = .ok (.lstore 4, 2) := by decide +kernel
theorem d_Model_steps_31 : decode prog_9_method_35_code 31 = .ok (.lload_n 0, 1) := by decide +kernel
theorem d_Model_steps_32 : decode prog_9_method_35_code 32 = .ok (.lload 4, 2) := by decide +kernel
theorem d_Model_steps_34 : decode prog_9_method_35_code 34 = .ok (.lload_n 2, 1) := by decide +kernel
theorem d_Model_steps_35 : decode prog_9_method_35_code 35 = .ok (.lmul, 1) := by decide +kernel
theorem d_Model_steps_36 : decode prog_9_method_35_code 36 = .ok (.lsub, 1) := by decide +kernel
theorem d_Model_steps_37 : decode prog_9_method_35_code 37 = .ok (.lstore 6, 2) := by decide +kernel
theorem d_Model_steps_39 : decode prog_9_method_35_code 39 = .ok (.lload 6, 2) := by decide +kernel
theorem d_Model_steps_41 : decode prog_9_method_35_code 41 = .ok (.lconst 0, 1) := by decide +kernel
theorem d_Model_steps_42 : decode prog_9_method_35_code 42 = .ok (.lcmp, 1) := by decide +kernel
theorem d_Model_steps_43 : decode prog_9_method_35_code 43 = .ok (.ifCond .lt 10, 3) := by decide +kernel
theorem d_Model_steps_46 : decode prog_9_method_35_code 46 = .ok (.lload 6, 2) := by decide +kernel
theorem d_Model_steps_48 : decode prog_9_method_35_code 48 = .ok (.lload_n 2, 1) := by decide +kernel
theorem d_Model_steps_49 : decode prog_9_method_35_code 49 = .ok (.lcmp, 1) := by decide +kernel
theorem d_Model_steps_50 : decode prog_9_method_35_code 50 = .ok (.ifCond .lt 10, 3) := by decide +kernel
theorem d_Model_steps_53 : decode prog_9_method_35_code 53 = .ok (.lload 4, 2) := by decide +kernel
theorem d_Model_steps_55 : decode prog_9_method_35_code 55 = .ok (.lconst 1, 1) := by decide +kernel
theorem d_Model_steps_56 : decode prog_9_method_35_code 56 = .ok (.ladd, 1) := by decide +kernel
theorem d_Model_steps_57 : decode prog_9_method_35_code 57 = .ok (.goto 5, 3) := by decide +kernel
theorem d_Model_steps_60 : decode prog_9_method_35_code 60 = .ok (.lload 4, 2) := by decide +kernel
theorem d_Model_steps_62 : decode prog_9_method_35_code 62 = .ok (.lreturn, 1) := by decide +kernel
theorem d_Model_clear_0 : decode prog_9_method_36_code 0 = .ok (.aload_n 0, 1) := by decide +kernel
theorem d_Model_clear_1 : decode prog_9_method_36_code 1 = .ok (.iconst 0, 1) := by decide +kernel
theorem d_Model_clear_2 : decode prog_9_method_36_code 2 = .ok (.putfield 52, 3) := by decide +kernel
theorem d_Model_clear_5 : decode prog_9_method_36_code 5 = .ok (.aload_n 0, 1) := by decide +kernel
theorem d_Model_clear_6 : decode prog_9_method_36_code 6 = .ok (.getfield 59, 3) := by decide +kernel
theorem d_Model_clear_9 : decode prog_9_method_36_code 9 = .ok (.istore_n 1, 1) := by decide +kernel
theorem d_Model_clear_10 : decode prog_9_method_36_code 10 = .ok (.iconst 0, 1) := by decide +kernel
theorem d_Model_clear_11 : decode prog_9_method_36_code 11 = .ok (.istore_n 2, 1) := by decide +kernel
theorem d_Model_clear_12 : decode prog_9_method_36_code 12 = .ok (.iload_n 2, 1) := by decide +kernel
theorem d_Model_clear_13 : decode prog_9_method_36_code 13 = .ok (.iload_n 1, 1) := by decide +kernel
theorem d_Model_clear_14 : decode prog_9_method_36_code 14 = .ok (.if_icmp .ge 19, 3) := by decide +kernel
theorem d_Model_clear_17 : decode prog_9_method_36_code 17 = .ok (.aload_n 0, 1) := by decide +kernel
theorem d_Model_clear_18 : decode prog_9_method_36_code 18 = .ok (.aload_n 0, 1) := by decide +kernel
theorem d_Model_clear_19 : decode prog_9_method_36_code 19 = .ok (.getfield 59, 3) := by decide +kernel
theorem d_Model_clear_22 : decode prog_9_method_36_code 22 = .ok (.iconst 1, 1) := by decide +kernel
theorem d_Model_clear_23 : decode prog_9_method_36_code 23 = .ok (.isub, 1) := by decide +kernel
theorem d_Model_clear_24 : decode prog_9_method_36_code 24 = .ok (.invokevirtual 95, 3) := by decide +kernel
theorem d_Model_clear_27 : decode prog_9_method_36_code 27 = .ok (.iinc 2 1, 3) := by decide +kernel
theorem d_Model_clear_30 : decode prog_9_method_36_code 30 = .ok (.goto (-18), 3) := by decide +kernel
theorem d_Model_clear_33 : decode prog_9_method_36_code 33 = .ok (.iload_n 1, 1) := by decide +kernel
theorem d_Model_clear_34 : decode prog_9_method_36_code 34 = .ok (.ireturn, 1) := by decide +kernel
theorem d_Model_encode_0 : decode prog_9_method_37_code 0 = .ok (.iconst 0, 1) := by decide +kernel
theorem d_Model_encode_1 : decode prog_9_method_37_code 1 = .ok (.istore_n 3, 1) := by decide +kernel
theorem d_Model_encode_2 : decode prog_9_method_37_code 2 = .ok (.aload_n 0, 1) := by decide +kernel
theorem d_Model_encode_3 : decode prog_9_method_37_code 3 = .ok (.getfield 45, 3) := by decide +kernel
theorem d_Model_encode_6 : decode prog_9_method_37_code 6 = .ok (.iconst 2, 1) := by decide +kernel
theorem d_Model_encode_7 : decode prog_9_method_37_code 7 = .ok (.if_icmp .ne 81, 3) := by decide +kernel
theorem d_Model_encode_10 : decode prog_9_method_37_code 10 = .ok (.iconst 0, 1) := by decide +kernel
theorem d_Model_encode_11 : decode prog_9_method_37_code 11 = .ok (.istore 4, 2) := by decide +kernel
theorem d_Model_encode_13 : decode prog_9_method_37_code 13 = .ok (.iload 4, 2) := by decide +kernel
theorem d_Model_encode_15 : decode prog_9_method_37_code 15 = .ok (.aload_n 0, 1) := by decide +kernel
theorem d_Model_encode_16 : decode prog_9_method_37_code 16 = .ok (.getfield 21, 3) := by decide +kernel
theorem d_Model_encode_19 : decode prog_9_method_37_code 19 = .ok (.iload_n 2, 1) := by decide +kernel
theorem d_Model_encode_20 : decode prog_9_method_37_code 20 = .ok (.iaload, 1) := by decide +kernel
theorem d_Model_encode_21 : decode prog_9_method_37_code 21 = .ok (.if_icmp .ge 51, 3) := by decide +kernel
theorem d_Model_encode_24 : decode prog_9_method_37_code 24 = .ok (.aload_n 1, 1) := by decide +kernel
theorem d_Model_encode_25 : decode prog_9_method_37_code 25 = .ok (.iload_n 3, 1) := by decide +kernel
theorem d_Model_encode_26 : decode prog_9_method_37_code 26 = .ok (.iinc 3 1, 3) := by decide +kernel
theorem d_Model_encode_29 : decode prog_9_method_37_code 29 = .ok (.aload_n 0, 1) := by decide +kernel
theorem d_Model_encode_30 : decode prog_9_method_37_code 30 = .ok (.getfield 17, 3) := by decide +kernel
theorem d_Model_encode_33 : decode prog_9_method_37_code 33 = .ok (.bipush 24, 2) := by decide +kernel
theorem d_Model_encode_35 : decode prog_9_method_37_code 35 = .ok (.iload_n 2, 1) := by decide +kernel
theorem d_Model_encode_36 : decode prog_9_method_37_code 36 = .ok (.imul, 1) := by decide +kernel
theorem d_Model_encode_37 : decode prog_9_method_37_code 37 = .ok (.iload 4, 2) := by decide +kernel
theorem d_Model_encode_39 : decode prog_9_method_37_code 39 = .ok (.iadd, 1) := by decide +kernel
theorem d_Model_encode_40 : decode prog_9_method_37_code 40 = .ok (.iaload, 1) := by decide +kernel
theorem d_Model_encode_41 : decode prog_9_method_37_code 41 = .ok (.iastore, 1) := by decide +kernel
theorem d_Model_encode_42 : decode prog_9_method_37_code 42 = .ok (.aload_n 0, 1) := by decide +kernel
theorem d_Model_encode_43 : decode prog_9_method_37_code 43 = .ok (.getfield 17, 3) := by decide +kernel
theorem d_Model_encode_46 : decode prog_9_method_37_code 46 = .ok (.bipush 24, 2) := by decide +kernel
theorem d_Model_encode_48 : decode prog_9_method_37_code 48 = .ok (.iload_n 2, 1) := by decide +kernel
theorem d_Model_encode_49 : decode prog_9_method_37_code 49 = .ok (.imul, 1) := by decide +kernel
theorem d_Model_encode_50 : decode prog_9_method_37_code 50 = .ok (.iload 4, 2) := by decide +kernel
theorem d_Model_encode_52 : decode prog_9_method_37_code 52 = .ok (.iadd, 1) := by decide +kernel
theorem d_Model_encode_53 : decode prog_9_method_37_code 53 = .ok (.iaload, 1) := by decide +kernel
theorem d_Model_encode_54 : decode prog_9_method_37_code 54 = .ok (.ifCond .ne 12, 3) := by decide +kernel
theorem d_Model_encode_57 : decode prog_9_method_37_code 57 = .ok (.aload_n 1, 1) := by decide +kernel
theorem d_Model_encode_58 : decode prog_9_method_37_code 58 = .ok (.iload_n 3, 1) := by decide +kernel
theorem d_Model_encode_59 : decode prog_9_method_37_code 59 = .ok (.iinc 3 1, 3) := by decide +kernel
theorem d_Model_encode_62 : decode prog_9_method_37_code 62 = .ok (.sipush 255, 3) := by decide +kernel
theorem d_Model_encode_65 : decode prog_9_method_37_code 65 = .ok (.iastore, 1) := by decide +kernel
theorem d_Model_encode_66 : decode prog_9_method_37_code 66 = .ok (.iinc 4 1, 3) := by decide +kernel
theorem d_Model_encode_69 : decode prog_9_method_37_code 69 = .ok (.goto (-56), 3) := by decide +kernel
theorem d_Model_encode_72 : decode prog_9_method_37_code 72 = .ok (.aload_n 1, 1) := by decide +kernel
theorem d_Model_encode_73 : decode prog_9_method_37_code 73 = .ok (.iload_n 3, 1) := by decide +kernel
theorem d_Model_encode_74 : decode prog_9_method_37_code 74 = .ok (.iinc 3 1, 3) := by decide +kernel
theorem d_Model_encode_77 : decode prog_9_method_37_code 77 = .ok (.iconst 0, 1) := by decide +kernel
theorem d_Model_encode_78 : decode prog_9_method_37_code 78 = .ok (.iastore, 1) := by decide +kernel
theorem d_Model_encode_79 : decode prog_9_method_37_code 79 = .ok (.aload_n 1, 1) := by decide +kernel
theorem d_Model_encode_80 : decode prog_9_method_37_code 80 = .ok (.iload_n 3, 1) := by decide +kernel
theorem d_Model_encode_81 : decode prog_9_method_37_code 81 = .ok (.iinc 3 1, 3) := by decide +kernel
theorem d_Model_encode_84 : decode prog_9_method_37_code 84 = .ok (.iconst 0, 1) := by decide +kernel
theorem d_Model_encode_85 : decode prog_9_method_37_code 85 = .ok (.iastore, 1) := by decide +kernel
theorem d_Model_encode_86 : decode prog_9_method_37_code 86 = .ok (.iload_n 3, 1) := by decide +kernel
theorem d_Model_encode_87 : decode prog_9_method_37_code 87 = .ok (.ireturn, 1) := by decide +kernel
theorem d_Model_encode_88 : decode prog_9_method_37_code 88 = .ok (.iconst 0, 1) := by decide +kernel
theorem d_Model_encode_89 : decode prog_9_method_37_code 89 = .ok (.istore 4, 2) := by decide +kernel
theorem d_Model_encode_91 : decode prog_9_method_37_code 91 = .ok (.iload 4, 2) := by decide +kernel
theorem d_Model_encode_93 : decode prog_9_method_37_code 93 = .ok (.aload_n 0, 1) := by decide +kernel
theorem d_Model_encode_94 : decode prog_9_method_37_code 94 = .ok (.getfield 45, 3) := by decide +kernel
theorem d_Model_encode_97 : decode prog_9_method_37_code 97 = .ok (.if_icmp .gt 77, 3) := by decide +kernel
theorem d_Model_encode_100 : decode prog_9_method_37_code 100 = .ok (.iload 4, 2) := by decide +kernel
theorem d_Model_encode_102 : decode prog_9_method_37_code 102 = .ok (.ifCond .ne 12, 3) := by decide +kernel
theorem d_Model_encode_105 : decode prog_9_method_37_code 105 = .ok (.aload_n 0, 1) := by decide +kernel
theorem d_Model_encode_106 : decode prog_9_method_37_code 106 = .ok (.getfield 7, 3) := by decide +kernel
theorem d_Model_encode_109 : decode prog_9_method_37_code 109 = .ok (.iload_n 2, 1) := by decide +kernel
theorem d_Model_encode_110 : decode prog_9_method_37_code 110 = .ok (.laload, 1) := by decide +kernel
theorem d_Model_encode_111 : decode prog_9_method_37_code 111 = .ok (.goto 9, 3) := by decide +kernel
theorem d_Model_encode_114 : decode prog_9_method_37_code 114 = .ok (.aload_n 0, 1) := by decide +kernel
theorem d_Model_encode_115 : decode prog_9_method_37_code 115 = .ok (.getfield 13, 3) := by decide +kernel
theorem d_Model_encode_118 : decode prog_9_method_37_code 118 = .ok (.iload_n 2, 1) := by decide +kernel
theorem d_Model_encode_119 : decode prog_9_method_37_code 119 = .ok (.laload, 1) := by decide +kernel
theorem d_Model_encode_120 : decode prog_9_method_37_code 120 = .ok (.lstore 5, 2) := by decide +kernel
theorem d_Model_encode_122 : decode prog_9_method_37_code 122 = .ok (.bipush 56, 2) := by decide +kernel
theorem d_Model_encode_124 : decode prog_9_method_37_code 124 = .ok (.istore 7, 2) := by decide +kernel
theorem d_Model_encode_126 : decode prog_9_method_37_code 126 = .ok (.iload 7, 2) := by decide +kernel
theorem d_Model_encode_128 : decode prog_9_method_37_code 128 = .ok (.ifCond .lt 40, 3) := by decide +kernel
theorem d_Model_encode_131 : decode prog_9_method_37_code 131 = .ok (.aload_n 1, 1) := by decide +kernel
theorem d_Model_encode_132 : decode prog_9_method_37_code 132 = .ok (.iload_n 3, 1) := by decide +kernel
theorem d_Model_encode_133 : decode prog_9_method_37_code 133 = .ok (.iinc 3 1, 3) := by decide +kernel
theorem d_Model_encode_136 : decode prog_9_method_37_code 136 = .ok (.lload 5, 2) := by decide +kernel
theorem d_Model_encode_138 : decode prog_9_method_37_code 138 = .ok (.iload 7, 2) := by decide +kernel
theorem d_Model_encode_140 : decode prog_9_method_37_code 140 = .ok (.lshr, 1) := by decide +kernel
theorem d_Model_encode_141 : decode prog_9_method_37_code 141 = .ok (.ldc2_w 118, 3) := by decide +kernel
theorem d_Model_encode_144 : decode prog_9_method_37_code 144 = .ok (.land, 1) := by decide +kernel
theorem d_Model_encode_145 : decode prog_9_method_37_code 145 = .ok (.l2i, 1) := by decide +kernel
theorem d_Model_encode_146 : decode prog_9_method_37_code 146 = .ok (.iload 7, 2) := by decide +kernel
theorem d_Model_encode_148 : decode prog_9_method_37_code 148 = .ok (.bipush 56, 2) := by decide +kernel
theorem d_Model_encode_150 : decode prog_9_method_37_code 150 = .ok (.if_icmp .ne 9, 3) := by decide +kernel
theorem d_Model_encode_153 : decode prog_9_method_37_code 153 = .ok (.sipush 128, 3) := by decide +kernel
theorem d_Model_encode_156 : decode prog_9_method_37_code 156 = .ok (.goto 4, 3) := by decide +kernel
theorem d_Model_encode_159 : decode prog_9_method_37_code 159 = .ok (.iconst 0, 1) := by decide +kernel
theorem d_Model_encode_160 : decode prog_9_method_37_code 160 = .ok (.ixor, 1) := by decide +kernel
theorem d_Model_encode_161 : decode prog_9_method_37_code 161 = .ok (.iastore, 1) := by decide +kernel
theorem d_Model_encode_162 : decode prog_9_method_37_code 162 = .ok (.iinc 7 (-8), 3) := by decide +kernel
theorem d_Model_encode_165 : decode prog_9_method_37_code 165 = .ok (.goto (-39), 3) := by decide +kernel
theorem d_Model_encode_168 : decode prog_9_method_37_code 168 = .ok (.iinc 4 1, 3) := by decide +kernel
theorem d_Model_encode_171 : decode prog_9_method_37_code 171 = .ok (.goto (-80), 3) := by decide +kernel
theorem d_Model_encode_174 : decode prog_9_method_37_code 174 = .ok (.iload_n 3, 1) := by decide +kernel
theorem d_Model_encode_175 : decode prog_9_method_37_code 175 = .ok (.ireturn, 1) := by decide +kernel
theorem d_Model_look_0 : decode prog_9_method_38_code 0 = .ok (.iconst 0, 1) := by decide +kernel
theorem d_Model_look_1 : decode prog_9_method_38_code 1 = .ok (.istore_n 1, 1) := by decide +kernel
theorem d_Model_look_2 : decode prog_9_method_38_code 2 = .ok (.iload_n 1, 1) := by decide +kernel
theorem d_Model_look_3 : decode prog_9_method_38_code 3 = .ok (.iconst 1, 1) := by decide +kernel
theorem d_Model_look_4 : decode prog_9_method_38_code 4 = .ok (.iadd, 1) := by decide +kernel
theorem d_Model_look_5 : decode prog_9_method_38_code 5 = .ok (.aload_n 0, 1) := by decide +kernel
theorem d_Model_look_6 : decode prog_9_method_38_code 6 = .ok (.getfield 59, 3) := by decide +kernel
theorem d_Model_look_9 : decode prog_9_method_38_code 9 = .ok (.if_icmp .ge 71, 3) := by decide +kernel
theorem d_Model_look_12 : decode prog_9_method_38_code 12 = .ok (.aload_n 0, 1) := by decide +kernel
theorem d_Model_look_13 : decode prog_9_method_38_code 13 = .ok (.aload_n 0, 1) := by decide +kernel
theorem d_Model_look_14 : decode prog_9_method_38_code 14 = .ok (.getfield 33, 3) := by decide +kernel
theorem d_Model_look_17 : decode prog_9_method_38_code 17 = .ok (.aload_n 0, 1) := by decide +kernel
theorem d_Model_look_18 : decode prog_9_method_38_code 18 = .ok (.getfield 27, 3) := by decide +kernel
theorem d_Model_look_21 : decode prog_9_method_38_code 21 = .ok (.iload_n 1, 1) := by decide +kernel
theorem d_Model_look_22 : decode prog_9_method_38_code 22 = .ok (.iaload, 1) := by decide +kernel
theorem d_Model_look_23 : decode prog_9_method_38_code 23 = .ok (.invokevirtual 120, 3) := by decide +kernel
theorem d_Model_look_26 : decode prog_9_method_38_code 26 = .ok (.pop, 1) := by decide +kernel
theorem d_Model_look_27 : decode prog_9_method_38_code 27 = .ok (.aload_n 0, 1) := by decide +kernel
theorem d_Model_look_28 : decode prog_9_method_38_code 28 = .ok (.aload_n 0, 1) := by decide +kernel
theorem d_Model_look_29 : decode prog_9_method_38_code 29 = .ok (.getfield 36, 3) := by decide +kernel
theorem d_Model_look_32 : decode prog_9_method_38_code 32 = .ok (.aload_n 0, 1) := by decide +kernel
theorem d_Model_look_33 : decode prog_9_method_38_code 33 = .ok (.getfield 27, 3) := by decide +kernel
theorem d_Model_look_36 : decode prog_9_method_38_code 36 = .ok (.iload_n 1, 1) := by decide +kernel
theorem d_Model_look_37 : decode prog_9_method_38_code 37 = .ok (.iconst 1, 1) := by decide +kernel
theorem d_Model_look_38 : decode prog_9_method_38_code 38 = .ok (.iadd, 1) := by decide +kernel
theorem d_Model_look_39 : decode prog_9_method_38_code 39 = .ok (.iaload, 1) := by decide +kernel
theorem d_Model_look_40 : decode prog_9_method_38_code 40 = .ok (.invokevirtual 120, 3) := by decide +kernel
theorem d_Model_look_43 : decode prog_9_method_38_code 43 = .ok (.pop, 1) := by decide +kernel
theorem d_Model_look_44 : decode prog_9_method_38_code 44 = .ok (.iconst 0, 1) := by decide +kernel
theorem d_Model_look_45 : decode prog_9_method_38_code 45 = .ok (.istore_n 2, 1) := by decide +kernel
theorem d_Model_look_46 : decode prog_9_method_38_code 46 = .ok (.aload_n 0, 1) := by decide +kernel
theorem d_Model_look_47 : decode prog_9_method_38_code 47 = .ok (.getfield 33, 3) := by decide +kernel
theorem d_Model_look_50 : decode prog_9_method_38_code 50 = .ok (.iload_n 2, 1) := by decide +kernel
theorem d_Model_look_51 : decode prog_9_method_38_code 51 = .ok (.iaload, 1) := by decide +kernel
theorem d_Model_look_52 : decode prog_9_method_38_code 52 = .ok (.aload_n 0, 1) := by decide +kernel
theorem d_Model_look_53 : decode prog_9_method_38_code 53 = .ok (.getfield 36, 3) := by decide +kernel
theorem d_Model_look_56 : decode prog_9_method_38_code 56 = .ok (.iload_n 2, 1) := by decide +kernel
theorem d_Model_look_57 : decode prog_9_method_38_code 57 = .ok (.iaload, 1) := by decide +kernel
theorem d_Model_look_58 : decode prog_9_method_38_code 58 = .ok (.if_icmp .ne 9, 3) := by decide +kernel
theorem d_Model_look_61 : decode prog_9_method_38_code 61 = .ok (.iinc 2 1, 3) := by decide +kernel
theorem d_Model_look_64 : decode prog_9_method_38_code 64 = .ok (.goto (-18), 3) := by decide +kernel
theorem d_Model_look_67 : decode prog_9_method_38_code 67 = .ok (.aload_n 0, 1) := by decide +kernel
theorem d_Model_look_68 : decode prog_9_method_38_code 68 = .ok (.getfield 39, 3) := by decide +kernel
theorem d_Model_look_71 : decode prog_9_method_38_code 71 = .ok (.iload_n 1, 1) := by decide +kernel
theorem d_Model_look_72 : decode prog_9_method_38_code 72 = .ok (.iload_n 2, 1) := by decide +kernel
theorem d_Model_look_73 : decode prog_9_method_38_code 73 = .ok (.iastore, 1) := by decide +kernel
theorem d_Model_look_74 : decode prog_9_method_38_code 74 = .ok (.iinc 1 1, 3) := by decide +kernel
theorem d_Model_look_77 : decode prog_9_method_38_code 77 = .ok (.goto (-75), 3) := by decide +kernel
theorem d_Model_look_80 : decode prog_9_method_38_code 80 = .ok (.return_, 1) := by decide +kernel
theorem d_Model_isFirst_0 : decode prog_9_method_39_code 0 = .ok (.iload_n 1, 1) := by decide +kernel
theorem d_Model_isFirst_1 : decode prog_9_method_39_code 1 = .ok (.iconst 1, 1) := by decide +kernel
theorem d_Model_isFirst_2 : decode prog_9_method_39_code 2 = .ok (.isub, 1) := by decide +kernel
theorem d_Model_isFirst_3 : decode prog_9_method_39_code 3 = .ok (.istore_n 2, 1) := by decide +kernel
theorem d_Model_isFirst_4 : decode prog_9_method_39_code 4 = .ok (.iload_n 2, 1) := by decide +kernel
theorem d_Model_isFirst_5 : decode prog_9_method_39_code 5 = .ok (.ifCond .lt 41, 3) := by decide +kernel
theorem d_Model_isFirst_8 : decode prog_9_method_39_code 8 = .ok (.aload_n 0, 1) := by decide +kernel
theorem d_Model_isFirst_9 : decode prog_9_method_39_code 9 = .ok (.getfield 39, 3) := by decide +kernel
theorem d_Model_isFirst_12 : decode prog_9_method_39_code 12 = .ok (.iload_n 2, 1) := by decide +kernel
theorem d_Model_isFirst_13 : decode prog_9_method_39_code 13 = .ok (.iaload, 1) := by decide +kernel
theorem d_Model_isFirst_14 : decode prog_9_method_39_code 14 = .ok (.aload_n 0, 1) := by decide +kernel
theorem d_Model_isFirst_15 : decode prog_9_method_39_code 15 = .ok (.getfield 39, 3) := by decide +kernel
theorem d_Model_isFirst_18 : decode prog_9_method_39_code 18 = .ok (.iload_n 1, 1) := by decide +kernel
theorem d_Model_isFirst_19 : decode prog_9_method_39_code 19 = .ok (.iaload, 1) := by decide +kernel
theorem d_Model_isFirst_20 : decode prog_9_method_39_code 20 = .ok (.if_icmp .lt 26, 3) := by decide +kernel
theorem d_Model_isFirst_23 : decode prog_9_method_39_code 23 = .ok (.aload_n 0, 1) := by decide +kernel
theorem d_Model_isFirst_24 : decode prog_9_method_39_code 24 = .ok (.getfield 39, 3) := by decide +kernel
theorem d_Model_isFirst_27 : decode prog_9_method_39_code 27 = .ok (.iload_n 2, 1) := by decide +kernel
theorem d_Model_isFirst_28 : decode prog_9_method_39_code 28 = .ok (.iaload, 1) := by decide +kernel
theorem d_Model_isFirst_29 : decode prog_9_method_39_code 29 = .ok (.aload_n 0, 1) := by decide +kernel
theorem d_Model_isFirst_30 : decode prog_9_method_39_code 30 = .ok (.getfield 39, 3) := by decide +kernel
theorem d_Model_isFirst_33 : decode prog_9_method_39_code 33 = .ok (.iload_n 1, 1) := by decide +kernel
theorem d_Model_isFirst_34 : decode prog_9_method_39_code 34 = .ok (.iaload, 1) := by decide +kernel
theorem d_Model_isFirst_35 : decode prog_9_method_39_code 35 = .ok (.if_icmp .ne 5, 3) := by decide +kernel
theorem d_Model_isFirst_38 : decode prog_9_method_39_code 38 = .ok (.iconst 0, 1) := by decide +kernel
theorem d_Model_isFirst_39 : decode prog_9_method_39_code 39 = .ok (.ireturn, 1) := by decide +kernel
theorem d_Model_isFirst_40 : decode prog_9_method_39_code 40 = .ok (.iinc 2 (-1), 3) := by decide +kernel
theorem d_Model_isFirst_43 : decode prog_9_method_39_code 43 = .ok (.goto (-39), 3) := by decide +kernel
theorem d_Model_isFirst_46 : decode prog_9_method_39_code 46 = .ok (.iconst 1, 1) := by decide +kernel
theorem d_Model_isFirst_47 : decode prog_9_method_39_code 47 = .ok (.ireturn, 1) := by decide +kernel
theorem d_Model_children_0 : decode prog_9_method_40_code 0 = .ok (.iconst 2, 1) := by decide +kernel
theorem d_Model_children_1 : decode prog_9_method_40_code 1 = .ok (.istore_n 2, 1) := by decide +kernel
theorem d_Model_children_2 : decode prog_9_method_40_code 2 = .ok (.iload_n 1, 1) := by decide +kernel
theorem d_Model_children_3 : decode prog_9_method_40_code 3 = .ok (.iconst 1, 1) := by decide +kernel
theorem d_Model_children_4 : decode prog_9_method_40_code 4 = .ok (.iadd, 1) := by decide +kernel
theorem d_Model_children_5 : decode prog_9_method_40_code 5 = .ok (.istore_n 3, 1) := by decide +kernel
theorem d_Model_children_6 : decode prog_9_method_40_code 6 = .ok (.iload_n 3, 1) := by decide +kernel
theorem d_Model_children_7 : decode prog_9_method_40_code 7 = .ok (.iconst 1, 1) := by decide +kernel
theorem d_Model_children_8 : decode prog_9_method_40_code 8 = .ok (.iadd, 1) := by decide +kernel
theorem d_Model_children_9 : decode prog_9_method_40_code 9 = .ok (.aload_n 0, 1) := by decide +kernel
theorem d_Model_children_10 : decode prog_9_method_40_code 10 = .ok (.getfield 59, 3) := by decide +kernel
theorem d_Model_children_13 : decode prog_9_method_40_code 13 = .ok (.if_icmp .ge 47, 3) := by decide +kernel
theorem d_Model_children_16 : decode prog_9_method_40_code 16 = .ok (.aload_n 0, 1) := by decide +kernel
theorem d_Model_children_17 : decode prog_9_method_40_code 17 = .ok (.getfield 39, 3) := by decide +kernel
theorem d_Model_children_20 : decode prog_9_method_40_code 20 = .ok (.iload_n 3, 1) := by decide +kernel
theorem d_Model_children_21 : decode prog_9_method_40_code 21 = .ok (.iaload, 1) := by decide +kernel
theorem d_Model_children_22 : decode prog_9_method_40_code 22 = .ok (.aload_n 0, 1) := by decide +kernel
theorem d_Model_children_23 : decode prog_9_method_40_code 23 = .ok (.getfield 39, 3) := by decide +kernel
theorem d_Model_children_26 : decode prog_9_method_40_code 26 = .ok (.iload_n 1, 1) := by decide +kernel
theorem d_Model_children_27 : decode prog_9_method_40_code 27 = .ok (.iaload, 1) := by decide +kernel
theorem d_Model_children_28 : decode prog_9_method_40_code 28 = .ok (.if_icmp .lt 32, 3) := by decide +kernel
theorem d_Model_children_31 : decode prog_9_method_40_code 31 = .ok (.iload_n 2, 1) := by decide +kernel
theorem d_Model_children_32 : decode prog_9_method_40_code 32 = .ok (.aload_n 0, 1) := by decide +kernel
theorem d_Model_children_33 : decode prog_9_method_40_code 33 = .ok (.getfield 39, 3) := by decide +kernel
theorem d_Model_children_36 : decode prog_9_method_40_code 36 = .ok (.iload_n 3, 1) := by decide +kernel
theorem d_Model_children_37 : decode prog_9_method_40_code 37 = .ok (.iaload, 1) := by decide +kernel
theorem d_Model_children_38 : decode prog_9_method_40_code 38 = .ok (.aload_n 0, 1) := by decide +kernel
theorem d_Model_children_39 : decode prog_9_method_40_code 39 = .ok (.getfield 39, 3) := by decide +kernel
theorem d_Model_children_42 : decode prog_9_method_40_code 42 = .ok (.iload_n 1, 1) := by decide +kernel
theorem d_Model_children_43 : decode prog_9_method_40_code 43 = .ok (.iaload, 1) := by decide +kernel
theorem d_Model_children_44 : decode prog_9_method_40_code 44 = .ok (.if_icmp .ne 7, 3) := by decide +kernel
theorem d_Model_children_47 : decode prog_9_method_40_code 47 = .ok (.iconst 1, 1) := by decide +kernel
theorem d_Model_children_48 : decode prog_9_method_40_code 48 = .ok (.goto 4, 3) := by decide +kernel
theorem d_Model_children_51 : decode prog_9_method_40_code 51 = .ok (.iconst 0, 1) := by decide +kernel
theorem d_Model_children_52 : decode prog_9_method_40_code 52 = .ok (.iadd, 1) := by decide +kernel
theorem d_Model_children_53 : decode prog_9_method_40_code 53 = .ok (.istore_n 2, 1) := by decide +kernel
theorem d_Model_children_54 : decode prog_9_method_40_code 54 = .ok (.iinc 3 1, 3) := by decide +kernel
theorem d_Model_children_57 : decode prog_9_method_40_code 57 = .ok (.goto (-51), 3) := by decide +kernel
theorem d_Model_children_60 : decode prog_9_method_40_code 60 = .ok (.iload_n 2, 1) := by decide +kernel
theorem d_Model_children_61 : decode prog_9_method_40_code 61 = .ok (.ireturn, 1) := by decide +kernel
theorem d_Model_sizeOf_0 : decode prog_9_method_41_code 0 = .ok (.iload_n 0, 1) := by decide +kernel
theorem d_Model_sizeOf_1 : decode prog_9_method_41_code 1 = .ok (.iconst 5, 1) := by decide +kernel
theorem d_Model_sizeOf_2 : decode prog_9_method_41_code 2 = .ok (.if_icmp .ge 7, 3) := by decide +kernel
theorem d_Model_sizeOf_5 : decode prog_9_method_41_code 5 = .ok (.iconst 0, 1) := by decide +kernel
theorem d_Model_sizeOf_6 : decode prog_9_method_41_code 6 = .ok (.goto 24, 3) := by decide +kernel
theorem d_Model_sizeOf_9 : decode prog_9_method_41_code 9 = .ok (.iload_n 0, 1) := by decide +kernel
theorem d_Model_sizeOf_10 : decode prog_9_method_41_code 10 = .ok (.bipush 17, 2) := by decide +kernel
theorem d_Model_sizeOf_12 : decode prog_9_method_41_code 12 = .ok (.if_icmp .ge 7, 3) := by decide +kernel
theorem d_Model_sizeOf_15 : decode prog_9_method_41_code 15 = .ok (.iconst 1, 1) := by decide +kernel
theorem d_Model_sizeOf_16 : decode prog_9_method_41_code 16 = .ok (.goto 14, 3) := by decide +kernel
theorem d_Model_sizeOf_19 : decode prog_9_method_41_code 19 = .ok (.iload_n 0, 1) := by decide +kernel
theorem d_Model_sizeOf_20 : decode prog_9_method_41_code 20 = .ok (.bipush 49, 2) := by decide +kernel
theorem d_Model_sizeOf_22 : decode prog_9_method_41_code 22 = .ok (.if_icmp .ge 7, 3) := by decide +kernel
theorem d_Model_sizeOf_25 : decode prog_9_method_41_code 25 = .ok (.iconst 2, 1) := by decide +kernel
theorem d_Model_sizeOf_26 : decode prog_9_method_41_code 26 = .ok (.goto 4, 3) := by decide +kernel
theorem d_Model_sizeOf_29 : decode prog_9_method_41_code 29 = .ok (.iconst 3, 1) := by decide +kernel
theorem d_Model_sizeOf_30 : decode prog_9_method_41_code 30 = .ok (.ireturn, 1) := by decide +kernel
theorem d_Model_depth_0 : decode prog_9_method_42_code 0 = .ok (.iconst 0, 1) := by decide +kernel
theorem d_Model_depth_1 : decode prog_9_method_42_code 1 = .ok (.istore_n 2, 1) := by decide +kernel
theorem d_Model_depth_2 : decode prog_9_method_42_code 2 = .ok (.iload_n 2, 1) := by decide +kernel
theorem d_Model_depth_3 : decode prog_9_method_42_code 3 = .ok (.bipush 50, 2) := by decide +kernel
theorem d_Model_depth_5 : decode prog_9_method_42_code 5 = .ok (.if_icmp .ge 16, 3) := by decide +kernel
theorem d_Model_depth_8 : decode prog_9_method_42_code 8 = .ok (.aload_n 0, 1) := by decide +kernel
theorem d_Model_depth_9 : decode prog_9_method_42_code 9 = .ok (.getfield 42, 3) := by decide +kernel
theorem d_Model_depth_12 : decode prog_9_method_42_code 12 = .ok (.iload_n 2, 1) := by decide +kernel
theorem d_Model_depth_13 : decode prog_9_method_42_code 13 = .ok (.iconst 0, 1) := by decide +kernel
theorem d_Model_depth_14 : decode prog_9_method_42_code 14 = .ok (.iastore, 1) := by decide +kernel
theorem d_Model_depth_15 : decode prog_9_method_42_code 15 = .ok (.iinc 2 1, 3) := by decide +kernel
theorem d_Model_depth_18 : decode prog_9_method_42_code 18 = .ok (.goto (-16), 3) := by decide +kernel
theorem d_Model_depth_21 : decode prog_9_method_42_code 21 = .ok (.bipush 50, 2) := by decide +kernel
theorem d_Model_depth_23 : decode prog_9_method_42_code 23 = .ok (.istore_n 2, 1) := by decide +kernel
theorem d_Model_depth_24 : decode prog_9_method_42_code 24 = .ok (.iload_n 1, 1) := by decide +kernel
theorem d_Model_depth_25 : decode prog_9_method_42_code 25 = .ok (.istore_n 3, 1) := by decide +kernel
theorem d_Model_depth_26 : decode prog_9_method_42_code 26 = .ok (.iload_n 3, 1) := by decide +kernel
theorem d_Model_depth_27 : decode prog_9_method_42_code 27 = .ok (.iconst 1, 1) := by decide +kernel
theorem d_Model_depth_28 : decode prog_9_method_42_code 28 = .ok (.iadd, 1) := by decide +kernel
theorem d_Model_depth_29 : decode prog_9_method_42_code 29 = .ok (.aload_n 0, 1) := by decide +kernel
theorem d_Model_depth_30 : decode prog_9_method_42_code 30 = .ok (.getfield 59, 3) := by decide +kernel
theorem d_Model_depth_33 : decode prog_9_method_42_code 33 = .ok (.if_icmp .ge 41, 3) := by decide +kernel
theorem d_Model_depth_36 : decode prog_9_method_42_code 36 = .ok (.iload_n 2, 1) := by decide +kernel
theorem d_Model_depth_37 : decode prog_9_method_42_code 37 = .ok (.ifCond .le 37, 3) := by decide +kernel
theorem d_Model_depth_40 : decode prog_9_method_42_code 40 = .ok (.aload_n 0, 1) := by decide +kernel
theorem d_Model_depth_41 : decode prog_9_method_42_code 41 = .ok (.getfield 39, 3) := by decide +kernel
theorem d_Model_depth_44 : decode prog_9_method_42_code 44 = .ok (.iload_n 3, 1) := by decide +kernel
theorem d_Model_depth_45 : decode prog_9_method_42_code 45 = .ok (.iaload, 1) := by decide +kernel
theorem d_Model_depth_46 : decode prog_9_method_42_code 46 = .ok (.iload_n 2, 1) := by decide +kernel
theorem d_Model_depth_47 : decode prog_9_method_42_code 47 = .ok (.if_icmp .ge 12, 3) := by decide +kernel
theorem d_Model_depth_50 : decode prog_9_method_42_code 50 = .ok (.aload_n 0, 1) := by decide +kernel
theorem d_Model_depth_51 : decode prog_9_method_42_code 51 = .ok (.getfield 39, 3) := by decide +kernel
theorem d_Model_depth_54 : decode prog_9_method_42_code 54 = .ok (.iload_n 3, 1) := by decide +kernel
theorem d_Model_depth_55 : decode prog_9_method_42_code 55 = .ok (.iaload, 1) := by decide +kernel
theorem d_Model_depth_56 : decode prog_9_method_42_code 56 = .ok (.goto 4, 3) := by decide +kernel
theorem d_Model_depth_59 : decode prog_9_method_42_code 59 = .ok (.iload_n 2, 1) := by decide +kernel
theorem d_Model_depth_60 : decode prog_9_method_42_code 60 = .ok (.istore_n 2, 1) := by decide +kernel
theorem d_Model_depth_61 : decode prog_9_method_42_code 61 = .ok (.aload_n 0, 1) := by decide +kernel
theorem d_Model_depth_62 : decode prog_9_method_42_code 62 = .ok (.getfield 42, 3) := by decide +kernel
theorem d_Model_depth_65 : decode prog_9_method_42_code 65 = .ok (.iload_n 2, 1) := by decide +kernel
theorem d_Model_depth_66 : decode prog_9_method_42_code 66 = .ok (.iconst 1, 1) := by decide +kernel
theorem d_Model_depth_67 : decode prog_9_method_42_code 67 = .ok (.iastore, 1) := by decide +kernel
theorem d_Model_depth_68 : decode prog_9_method_42_code 68 = .ok (.iinc 3 1, 3) := by decide +kernel
theorem d_Model_depth_71 : decode prog_9_method_42_code 71 = .ok (.goto (-45), 3) := by decide +kernel
theorem d_Model_depth_74 : decode prog_9_method_42_code 74 = .ok (.bipush 50, 2) := by decide +kernel
theorem d_Model_depth_76 : decode prog_9_method_42_code 76 = .ok (.istore_n 2, 1) := by decide +kernel
theorem d_Model_depth_77 : decode prog_9_method_42_code 77 = .ok (.iload_n 1, 1) := by decide +kernel
theorem d_Model_depth_78 : decode prog_9_method_42_code 78 = .ok (.iconst 1, 1) := by decide +kernel
theorem d_Model_depth_79 : decode prog_9_method_42_code 79 = .ok (.isub, 1) := by decide +kernel
theorem d_Model_depth_80 : decode prog_9_method_42_code 80 = .ok (.istore_n 3, 1) := by decide +kernel
theorem d_Model_depth_81 : decode prog_9_method_42_code 81 = .ok (.iload_n 3, 1) := by decide +kernel
theorem d_Model_depth_82 : decode prog_9_method_42_code 82 = .ok (.ifCond .lt 41, 3) := by decide +kernel
theorem d_Model_depth_85 : decode prog_9_method_42_code 85 = .ok (.iload_n 2, 1) := by decide +kernel
theorem d_Model_depth_86 : decode prog_9_method_42_code 86 = .ok (.ifCond .le 37, 3) := by decide +kernel
theorem d_Model_depth_89 : decode prog_9_method_42_code 89 = .ok (.aload_n 0, 1) := by decide +kernel
theorem d_Model_depth_90 : decode prog_9_method_42_code 90 = .ok (.getfield 39, 3) := by decide +kernel
theorem d_Model_depth_93 : decode prog_9_method_42_code 93 = .ok (.iload_n 3, 1) := by decide +kernel
theorem d_Model_depth_94 : decode prog_9_method_42_code 94 = .ok (.iaload, 1) := by decide +kernel
theorem d_Model_depth_95 : decode prog_9_method_42_code 95 = .ok (.iload_n 2, 1) := by decide +kernel
theorem d_Model_depth_96 : decode prog_9_method_42_code 96 = .ok (.if_icmp .ge 12, 3) := by decide +kernel
theorem d_Model_depth_99 : decode prog_9_method_42_code 99 = .ok (.aload_n 0, 1) := by decide +kernel
theorem d_Model_depth_100 : decode prog_9_method_42_code 100 = .ok (.getfield 39, 3) := by decide +kernel
theorem d_Model_depth_103 : decode prog_9_method_42_code 103 = .ok (.iload_n 3, 1) := by decide +kernel
theorem d_Model_depth_104 : decode prog_9_method_42_code 104 = .ok (.iaload, 1) := by decide +kernel
theorem d_Model_depth_105 : decode prog_9_method_42_code 105 = .ok (.goto 4, 3) := by decide +kernel
theorem d_Model_depth_108 : decode prog_9_method_42_code 108 = .ok (.iload_n 2, 1) := by decide +kernel
theorem d_Model_depth_109 : decode prog_9_method_42_code 109 = .ok (.istore_n 2, 1) := by decide +kernel
theorem d_Model_depth_110 : decode prog_9_method_42_code 110 = .ok (.aload_n 0, 1) := by decide +kernel
theorem d_Model_depth_111 : decode prog_9_method_42_code 111 = .ok (.getfield 42, 3) := by decide +kernel
theorem d_Model_depth_114 : decode prog_9_method_42_code 114 = .ok (.iload_n 2, 1) := by decide +kernel
theorem d_Model_depth_115 : decode prog_9_method_42_code 115 = .ok (.iconst 1, 1) := by decide +kernel
theorem d_Model_depth_116 : decode prog_9_method_42_code 116 = .ok (.iastore, 1) := by decide +kernel
theorem d_Model_depth_117 : decode prog_9_method_42_code 117 = .ok (.iinc 3 (-1), 3) := by decide +kernel
theorem d_Model_depth_120 : decode prog_9_method_42_code 120 = .ok (.goto (-39), 3) := by decide +kernel
theorem d_Model_depth_123 : decode prog_9_method_42_code 123 = .ok (.iconst 0, 1) := by decide +kernel
theorem d_Model_depth_124 : decode prog_9_method_42_code 124 = .ok (.istore_n 3, 1) := by decide +kernel
theorem d_Model_depth_125 : decode prog_9_method_42_code 125 = .ok (.iconst 0, 1) := by decide +kernel
theorem d_Model_depth_126 : decode prog_9_method_42_code 126 = .ok (.istore 4, 2) := by decide +kernel
theorem d_Model_depth_128 : decode prog_9_method_42_code 128 = .ok (.iload 4, 2) := by decide +kernel
theorem d_Model_depth_130 : decode prog_9_method_42_code 130 = .ok (.bipush 50, 2) := by decide +kernel
theorem d_Model_depth_132 : decode prog_9_method_42_code 132 = .ok (.if_icmp .ge 19, 3) := by decide +kernel
theorem d_Model_depth_135 : decode prog_9_method_42_code 135 = .ok (.iload_n 3, 1) := by decide +kernel
theorem d_Model_depth_136 : decode prog_9_method_42_code 136 = .ok (.aload_n 0, 1) := by decide +kernel
theorem d_Model_depth_137 : decode prog_9_method_42_code 137 = .ok (.getfield 42, 3) := by decide +kernel
theorem d_Model_depth_140 : decode prog_9_method_42_code 140 = .ok (.iload 4, 2) := by decide +kernel
theorem d_Model_depth_142 : decode prog_9_method_42_code 142 = .ok (.iaload, 1) := by decide +kernel
theorem d_Model_depth_143 : decode prog_9_method_42_code 143 = .ok (.iadd, 1) := by decide +kernel
theorem d_Model_depth_144 : decode prog_9_method_42_code 144 = .ok (.istore_n 3, 1) := by decide +kernel
theorem d_Model_depth_145 : decode prog_9_method_42_code 145 = .ok (.iinc 4 1, 3) := by decide +kernel
theorem d_Model_depth_148 : decode prog_9_method_42_code 148 = .ok (.goto (-20), 3) := by decide +kernel
theorem d_Model_depth_151 : decode prog_9_method_42_code 151 = .ok (.iload_n 3, 1) := by decide +kernel
theorem d_Model_depth_152 : decode prog_9_method_42_code 152 = .ok (.ireturn, 1) := by decide +kernel
theorem d_Model_compact_0 : decode prog_9_method_43_code 0 = .ok (.aload_n 0, 1) := by decide +kernel
theorem d_Model_compact_1 : decode prog_9_method_43_code 1 = .ok (.iconst 0, 1) := by decide +kernel
theorem d_Model_compact_2 : decode prog_9_method_43_code 2 = .ok (.putfield 52, 3) := by decide +kernel
theorem d_Model_compact_5 : decode prog_9_method_43_code 5 = .ok (.aload_n 0, 1) := by decide +kernel
theorem d_Model_compact_6 : decode prog_9_method_43_code 6 = .ok (.invokevirtual 124, 3) := by decide +kernel
theorem d_Model_compact_9 : decode prog_9_method_43_code 9 = .ok (.iconst 0, 1) := by decide +kernel
theorem d_Model_compact_10 : decode prog_9_method_43_code 10 = .ok (.istore_n 1, 1) := by decide +kernel
theorem d_Model_compact_11 : decode prog_9_method_43_code 11 = .ok (.iconst 0, 1) := by decide +kernel
theorem d_Model_compact_12 : decode prog_9_method_43_code 12 = .ok (.istore_n 2, 1) := by decide +kernel
theorem d_Model_compact_13 : decode prog_9_method_43_code 13 = .ok (.iload_n 2, 1) := by decide +kernel
theorem d_Model_compact_14 : decode prog_9_method_43_code 14 = .ok (.aload_n 0, 1) := by decide +kernel
theorem d_Model_compact_15 : decode prog_9_method_43_code 15 = .ok (.getfield 59, 3) := by decide +kernel
theorem d_Model_compact_18 : decode prog_9_method_43_code 18 = .ok (.if_icmp .ge 97, 3) := by decide +kernel
theorem d_Model_compact_21 : decode prog_9_method_43_code 21 = .ok (.iload_n 1, 1) := by decide +kernel
theorem d_Model_compact_22 : decode prog_9_method_43_code 22 = .ok (.iconst 4, 1) := by decide +kernel
theorem d_Model_compact_23 : decode prog_9_method_43_code 23 = .ok (.aload_n 0, 1) := by decide +kernel
theorem d_Model_compact_24 : decode prog_9_method_43_code 24 = .ok (.aload_n 0, 1) := by decide +kernel
theorem d_Model_compact_25 : decode prog_9_method_43_code 25 = .ok (.getfield 33, 3) := by decide +kernel
theorem d_Model_compact_28 : decode prog_9_method_43_code 28 = .ok (.aload_n 0, 1) := by decide +kernel
theorem d_Model_compact_29 : decode prog_9_method_43_code 29 = .ok (.getfield 27, 3) := by decide +kernel
theorem d_Model_compact_32 : decode prog_9_method_43_code 32 = .ok (.iload_n 2, 1) := by decide +kernel
theorem d_Model_compact_33 : decode prog_9_method_43_code 33 = .ok (.iaload, 1) := by decide +kernel
theorem d_Model_compact_34 : decode prog_9_method_43_code 34 = .ok (.invokevirtual 120, 3) := by decide +kernel
theorem d_Model_compact_37 : decode prog_9_method_43_code 37 = .ok (.iconst 3, 1) := by decide +kernel
theorem d_Model_compact_38 : decode prog_9_method_43_code 38 = .ok (.iadd, 1) := by decide +kernel
theorem d_Model_compact_39 : decode prog_9_method_43_code 39 = .ok (.iconst 4, 1) := by decide +kernel
theorem d_Model_compact_40 : decode prog_9_method_43_code 40 = .ok (.idiv, 1) := by decide +kernel
theorem d_Model_compact_41 : decode prog_9_method_43_code 41 = .ok (.iadd, 1) := by decide +kernel
theorem d_Model_compact_42 : decode prog_9_method_43_code 42 = .ok (.iadd, 1) := by decide +kernel
theorem d_Model_compact_43 : decode prog_9_method_43_code 43 = .ok (.istore_n 1, 1) := by decide +kernel
theorem d_Model_compact_44 : decode prog_9_method_43_code 44 = .ok (.iload_n 2, 1) := by decide +kernel
theorem d_Model_compact_45 : decode prog_9_method_43_code 45 = .ok (.iconst 1, 1) := by decide +kernel
theorem d_Model_compact_46 : decode prog_9_method_43_code 46 = .ok (.iadd, 1) := by decide +kernel
theorem d_Model_compact_47 : decode prog_9_method_43_code 47 = .ok (.aload_n 0, 1) := by decide +kernel
theorem d_Model_compact_48 : decode prog_9_method_43_code 48 = .ok (.getfield 59, 3) := by decide +kernel
theorem d_Model_compact_51 : decode prog_9_method_43_code 51 = .ok (.if_icmp .eq 58, 3) := by decide +kernel
theorem d_Model_compact_54 : decode prog_9_method_43_code 54 = .ok (.aload_n 0, 1) := by decide +kernel
theorem d_Model_compact_55 : decode prog_9_method_43_code 55 = .ok (.iload_n 2, 1) := by decide +kernel
theorem d_Model_compact_56 : decode prog_9_method_43_code 56 = .ok (.invokevirtual 127, 3) := by decide +kernel
theorem d_Model_compact_59 : decode prog_9_method_43_code 59 = .ok (.ifCond .ne 6, 3) := by decide +kernel
theorem d_Model_compact_62 : decode prog_9_method_43_code 62 = .ok (.goto 47, 3) := by decide +kernel
theorem d_Model_compact_65 : decode prog_9_method_43_code 65 = .ok (.aload_n 0, 1) := by decide +kernel
theorem d_Model_compact_66 : decode prog_9_method_43_code 66 = .ok (.iload_n 2, 1) := by decide +kernel
theorem d_Model_compact_67 : decode prog_9_method_43_code 67 = .ok (.invokevirtual 130, 3) := by decide +kernel
theorem d_Model_compact_70 : decode prog_9_method_43_code 70 = .ok (.invokestatic 133, 3) := by decide +kernel
theorem d_Model_compact_73 : decode prog_9_method_43_code 73 = .ok (.istore_n 3, 1) := by decide +kernel
theorem d_Model_compact_74 : decode prog_9_method_43_code 74 = .ok (.iload_n 1, 1) := by decide +kernel
theorem d_Model_compact_75 : decode prog_9_method_43_code 75 = .ok (.iload_n 3, 1) := by decide +kernel
theorem d_Model_compact_76 : decode prog_9_method_43_code 76 = .ok (.ifCond .ne 8, 3) := by decide +kernel
theorem d_Model_compact_79 : decode prog_9_method_43_code 79 = .ok (.bipush 9, 2) := by decide +kernel
theorem d_Model_compact_81 : decode prog_9_method_43_code 81 = .ok (.goto 26, 3) := by decide +kernel
theorem d_Model_compact_84 : decode prog_9_method_43_code 84 = .ok (.iload_n 3, 1) := by decide +kernel
theorem d_Model_compact_85 : decode prog_9_method_43_code 85 = .ok (.iconst 1, 1) := by decide +kernel
theorem d_Model_compact_86 : decode prog_9_method_43_code 86 = .ok (.if_icmp .ne 8, 3) := by decide +kernel
theorem d_Model_compact_89 : decode prog_9_method_43_code 89 = .ok (.bipush 24, 2) := by decide +kernel
theorem d_Model_compact_91 : decode prog_9_method_43_code 91 = .ok (.goto 16, 3) := by decide +kernel
theorem d_Model_compact_94 : decode prog_9_method_43_code 94 = .ok (.iload_n 3, 1) := by decide +kernel
theorem d_Model_compact_95 : decode prog_9_method_43_code 95 = .ok (.iconst 2, 1) := by decide +kernel
theorem d_Model_compact_96 : decode prog_9_method_43_code 96 = .ok (.if_icmp .ne 8, 3) := by decide +kernel
theorem d_Model_compact_99 : decode prog_9_method_43_code 99 = .ok (.bipush 116, 2) := by decide +kernel
theorem d_Model_compact_101 : decode prog_9_method_43_code 101 = .ok (.goto 6, 3) := by decide +kernel
theorem d_Model_compact_104 : decode prog_9_method_43_code 104 = .ok (.sipush 260, 3) := by decide +kernel
theorem d_Model_compact_107 : decode prog_9_method_43_code 107 = .ok (.iadd, 1) := by decide +kernel
theorem d_Model_compact_108 : decode prog_9_method_43_code 108 = .ok (.istore_n 1, 1) := by decide +kernel
theorem d_Model_compact_109 : decode prog_9_method_43_code 109 = .ok (.iinc 2 1, 3) := by decide +kernel
theorem d_Model_compact_112 : decode prog_9_method_43_code 112 = .ok (.goto (-99), 3) := by decide +kernel
theorem d_Model_compact_115 : decode prog_9_method_43_code 115 = .ok (.iload_n 1, 1) := by decide +kernel
theorem d_Model_compact_116 : decode prog_9_method_43_code 116 = .ok (.ireturn, 1) := by decide +kernel
theorem d_Model_branches_0 : decode prog_9_method_44_code 0 = .ok (.iconst 0, 1) := by decide +kernel
theorem d_Model_branches_1 : decode prog_9_method_44_code 1 = .ok (.istore_n 2, 1) := by decide +kernel
theorem d_Model_branches_2 : decode prog_9_method_44_code 2 = .ok (.iconst 0, 1) := by decide +kernel
theorem d_Model_branches_3 : decode prog_9_method_44_code 3 = .ok (.istore_n 3, 1) := by decide +kernel
theorem d_Model_branches_4 : decode prog_9_method_44_code 4 = .ok (.iload_n 3, 1) := by decide +kernel
theorem d_Model_branches_5 : decode prog_9_method_44_code 5 = .ok (.iconst 1, 1) := by decide +kernel
theorem d_Model_branches_6 : decode prog_9_method_44_code 6 = .ok (.iadd, 1) := by decide +kernel
theorem d_Model_branches_7 : decode prog_9_method_44_code 7 = .ok (.aload_n 0, 1) := by decide +kernel
theorem d_Model_branches_8 : decode prog_9_method_44_code 8 = .ok (.getfield 59, 3) := by decide +kernel
theorem d_Model_branches_11 : decode prog_9_method_44_code 11 = .ok (.if_icmp .ge 37, 3) := by decide +kernel
theorem d_Model_branches_14 : decode prog_9_method_44_code 14 = .ok (.iload_n 2, 1) := by decide +kernel
theorem d_Model_branches_15 : decode prog_9_method_44_code 15 = .ok (.aload_n 0, 1) := by decide +kernel
theorem d_Model_branches_16 : decode prog_9_method_44_code 16 = .ok (.iload_n 3, 1) := by decide +kernel
theorem d_Model_branches_17 : decode prog_9_method_44_code 17 = .ok (.invokevirtual 127, 3) := by decide +kernel
theorem d_Model_branches_20 : decode prog_9_method_44_code 20 = .ok (.ifCond .eq 19, 3) := by decide +kernel
theorem d_Model_branches_23 : decode prog_9_method_44_code 23 = .ok (.aload_n 0, 1) := by decide +kernel
theorem d_Model_branches_24 : decode prog_9_method_44_code 24 = .ok (.iload_n 3, 1) := by decide +kernel
theorem d_Model_branches_25 : decode prog_9_method_44_code 25 = .ok (.invokevirtual 130, 3) := by decide +kernel
theorem d_Model_branches_28 : decode prog_9_method_44_code 28 = .ok (.invokestatic 133, 3) := by decide +kernel
theorem d_Model_branches_31 : decode prog_9_method_44_code 31 = .ok (.iload_n 1, 1) := by decide +kernel
theorem d_Model_branches_32 : decode prog_9_method_44_code 32 = .ok (.if_icmp .ne 7, 3) := by decide +kernel
theorem d_Model_branches_35 : decode prog_9_method_44_code 35 = .ok (.iconst 1, 1) := by decide +kernel
theorem d_Model_branches_36 : decode prog_9_method_44_code 36 = .ok (.goto 4, 3) := by decide +kernel
theorem d_Model_branches_39 : decode prog_9_method_44_code 39 = .ok (.iconst 0, 1) := by decide +kernel
theorem d_Model_branches_40 : decode prog_9_method_44_code 40 = .ok (.iadd, 1) := by decide +kernel
theorem d_Model_branches_41 : decode prog_9_method_44_code 41 = .ok (.istore_n 2, 1) := by decide +kernel
theorem d_Model_branches_42 : decode prog_9_method_44_code 42 = .ok (.iinc 3 1, 3) := by decide +kernel
theorem d_Model_branches_45 : decode prog_9_method_44_code 45 = .ok (.goto (-41), 3) := by decide +kernel
theorem d_Model_branches_48 : decode prog_9_method_44_code 48 = .ok (.iload_n 2, 1) := by decide +kernel
theorem d_Model_branches_49 : decode prog_9_method_44_code 49 = .ok (.ireturn, 1) := by decide +kernel
theorem d_Model_deepest_0 : decode prog_9_method_45_code 0 = .ok (.iconst 0, 1) := by decide +kernel
theorem d_Model_deepest_1 : decode prog_9_method_45_code 1 = .ok (.istore_n 1, 1) := by decide +kernel
theorem d_Model_deepest_2 : decode prog_9_method_45_code 2 = .ok (.iconst 0, 1) := by decide +kernel
theorem d_Model_deepest_3 : decode prog_9_method_45_code 3 = .ok (.istore_n 2, 1) := by decide +kernel
theorem d_Model_deepest_4 : decode prog_9_method_45_code 4 = .ok (.iload_n 2, 1) := by decide +kernel
theorem d_Model_deepest_5 : decode prog_9_method_45_code 5 = .ok (.aload_n 0, 1) := by decide +kernel
theorem d_Model_deepest_6 : decode prog_9_method_45_code 6 = .ok (.getfield 59, 3) := by decide +kernel
theorem d_Model_deepest_9 : decode prog_9_method_45_code 9 = .ok (.if_icmp .ge 26, 3) := by decide +kernel
theorem d_Model_deepest_12 : decode prog_9_method_45_code 12 = .ok (.aload_n 0, 1) := by decide +kernel
theorem d_Model_deepest_13 : decode prog_9_method_45_code 13 = .ok (.iload_n 2, 1) := by decide +kernel
theorem d_Model_deepest_14 : decode prog_9_method_45_code 14 = .ok (.invokevirtual 136, 3) := by decide +kernel
theorem d_Model_deepest_17 : decode prog_9_method_45_code 17 = .ok (.istore_n 3, 1) := by decide +kernel
theorem d_Model_deepest_18 : decode prog_9_method_45_code 18 = .ok (.iload_n 3, 1) := by decide +kernel
theorem d_Model_deepest_19 : decode prog_9_method_45_code 19 = .ok (.iload_n 1, 1) := by decide +kernel
theorem d_Model_deepest_20 : decode prog_9_method_45_code 20 = .ok (.if_icmp .le 7, 3) := by decide +kernel
theorem d_Model_deepest_23 : decode prog_9_method_45_code 23 = .ok (.iload_n 3, 1) := by decide +kernel
theorem d_Model_deepest_24 : decode prog_9_method_45_code 24 = .ok (.goto 4, 3) := by decide +kernel
theorem d_Model_deepest_27 : decode prog_9_method_45_code 27 = .ok (.iload_n 1, 1) := by decide +kernel
theorem d_Model_deepest_28 : decode prog_9_method_45_code 28 = .ok (.istore_n 1, 1) := by decide +kernel
theorem d_Model_deepest_29 : decode prog_9_method_45_code 29 = .ok (.iinc 2 1, 3) := by decide +kernel
theorem d_Model_deepest_32 : decode prog_9_method_45_code 32 = .ok (.goto (-28), 3) := by decide +kernel
theorem d_Model_deepest_35 : decode prog_9_method_45_code 35 = .ok (.iload_n 1, 1) := by decide +kernel
theorem d_Model_deepest_36 : decode prog_9_method_45_code 36 = .ok (.ireturn, 1) := by decide +kernel
theorem d_Model_about_0 : decode prog_9_method_46_code 0 = .ok (.aload_n 0, 1) := by decide +kernel
theorem d_Model_about_1 : decode prog_9_method_46_code 1 = .ok (.iload_n 1, 1) := by decide +kernel
theorem d_Model_about_2 : decode prog_9_method_46_code 2 = .ok (.ifCond .lt 9, 3) := by decide +kernel
theorem d_Model_about_5 : decode prog_9_method_46_code 5 = .ok (.iload_n 1, 1) := by decide +kernel
theorem d_Model_about_6 : decode prog_9_method_46_code 6 = .ok (.bipush 7, 2) := by decide +kernel
theorem d_Model_about_8 : decode prog_9_method_46_code 8 = .ok (.if_icmp .le 7, 3) := by decide +kernel
theorem d_Model_about_11 : decode prog_9_method_46_code 11 = .ok (.iconst 1, 1) := by decide +kernel
theorem d_Model_about_12 : decode prog_9_method_46_code 12 = .ok (.goto 4, 3) := by decide +kernel
theorem d_Model_about_15 : decode prog_9_method_46_code 15 = .ok (.iconst 0, 1) := by decide +kernel
theorem d_Model_about_16 : decode prog_9_method_46_code 16 = .ok (.iconst 1, 1) := by decide +kernel
theorem d_Model_about_17 : decode prog_9_method_46_code 17 = .ok (.invokevirtual 70, 3) := by decide +kernel
theorem d_Model_about_20 : decode prog_9_method_46_code 20 = .ok (.ifCond .eq 5, 3) := by decide +kernel
theorem d_Model_about_23 : decode prog_9_method_46_code 23 = .ok (.iconst 0, 1) := by decide +kernel
theorem d_Model_about_24 : decode prog_9_method_46_code 24 = .ok (.ireturn, 1) := by decide +kernel
theorem d_Model_about_25 : decode prog_9_method_46_code 25 = .ok (.iload_n 1, 1) := by decide +kernel
theorem d_Model_about_26 : decode prog_9_method_46_code 26 = .ok (.ifCond .ne 8, 3) := by decide +kernel
theorem d_Model_about_29 : decode prog_9_method_46_code 29 = .ok (.aload_n 0, 1) := by decide +kernel
theorem d_Model_about_30 : decode prog_9_method_46_code 30 = .ok (.getfield 59, 3) := by decide +kernel
theorem d_Model_about_33 : decode prog_9_method_46_code 33 = .ok (.ireturn, 1) := by decide +kernel
theorem d_Model_about_34 : decode prog_9_method_46_code 34 = .ok (.aload_n 0, 1) := by decide +kernel
theorem d_Model_about_35 : decode prog_9_method_46_code 35 = .ok (.invokevirtual 124, 3) := by decide +kernel
theorem d_Model_about_38 : decode prog_9_method_46_code 38 = .ok (.iload_n 1, 1) := by decide +kernel
theorem d_Model_about_39 : decode prog_9_method_46_code 39 = .ok (.iconst 5, 1) := by decide +kernel
theorem d_Model_about_40 : decode prog_9_method_46_code 40 = .ok (.if_icmp .ge 11, 3) := by decide +kernel
theorem d_Model_about_43 : decode prog_9_method_46_code 43 = .ok (.aload_n 0, 1) := by decide +kernel
theorem d_Model_about_44 : decode prog_9_method_46_code 44 = .ok (.iload_n 1, 1) := by decide +kernel
theorem d_Model_about_45 : decode prog_9_method_46_code 45 = .ok (.iconst 1, 1) := by decide +kernel
theorem d_Model_about_46 : decode prog_9_method_46_code 46 = .ok (.isub, 1) := by decide +kernel
theorem d_Model_about_47 : decode prog_9_method_46_code 47 = .ok (.invokevirtual 139, 3) := by decide +kernel
theorem d_Model_about_50 : decode prog_9_method_46_code 50 = .ok (.ireturn, 1) := by decide +kernel
theorem d_Model_about_51 : decode prog_9_method_46_code 51 = .ok (.iload_n 1, 1) := by decide +kernel
theorem d_Model_about_52 : decode prog_9_method_46_code 52 = .ok (.iconst 5, 1) := by decide +kernel
theorem d_Model_about_53 : decode prog_9_method_46_code 53 = .ok (.if_icmp .ne 8, 3) := by decide +kernel
theorem d_Model_about_56 : decode prog_9_method_46_code 56 = .ok (.aload_n 0, 1) := by decide +kernel
theorem d_Model_about_57 : decode prog_9_method_46_code 57 = .ok (.invokevirtual 142, 3) := by decide +kernel
theorem d_Model_about_60 : decode prog_9_method_46_code 60 = .ok (.ireturn, 1) := by decide +kernel
theorem d_Model_about_61 : decode prog_9_method_46_code 61 = .ok (.aload_n 0, 1) := by decide +kernel
theorem d_Model_about_62 : decode prog_9_method_46_code 62 = .ok (.sipush 1500, 3) := by decide +kernel
theorem d_Model_about_65 : decode prog_9_method_46_code 65 = .ok (.invokevirtual 83, 3) := by decide +kernel
theorem d_Model_about_68 : decode prog_9_method_46_code 68 = .ok (.istore_n 2, 1) := by decide +kernel
theorem d_Model_about_69 : decode prog_9_method_46_code 69 = .ok (.iload_n 1, 1) := by decide +kernel
theorem d_Model_about_70 : decode prog_9_method_46_code 70 = .ok (.bipush 6, 2) := by decide +kernel
theorem d_Model_about_72 : decode prog_9_method_46_code 72 = .ok (.if_icmp .ne 24, 3) := by decide +kernel
theorem d_Model_about_75 : decode prog_9_method_46_code 75 = .ok (.aload_n 0, 1) := by decide +kernel
theorem d_Model_about_76 : decode prog_9_method_46_code 76 = .ok (.iload_n 2, 1) := by decide +kernel
theorem d_Model_about_77 : decode prog_9_method_46_code 77 = .ok (.sipush 1500, 3) := by decide +kernel
theorem d_Model_about_80 : decode prog_9_method_46_code 80 = .ok (.invokevirtual 87, 3) := by decide +kernel
theorem d_Model_about_83 : decode prog_9_method_46_code 83 = .ok (.ifCond .eq 11, 3) := by decide +kernel
theorem d_Model_about_86 : decode prog_9_method_46_code 86 = .ok (.aload_n 0, 1) := by decide +kernel
theorem d_Model_about_87 : decode prog_9_method_46_code 87 = .ok (.iload_n 2, 1) := by decide +kernel
theorem d_Model_about_88 : decode prog_9_method_46_code 88 = .ok (.invokevirtual 136, 3) := by decide +kernel
theorem d_Model_about_91 : decode prog_9_method_46_code 91 = .ok (.goto 4, 3) := by decide +kernel
theorem d_Model_about_94 : decode prog_9_method_46_code 94 = .ok (.iconst (-1), 1) := by decide +kernel
theorem d_Model_about_95 : decode prog_9_method_46_code 95 = .ok (.ireturn, 1) := by decide +kernel
theorem d_Model_about_96 : decode prog_9_method_46_code 96 = .ok (.iconst 0, 1) := by decide +kernel
theorem d_Model_about_97 : decode prog_9_method_46_code 97 = .ok (.istore_n 3, 1) := by decide +kernel
theorem d_Model_about_98 : decode prog_9_method_46_code 98 = .ok (.iconst 0, 1) := by decide +kernel
theorem d_Model_about_99 : decode prog_9_method_46_code 99 = .ok (.istore 4, 2) := by decide +kernel
theorem d_Model_about_101 : decode prog_9_method_46_code 101 = .ok (.iload 4, 2) := by decide +kernel
theorem d_Model_about_103 : decode prog_9_method_46_code 103 = .ok (.iconst 1, 1) := by decide +kernel
theorem d_Model_about_104 : decode prog_9_method_46_code 104 = .ok (.iadd, 1) := by decide +kernel
theorem d_Model_about_105 : decode prog_9_method_46_code 105 = .ok (.aload_n 0, 1) := by decide +kernel
theorem d_Model_about_106 : decode prog_9_method_46_code 106 = .ok (.getfield 59, 3) := by decide +kernel
theorem d_Model_about_109 : decode prog_9_method_46_code 109 = .ok (.if_icmp .ge 27, 3) := by decide +kernel
theorem d_Model_about_112 : decode prog_9_method_46_code 112 = .ok (.iload_n 3, 1) := by decide +kernel
theorem d_Model_about_113 : decode prog_9_method_46_code 113 = .ok (.aload_n 0, 1) := by decide +kernel
theorem d_Model_about_114 : decode prog_9_method_46_code 114 = .ok (.getfield 39, 3) := by decide +kernel
theorem d_Model_about_117 : decode prog_9_method_46_code 117 = .ok (.iload 4, 2) := by decide +kernel
theorem d_Model_about_119 : decode prog_9_method_46_code 119 = .ok (.iaload, 1) := by decide +kernel
theorem d_Model_about_120 : decode prog_9_method_46_code 120 = .ok (.ifCond .ne 7, 3) := by decide +kernel
theorem d_Model_about_123 : decode prog_9_method_46_code 123 = .ok (.iconst 1, 1) := by decide +kernel
theorem d_Model_about_124 : decode prog_9_method_46_code 124 = .ok (.goto 4, 3) := by decide +kernel
theorem d_Model_about_127 : decode prog_9_method_46_code 127 = .ok (.iconst 0, 1) := by decide +kernel
theorem d_Model_about_128 : decode prog_9_method_46_code 128 = .ok (.iadd, 1) := by decide +kernel
theorem d_Model_about_129 : decode prog_9_method_46_code 129 = .ok (.istore_n 3, 1) := by decide +kernel
theorem d_Model_about_130 : decode prog_9_method_46_code 130 = .ok (.iinc 4 1, 3) := by decide +kernel
theorem d_Model_about_133 : decode prog_9_method_46_code 133 = .ok (.goto (-32), 3) := by decide +kernel
theorem d_Model_about_136 : decode prog_9_method_46_code 136 = .ok (.iload_n 3, 1) := by decide +kernel
theorem d_Model_about_137 : decode prog_9_method_46_code 137 = .ok (.ifCond .le 9, 3) := by decide +kernel
theorem d_Model_about_140 : decode prog_9_method_46_code 140 = .ok (.iload_n 3, 1) := by decide +kernel
theorem d_Model_about_141 : decode prog_9_method_46_code 141 = .ok (.iconst 1, 1) := by decide +kernel
theorem d_Model_about_142 : decode prog_9_method_46_code 142 = .ok (.iadd, 1) := by decide +kernel
theorem d_Model_about_143 : decode prog_9_method_46_code 143 = .ok (.goto 4, 3) := by decide +kernel
theorem d_Model_about_146 : decode prog_9_method_46_code 146 = .ok (.iconst 0, 1) := by decide +kernel
theorem d_Model_about_147 : decode prog_9_method_46_code 147 = .ok (.ireturn, 1) := by decide +kernel
