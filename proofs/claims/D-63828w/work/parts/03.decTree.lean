theorem d_Tree_init_0 : decode prog_7_method_1_code 0 = .ok (.aload_n 0, 1) := by decide +kernel
theorem d_Tree_init_1 : decode prog_7_method_1_code 1 = .ok (.invokespecial 3, 3) := by decide +kernel
theorem d_Tree_init_4 : decode prog_7_method_1_code 4 = .ok (.aload_n 0, 1) := by decide +kernel
theorem d_Tree_init_5 : decode prog_7_method_1_code 5 = .ok (.sipush 2048, 3) := by decide +kernel
theorem d_Tree_init_8 : decode prog_7_method_1_code 8 = .ok (.newarray .int, 2) := by decide +kernel
theorem d_Tree_init_10 : decode prog_7_method_1_code 10 = .ok (.putfield 9, 3) := by decide +kernel
theorem d_Tree_init_13 : decode prog_7_method_1_code 13 = .ok (.aload_n 0, 1) := by decide +kernel
theorem d_Tree_init_14 : decode prog_7_method_1_code 14 = .ok (.iconst 1, 1) := by decide +kernel
theorem d_Tree_init_15 : decode prog_7_method_1_code 15 = .ok (.newarray .int, 2) := by decide +kernel
theorem d_Tree_init_17 : decode prog_7_method_1_code 17 = .ok (.putfield 15, 3) := by decide +kernel
theorem d_Tree_init_20 : decode prog_7_method_1_code 20 = .ok (.aload_n 0, 1) := by decide +kernel
theorem d_Tree_init_21 : decode prog_7_method_1_code 21 = .ok (.iconst 1, 1) := by decide +kernel
theorem d_Tree_init_22 : decode prog_7_method_1_code 22 = .ok (.putfield 18, 3) := by decide +kernel
theorem d_Tree_init_25 : decode prog_7_method_1_code 25 = .ok (.aload_n 0, 1) := by decide +kernel
theorem d_Tree_init_26 : decode prog_7_method_1_code 26 = .ok (.sipush 261, 3) := by decide +kernel
theorem d_Tree_init_29 : decode prog_7_method_1_code 29 = .ok (.newarray .int, 2) := by decide +kernel
theorem d_Tree_init_31 : decode prog_7_method_1_code 31 = .ok (.putfield 22, 3) := by decide +kernel
theorem d_Tree_init_34 : decode prog_7_method_1_code 34 = .ok (.aload_n 0, 1) := by decide +kernel
theorem d_Tree_init_35 : decode prog_7_method_1_code 35 = .ok (.new 25, 3) := by decide +kernel
theorem d_Tree_init_38 : decode prog_7_method_1_code 38 = .ok (.dup, 1) := by decide +kernel
theorem d_Tree_init_39 : decode prog_7_method_1_code 39 = .ok (.iconst 0, 1) := by decide +kernel
theorem d_Tree_init_40 : decode prog_7_method_1_code 40 = .ok (.iconst 4, 1) := by decide +kernel
theorem d_Tree_init_41 : decode prog_7_method_1_code 41 = .ok (.invokespecial 27, 3) := by decide +kernel
theorem d_Tree_init_44 : decode prog_7_method_1_code 44 = .ok (.putfield 30, 3) := by decide +kernel
theorem d_Tree_init_47 : decode prog_7_method_1_code 47 = .ok (.aload_n 0, 1) := by decide +kernel
theorem d_Tree_init_48 : decode prog_7_method_1_code 48 = .ok (.new 25, 3) := by decide +kernel
theorem d_Tree_init_51 : decode prog_7_method_1_code 51 = .ok (.dup, 1) := by decide +kernel
theorem d_Tree_init_52 : decode prog_7_method_1_code 52 = .ok (.iconst 1, 1) := by decide +kernel
theorem d_Tree_init_53 : decode prog_7_method_1_code 53 = .ok (.bipush 16, 2) := by decide +kernel
theorem d_Tree_init_55 : decode prog_7_method_1_code 55 = .ok (.invokespecial 27, 3) := by decide +kernel
theorem d_Tree_init_58 : decode prog_7_method_1_code 58 = .ok (.putfield 34, 3) := by decide +kernel
theorem d_Tree_init_61 : decode prog_7_method_1_code 61 = .ok (.aload_n 0, 1) := by decide +kernel
theorem d_Tree_init_62 : decode prog_7_method_1_code 62 = .ok (.new 37, 3) := by decide +kernel
theorem d_Tree_init_65 : decode prog_7_method_1_code 65 = .ok (.dup, 1) := by decide +kernel
theorem d_Tree_init_66 : decode prog_7_method_1_code 66 = .ok (.invokespecial 39, 3) := by decide +kernel
theorem d_Tree_init_69 : decode prog_7_method_1_code 69 = .ok (.putfield 40, 3) := by decide +kernel
theorem d_Tree_init_72 : decode prog_7_method_1_code 72 = .ok (.aload_n 0, 1) := by decide +kernel
theorem d_Tree_init_73 : decode prog_7_method_1_code 73 = .ok (.new 43, 3) := by decide +kernel
theorem d_Tree_init_76 : decode prog_7_method_1_code 76 = .ok (.dup, 1) := by decide +kernel
theorem d_Tree_init_77 : decode prog_7_method_1_code 77 = .ok (.invokespecial 45, 3) := by decide +kernel
theorem d_Tree_init_80 : decode prog_7_method_1_code 80 = .ok (.putfield 46, 3) := by decide +kernel
theorem d_Tree_init_83 : decode prog_7_method_1_code 83 = .ok (.aload_n 0, 1) := by decide +kernel
theorem d_Tree_init_84 : decode prog_7_method_1_code 84 = .ok (.iconst 4, 1) := by decide +kernel
theorem d_Tree_init_85 : decode prog_7_method_1_code 85 = .ok (.newarray .int, 2) := by decide +kernel
theorem d_Tree_init_87 : decode prog_7_method_1_code 87 = .ok (.putfield 49, 3) := by decide +kernel
theorem d_Tree_init_90 : decode prog_7_method_1_code 90 = .ok (.aload_n 0, 1) := by decide +kernel
theorem d_Tree_init_91 : decode prog_7_method_1_code 91 = .ok (.new 52, 3) := by decide +kernel
theorem d_Tree_init_94 : decode prog_7_method_1_code 94 = .ok (.dup, 1) := by decide +kernel
theorem d_Tree_init_95 : decode prog_7_method_1_code 95 = .ok (.iconst 0, 1) := by decide +kernel
theorem d_Tree_init_96 : decode prog_7_method_1_code 96 = .ok (.invokespecial 54, 3) := by decide +kernel
theorem d_Tree_init_99 : decode prog_7_method_1_code 99 = .ok (.putfield 57, 3) := by decide +kernel
theorem d_Tree_init_102 : decode prog_7_method_1_code 102 = .ok (.aload_n 0, 1) := by decide +kernel
theorem d_Tree_init_103 : decode prog_7_method_1_code 103 = .ok (.new 52, 3) := by decide +kernel
theorem d_Tree_init_106 : decode prog_7_method_1_code 106 = .ok (.dup, 1) := by decide +kernel
theorem d_Tree_init_107 : decode prog_7_method_1_code 107 = .ok (.iconst 0, 1) := by decide +kernel
theorem d_Tree_init_108 : decode prog_7_method_1_code 108 = .ok (.invokespecial 54, 3) := by decide +kernel
theorem d_Tree_init_111 : decode prog_7_method_1_code 111 = .ok (.putfield 61, 3) := by decide +kernel
theorem d_Tree_init_114 : decode prog_7_method_1_code 114 = .ok (.return_, 1) := by decide +kernel
theorem d_Tree_room_0 : decode prog_7_method_2_code 0 = .ok (.aload_n 0, 1) := by decide +kernel
theorem d_Tree_room_1 : decode prog_7_method_2_code 1 = .ok (.getfield 22, 3) := by decide +kernel
theorem d_Tree_room_4 : decode prog_7_method_2_code 4 = .ok (.iload_n 1, 1) := by decide +kernel
theorem d_Tree_room_5 : decode prog_7_method_2_code 5 = .ok (.iaload, 1) := by decide +kernel
theorem d_Tree_room_6 : decode prog_7_method_2_code 6 = .ok (.istore_n 2, 1) := by decide +kernel
theorem d_Tree_room_7 : decode prog_7_method_2_code 7 = .ok (.iload_n 2, 1) := by decide +kernel
theorem d_Tree_room_8 : decode prog_7_method_2_code 8 = .ok (.ifCond .le 18, 3) := by decide +kernel
theorem d_Tree_room_11 : decode prog_7_method_2_code 11 = .ok (.aload_n 0, 1) := by decide +kernel
theorem d_Tree_room_12 : decode prog_7_method_2_code 12 = .ok (.getfield 22, 3) := by decide +kernel
theorem d_Tree_room_15 : decode prog_7_method_2_code 15 = .ok (.iload_n 1, 1) := by decide +kernel
theorem d_Tree_room_16 : decode prog_7_method_2_code 16 = .ok (.aload_n 0, 1) := by decide +kernel
theorem d_Tree_room_17 : decode prog_7_method_2_code 17 = .ok (.getfield 9, 3) := by decide +kernel
theorem d_Tree_room_20 : decode prog_7_method_2_code 20 = .ok (.iload_n 2, 1) := by decide +kernel
theorem d_Tree_room_21 : decode prog_7_method_2_code 21 = .ok (.iaload, 1) := by decide +kernel
theorem d_Tree_room_22 : decode prog_7_method_2_code 22 = .ok (.iastore, 1) := by decide +kernel
theorem d_Tree_room_23 : decode prog_7_method_2_code 23 = .ok (.goto 62, 3) := by decide +kernel
theorem d_Tree_room_26 : decode prog_7_method_2_code 26 = .ok (.aload_n 0, 1) := by decide +kernel
theorem d_Tree_room_27 : decode prog_7_method_2_code 27 = .ok (.getfield 9, 3) := by decide +kernel
theorem d_Tree_room_30 : decode prog_7_method_2_code 30 = .ok (.arraylength, 1) := by decide +kernel
theorem d_Tree_room_31 : decode prog_7_method_2_code 31 = .ok (.istore_n 3, 1) := by decide +kernel
theorem d_Tree_room_32 : decode prog_7_method_2_code 32 = .ok (.aload_n 0, 1) := by decide +kernel
theorem d_Tree_room_33 : decode prog_7_method_2_code 33 = .ok (.getfield 18, 3) := by decide +kernel
theorem d_Tree_room_36 : decode prog_7_method_2_code 36 = .ok (.iload_n 1, 1) := by decide +kernel
theorem d_Tree_room_37 : decode prog_7_method_2_code 37 = .ok (.iadd, 1) := by decide +kernel
theorem d_Tree_room_38 : decode prog_7_method_2_code 38 = .ok (.iload_n 3, 1) := by decide +kernel
theorem d_Tree_room_39 : decode prog_7_method_2_code 39 = .ok (.if_icmp .le 10, 3) := by decide +kernel
theorem d_Tree_room_42 : decode prog_7_method_2_code 42 = .ok (.iconst 2, 1) := by decide +kernel
theorem d_Tree_room_43 : decode prog_7_method_2_code 43 = .ok (.iload_n 3, 1) := by decide +kernel
theorem d_Tree_room_44 : decode prog_7_method_2_code 44 = .ok (.imul, 1) := by decide +kernel
theorem d_Tree_room_45 : decode prog_7_method_2_code 45 = .ok (.istore_n 3, 1) := by decide +kernel
theorem d_Tree_room_46 : decode prog_7_method_2_code 46 = .ok (.goto (-14), 3) := by decide +kernel
theorem d_Tree_room_49 : decode prog_7_method_2_code 49 = .ok (.iload_n 3, 1) := by decide +kernel
theorem d_Tree_room_50 : decode prog_7_method_2_code 50 = .ok (.aload_n 0, 1) := by decide +kernel
theorem d_Tree_room_51 : decode prog_7_method_2_code 51 = .ok (.getfield 9, 3) := by decide +kernel
theorem d_Tree_room_54 : decode prog_7_method_2_code 54 = .ok (.arraylength, 1) := by decide +kernel
theorem d_Tree_room_55 : decode prog_7_method_2_code 55 = .ok (.if_icmp .le 15, 3) := by decide +kernel
theorem d_Tree_room_58 : decode prog_7_method_2_code 58 = .ok (.aload_n 0, 1) := by decide +kernel
theorem d_Tree_room_59 : decode prog_7_method_2_code 59 = .ok (.aload_n 0, 1) := by decide +kernel
theorem d_Tree_room_60 : decode prog_7_method_2_code 60 = .ok (.getfield 9, 3) := by decide +kernel
theorem d_Tree_room_63 : decode prog_7_method_2_code 63 = .ok (.iload_n 3, 1) := by decide +kernel
theorem d_Tree_room_64 : decode prog_7_method_2_code 64 = .ok (.invokestatic 64, 3) := by decide +kernel
theorem d_Tree_room_67 : decode prog_7_method_2_code 67 = .ok (.putfield 9, 3) := by decide +kernel
theorem d_Tree_room_70 : decode prog_7_method_2_code 70 = .ok (.aload_n 0, 1) := by decide +kernel
theorem d_Tree_room_71 : decode prog_7_method_2_code 71 = .ok (.getfield 18, 3) := by decide +kernel
theorem d_Tree_room_74 : decode prog_7_method_2_code 74 = .ok (.istore_n 2, 1) := by decide +kernel
theorem d_Tree_room_75 : decode prog_7_method_2_code 75 = .ok (.aload_n 0, 1) := by decide +kernel
theorem d_Tree_room_76 : decode prog_7_method_2_code 76 = .ok (.dup, 1) := by decide +kernel
theorem d_Tree_room_77 : decode prog_7_method_2_code 77 = .ok (.getfield 18, 3) := by decide +kernel
theorem d_Tree_room_80 : decode prog_7_method_2_code 80 = .ok (.iload_n 1, 1) := by decide +kernel
theorem d_Tree_room_81 : decode prog_7_method_2_code 81 = .ok (.iadd, 1) := by decide +kernel
theorem d_Tree_room_82 : decode prog_7_method_2_code 82 = .ok (.putfield 18, 3) := by decide +kernel
theorem d_Tree_room_85 : decode prog_7_method_2_code 85 = .ok (.iconst 0, 1) := by decide +kernel
theorem d_Tree_room_86 : decode prog_7_method_2_code 86 = .ok (.istore_n 3, 1) := by decide +kernel
theorem d_Tree_room_87 : decode prog_7_method_2_code 87 = .ok (.iload_n 3, 1) := by decide +kernel
theorem d_Tree_room_88 : decode prog_7_method_2_code 88 = .ok (.iload_n 1, 1) := by decide +kernel
theorem d_Tree_room_89 : decode prog_7_method_2_code 89 = .ok (.if_icmp .ge 18, 3) := by decide +kernel
theorem d_Tree_room_92 : decode prog_7_method_2_code 92 = .ok (.aload_n 0, 1) := by decide +kernel
theorem d_Tree_room_93 : decode prog_7_method_2_code 93 = .ok (.getfield 9, 3) := by decide +kernel
theorem d_Tree_room_96 : decode prog_7_method_2_code 96 = .ok (.iload_n 2, 1) := by decide +kernel
theorem d_Tree_room_97 : decode prog_7_method_2_code 97 = .ok (.iload_n 3, 1) := by decide +kernel
theorem d_Tree_room_98 : decode prog_7_method_2_code 98 = .ok (.iadd, 1) := by decide +kernel
theorem d_Tree_room_99 : decode prog_7_method_2_code 99 = .ok (.iconst 0, 1) := by decide +kernel
theorem d_Tree_room_100 : decode prog_7_method_2_code 100 = .ok (.iastore, 1) := by decide +kernel
theorem d_Tree_room_101 : decode prog_7_method_2_code 101 = .ok (.iinc 3 1, 3) := by decide +kernel
theorem d_Tree_room_104 : decode prog_7_method_2_code 104 = .ok (.goto (-17), 3) := by decide +kernel
theorem d_Tree_room_107 : decode prog_7_method_2_code 107 = .ok (.iload_n 2, 1) := by decide +kernel
theorem d_Tree_room_108 : decode prog_7_method_2_code 108 = .ok (.ireturn, 1) := by decide +kernel
theorem d_Tree_release_0 : decode prog_7_method_3_code 0 = .ok (.aload_n 0, 1) := by decide +kernel
theorem d_Tree_release_1 : decode prog_7_method_3_code 1 = .ok (.getfield 9, 3) := by decide +kernel
theorem d_Tree_release_4 : decode prog_7_method_3_code 4 = .ok (.iload_n 1, 1) := by decide +kernel
theorem d_Tree_release_5 : decode prog_7_method_3_code 5 = .ok (.aload_n 0, 1) := by decide +kernel
theorem d_Tree_release_6 : decode prog_7_method_3_code 6 = .ok (.getfield 22, 3) := by decide +kernel
theorem d_Tree_release_9 : decode prog_7_method_3_code 9 = .ok (.iload_n 2, 1) := by decide +kernel
theorem d_Tree_release_10 : decode prog_7_method_3_code 10 = .ok (.iaload, 1) := by decide +kernel
theorem d_Tree_release_11 : decode prog_7_method_3_code 11 = .ok (.iastore, 1) := by decide +kernel
theorem d_Tree_release_12 : decode prog_7_method_3_code 12 = .ok (.aload_n 0, 1) := by decide +kernel
theorem d_Tree_release_13 : decode prog_7_method_3_code 13 = .ok (.getfield 22, 3) := by decide +kernel
theorem d_Tree_release_16 : decode prog_7_method_3_code 16 = .ok (.iload_n 2, 1) := by decide +kernel
theorem d_Tree_release_17 : decode prog_7_method_3_code 17 = .ok (.iload_n 1, 1) := by decide +kernel
theorem d_Tree_release_18 : decode prog_7_method_3_code 18 = .ok (.iastore, 1) := by decide +kernel
theorem d_Tree_release_19 : decode prog_7_method_3_code 19 = .ok (.return_, 1) := by decide +kernel
theorem d_Tree_clear_0 : decode prog_7_method_4_code 0 = .ok (.aload_n 0, 1) := by decide +kernel
theorem d_Tree_clear_1 : decode prog_7_method_4_code 1 = .ok (.iconst 0, 1) := by decide +kernel
theorem d_Tree_clear_2 : decode prog_7_method_4_code 2 = .ok (.putfield 70, 3) := by decide +kernel
theorem d_Tree_clear_5 : decode prog_7_method_4_code 5 = .ok (.aload_n 0, 1) := by decide +kernel
theorem d_Tree_clear_6 : decode prog_7_method_4_code 6 = .ok (.iconst 1, 1) := by decide +kernel
theorem d_Tree_clear_7 : decode prog_7_method_4_code 7 = .ok (.putfield 18, 3) := by decide +kernel
theorem d_Tree_clear_10 : decode prog_7_method_4_code 10 = .ok (.iconst 0, 1) := by decide +kernel
theorem d_Tree_clear_11 : decode prog_7_method_4_code 11 = .ok (.istore_n 1, 1) := by decide +kernel
theorem d_Tree_clear_12 : decode prog_7_method_4_code 12 = .ok (.iload_n 1, 1) := by decide +kernel
theorem d_Tree_clear_13 : decode prog_7_method_4_code 13 = .ok (.sipush 260, 3) := by decide +kernel
theorem d_Tree_clear_16 : decode prog_7_method_4_code 16 = .ok (.if_icmp .gt 16, 3) := by decide +kernel
theorem d_Tree_clear_19 : decode prog_7_method_4_code 19 = .ok (.aload_n 0, 1) := by decide +kernel
theorem d_Tree_clear_20 : decode prog_7_method_4_code 20 = .ok (.getfield 22, 3) := by decide +kernel
theorem d_Tree_clear_23 : decode prog_7_method_4_code 23 = .ok (.iload_n 1, 1) := by decide +kernel
theorem d_Tree_clear_24 : decode prog_7_method_4_code 24 = .ok (.iconst 0, 1) := by decide +kernel
theorem d_Tree_clear_25 : decode prog_7_method_4_code 25 = .ok (.iastore, 1) := by decide +kernel
theorem d_Tree_clear_26 : decode prog_7_method_4_code 26 = .ok (.iinc 1 1, 3) := by decide +kernel
theorem d_Tree_clear_29 : decode prog_7_method_4_code 29 = .ok (.goto (-17), 3) := by decide +kernel
theorem d_Tree_clear_32 : decode prog_7_method_4_code 32 = .ok (.iconst 0, 1) := by decide +kernel
theorem d_Tree_clear_33 : decode prog_7_method_4_code 33 = .ok (.istore_n 1, 1) := by decide +kernel
theorem d_Tree_clear_34 : decode prog_7_method_4_code 34 = .ok (.iload_n 1, 1) := by decide +kernel
theorem d_Tree_clear_35 : decode prog_7_method_4_code 35 = .ok (.iconst 4, 1) := by decide +kernel
theorem d_Tree_clear_36 : decode prog_7_method_4_code 36 = .ok (.if_icmp .ge 16, 3) := by decide +kernel
theorem d_Tree_clear_39 : decode prog_7_method_4_code 39 = .ok (.aload_n 0, 1) := by decide +kernel
theorem d_Tree_clear_40 : decode prog_7_method_4_code 40 = .ok (.getfield 49, 3) := by decide +kernel
theorem d_Tree_clear_43 : decode prog_7_method_4_code 43 = .ok (.iload_n 1, 1) := by decide +kernel
theorem d_Tree_clear_44 : decode prog_7_method_4_code 44 = .ok (.iconst 0, 1) := by decide +kernel
theorem d_Tree_clear_45 : decode prog_7_method_4_code 45 = .ok (.iastore, 1) := by decide +kernel
theorem d_Tree_clear_46 : decode prog_7_method_4_code 46 = .ok (.iinc 1 1, 3) := by decide +kernel
theorem d_Tree_clear_49 : decode prog_7_method_4_code 49 = .ok (.goto (-15), 3) := by decide +kernel
theorem d_Tree_clear_52 : decode prog_7_method_4_code 52 = .ok (.return_, 1) := by decide +kernel
theorem d_Tree_shape_0 : decode prog_7_method_5_code 0 = .ok (.iload_n 1, 1) := by decide +kernel
theorem d_Tree_shape_1 : decode prog_7_method_5_code 1 = .ok (.tableswitch 42 0 2 #[27, 32, 37], 27) := by decide +kernel
theorem d_Tree_shape_28 : decode prog_7_method_5_code 28 = .ok (.aload_n 0, 1) := by decide +kernel
theorem d_Tree_shape_29 : decode prog_7_method_5_code 29 = .ok (.getfield 30, 3) := by decide +kernel
theorem d_Tree_shape_32 : decode prog_7_method_5_code 32 = .ok (.areturn, 1) := by decide +kernel
theorem d_Tree_shape_33 : decode prog_7_method_5_code 33 = .ok (.aload_n 0, 1) := by decide +kernel
theorem d_Tree_shape_34 : decode prog_7_method_5_code 34 = .ok (.getfield 34, 3) := by decide +kernel
theorem d_Tree_shape_37 : decode prog_7_method_5_code 37 = .ok (.areturn, 1) := by decide +kernel
theorem d_Tree_shape_38 : decode prog_7_method_5_code 38 = .ok (.aload_n 0, 1) := by decide +kernel
theorem d_Tree_shape_39 : decode prog_7_method_5_code 39 = .ok (.getfield 40, 3) := by decide +kernel
theorem d_Tree_shape_42 : decode prog_7_method_5_code 42 = .ok (.areturn, 1) := by decide +kernel
theorem d_Tree_shape_43 : decode prog_7_method_5_code 43 = .ok (.aload_n 0, 1) := by decide +kernel
theorem d_Tree_shape_44 : decode prog_7_method_5_code 44 = .ok (.getfield 46, 3) := by decide +kernel
theorem d_Tree_shape_47 : decode prog_7_method_5_code 47 = .ok (.areturn, 1) := by decide +kernel
theorem d_Tree_shapeOf_0 : decode prog_7_method_6_code 0 = .ok (.aload_n 0, 1) := by decide +kernel
theorem d_Tree_shapeOf_1 : decode prog_7_method_6_code 1 = .ok (.aload_n 0, 1) := by decide +kernel
theorem d_Tree_shapeOf_2 : decode prog_7_method_6_code 2 = .ok (.getfield 9, 3) := by decide +kernel
theorem d_Tree_shapeOf_5 : decode prog_7_method_6_code 5 = .ok (.iload_n 1, 1) := by decide +kernel
theorem d_Tree_shapeOf_6 : decode prog_7_method_6_code 6 = .ok (.iaload, 1) := by decide +kernel
theorem d_Tree_shapeOf_7 : decode prog_7_method_6_code 7 = .ok (.invokevirtual 73, 3) := by decide +kernel
theorem d_Tree_shapeOf_10 : decode prog_7_method_6_code 10 = .ok (.areturn, 1) := by decide +kernel
theorem d_Tree_branch_0 : decode prog_7_method_7_code 0 = .ok (.aload_n 0, 1) := by decide +kernel
theorem d_Tree_branch_1 : decode prog_7_method_7_code 1 = .ok (.aload_n 0, 1) := by decide +kernel
theorem d_Tree_branch_2 : decode prog_7_method_7_code 2 = .ok (.iload_n 1, 1) := by decide +kernel
theorem d_Tree_branch_3 : decode prog_7_method_7_code 3 = .ok (.invokevirtual 73, 3) := by decide +kernel
theorem d_Tree_branch_6 : decode prog_7_method_7_code 6 = .ok (.getfield 77, 3) := by decide +kernel
theorem d_Tree_branch_9 : decode prog_7_method_7_code 9 = .ok (.invokevirtual 82, 3) := by decide +kernel
theorem d_Tree_branch_12 : decode prog_7_method_7_code 12 = .ok (.istore_n 3, 1) := by decide +kernel
theorem d_Tree_branch_13 : decode prog_7_method_7_code 13 = .ok (.aload_n 0, 1) := by decide +kernel
theorem d_Tree_branch_14 : decode prog_7_method_7_code 14 = .ok (.getfield 9, 3) := by decide +kernel
theorem d_Tree_branch_17 : decode prog_7_method_7_code 17 = .ok (.iload_n 3, 1) := by decide +kernel
theorem d_Tree_branch_18 : decode prog_7_method_7_code 18 = .ok (.iload_n 1, 1) := by decide +kernel
theorem d_Tree_branch_19 : decode prog_7_method_7_code 19 = .ok (.iastore, 1) := by decide +kernel
theorem d_Tree_branch_20 : decode prog_7_method_7_code 20 = .ok (.aload_n 0, 1) := by decide +kernel
theorem d_Tree_branch_21 : decode prog_7_method_7_code 21 = .ok (.getfield 9, 3) := by decide +kernel
theorem d_Tree_branch_24 : decode prog_7_method_7_code 24 = .ok (.iload_n 3, 1) := by decide +kernel
theorem d_Tree_branch_25 : decode prog_7_method_7_code 25 = .ok (.iconst 3, 1) := by decide +kernel
theorem d_Tree_branch_26 : decode prog_7_method_7_code 26 = .ok (.iadd, 1) := by decide +kernel
theorem d_Tree_branch_27 : decode prog_7_method_7_code 27 = .ok (.iload_n 2, 1) := by decide +kernel
theorem d_Tree_branch_28 : decode prog_7_method_7_code 28 = .ok (.iastore, 1) := by decide +kernel
theorem d_Tree_branch_29 : decode prog_7_method_7_code 29 = .ok (.aload_n 0, 1) := by decide +kernel
theorem d_Tree_branch_30 : decode prog_7_method_7_code 30 = .ok (.getfield 49, 3) := by decide +kernel
theorem d_Tree_branch_33 : decode prog_7_method_7_code 33 = .ok (.iload_n 1, 1) := by decide +kernel
theorem d_Tree_branch_34 : decode prog_7_method_7_code 34 = .ok (.dup2, 1) := by decide +kernel
theorem d_Tree_branch_35 : decode prog_7_method_7_code 35 = .ok (.iaload, 1) := by decide +kernel
theorem d_Tree_branch_36 : decode prog_7_method_7_code 36 = .ok (.iconst 1, 1) := by decide +kernel
theorem d_Tree_branch_37 : decode prog_7_method_7_code 37 = .ok (.iadd, 1) := by decide +kernel
theorem d_Tree_branch_38 : decode prog_7_method_7_code 38 = .ok (.iastore, 1) := by decide +kernel
theorem d_Tree_branch_39 : decode prog_7_method_7_code 39 = .ok (.iload_n 3, 1) := by decide +kernel
theorem d_Tree_branch_40 : decode prog_7_method_7_code 40 = .ok (.ireturn, 1) := by decide +kernel
theorem d_Tree_leafCells_0 : decode prog_7_method_8_code 0 = .ok (.iconst 4, 1) := by decide +kernel
theorem d_Tree_leafCells_1 : decode prog_7_method_8_code 1 = .ok (.iload_n 0, 1) := by decide +kernel
theorem d_Tree_leafCells_2 : decode prog_7_method_8_code 2 = .ok (.iconst 3, 1) := by decide +kernel
theorem d_Tree_leafCells_3 : decode prog_7_method_8_code 3 = .ok (.iadd, 1) := by decide +kernel
theorem d_Tree_leafCells_4 : decode prog_7_method_8_code 4 = .ok (.iconst 4, 1) := by decide +kernel
theorem d_Tree_leafCells_5 : decode prog_7_method_8_code 5 = .ok (.idiv, 1) := by decide +kernel
theorem d_Tree_leafCells_6 : decode prog_7_method_8_code 6 = .ok (.iadd, 1) := by decide +kernel
theorem d_Tree_leafCells_7 : decode prog_7_method_8_code 7 = .ok (.ireturn, 1) := by decide +kernel
theorem d_Tree_leaf_0 : decode prog_7_method_9_code 0 = .ok (.aload_n 0, 1) := by decide +kernel
theorem d_Tree_leaf_1 : decode prog_7_method_9_code 1 = .ok (.aload_n 1, 1) := by decide +kernel
theorem d_Tree_leaf_2 : decode prog_7_method_9_code 2 = .ok (.getfield 86, 3) := by decide +kernel
theorem d_Tree_leaf_5 : decode prog_7_method_9_code 5 = .ok (.invokestatic 89, 3) := by decide +kernel
theorem d_Tree_leaf_8 : decode prog_7_method_9_code 8 = .ok (.invokevirtual 82, 3) := by decide +kernel
theorem d_Tree_leaf_11 : decode prog_7_method_9_code 11 = .ok (.istore 5, 2) := by decide +kernel
theorem d_Tree_leaf_13 : decode prog_7_method_9_code 13 = .ok (.aload_n 0, 1) := by decide +kernel
theorem d_Tree_leaf_14 : decode prog_7_method_9_code 14 = .ok (.getfield 9, 3) := by decide +kernel
theorem d_Tree_leaf_17 : decode prog_7_method_9_code 17 = .ok (.iload 5, 2) := by decide +kernel
theorem d_Tree_leaf_19 : decode prog_7_method_9_code 19 = .ok (.aload_n 1, 1) := by decide +kernel
theorem d_Tree_leaf_20 : decode prog_7_method_9_code 20 = .ok (.getfield 86, 3) := by decide +kernel
theorem d_Tree_leaf_23 : decode prog_7_method_9_code 23 = .ok (.iastore, 1) := by decide +kernel
theorem d_Tree_leaf_24 : decode prog_7_method_9_code 24 = .ok (.aload_n 0, 1) := by decide +kernel
theorem d_Tree_leaf_25 : decode prog_7_method_9_code 25 = .ok (.getfield 9, 3) := by decide +kernel
theorem d_Tree_leaf_28 : decode prog_7_method_9_code 28 = .ok (.iload 5, 2) := by decide +kernel
theorem d_Tree_leaf_30 : decode prog_7_method_9_code 30 = .ok (.iconst 3, 1) := by decide +kernel
theorem d_Tree_leaf_31 : decode prog_7_method_9_code 31 = .ok (.iadd, 1) := by decide +kernel
theorem d_Tree_leaf_32 : decode prog_7_method_9_code 32 = .ok (.iload 4, 2) := by decide +kernel
theorem d_Tree_leaf_34 : decode prog_7_method_9_code 34 = .ok (.ifCond .eq 7, 3) := by decide +kernel
theorem d_Tree_leaf_37 : decode prog_7_method_9_code 37 = .ok (.iconst 1, 1) := by decide +kernel
theorem d_Tree_leaf_38 : decode prog_7_method_9_code 38 = .ok (.goto 4, 3) := by decide +kernel
theorem d_Tree_leaf_41 : decode prog_7_method_9_code 41 = .ok (.iconst 0, 1) := by decide +kernel
theorem d_Tree_leaf_42 : decode prog_7_method_9_code 42 = .ok (.iastore, 1) := by decide +kernel
theorem d_Tree_leaf_43 : decode prog_7_method_9_code 43 = .ok (.iconst 0, 1) := by decide +kernel
theorem d_Tree_leaf_44 : decode prog_7_method_9_code 44 = .ok (.istore 6, 2) := by decide +kernel
theorem d_Tree_leaf_46 : decode prog_7_method_9_code 46 = .ok (.iload 6, 2) := by decide +kernel
theorem d_Tree_leaf_48 : decode prog_7_method_9_code 48 = .ok (.aload_n 1, 1) := by decide +kernel
theorem d_Tree_leaf_49 : decode prog_7_method_9_code 49 = .ok (.getfield 86, 3) := by decide +kernel
theorem d_Tree_leaf_52 : decode prog_7_method_9_code 52 = .ok (.if_icmp .ge 43, 3) := by decide +kernel
theorem d_Tree_leaf_55 : decode prog_7_method_9_code 55 = .ok (.aload_n 0, 1) := by decide +kernel
theorem d_Tree_leaf_56 : decode prog_7_method_9_code 56 = .ok (.getfield 9, 3) := by decide +kernel
theorem d_Tree_leaf_59 : decode prog_7_method_9_code 59 = .ok (.iload 5, 2) := by decide +kernel
theorem d_Tree_leaf_61 : decode prog_7_method_9_code 61 = .ok (.iconst 4, 1) := by decide +kernel
theorem d_Tree_leaf_62 : decode prog_7_method_9_code 62 = .ok (.iadd, 1) := by decide +kernel
theorem d_Tree_leaf_63 : decode prog_7_method_9_code 63 = .ok (.iload 6, 2) := by decide +kernel
theorem d_Tree_leaf_65 : decode prog_7_method_9_code 65 = .ok (.iconst 4, 1) := by decide +kernel
theorem d_Tree_leaf_66 : decode prog_7_method_9_code 66 = .ok (.idiv, 1) := by decide +kernel
theorem d_Tree_leaf_67 : decode prog_7_method_9_code 67 = .ok (.iadd, 1) := by decide +kernel
theorem d_Tree_leaf_68 : decode prog_7_method_9_code 68 = .ok (.dup2, 1) := by decide +kernel
theorem d_Tree_leaf_69 : decode prog_7_method_9_code 69 = .ok (.iaload, 1) := by decide +kernel
theorem d_Tree_leaf_70 : decode prog_7_method_9_code 70 = .ok (.aload_n 1, 1) := by decide +kernel
theorem d_Tree_leaf_71 : decode prog_7_method_9_code 71 = .ok (.iload 6, 2) := by decide +kernel
theorem d_Tree_leaf_73 : decode prog_7_method_9_code 73 = .ok (.invokevirtual 92, 3) := by decide +kernel
theorem d_Tree_leaf_76 : decode prog_7_method_9_code 76 = .ok (.bipush 24, 2) := by decide +kernel
theorem d_Tree_leaf_78 : decode prog_7_method_9_code 78 = .ok (.bipush 8, 2) := by decide +kernel
theorem d_Tree_leaf_80 : decode prog_7_method_9_code 80 = .ok (.iload 6, 2) := by decide +kernel
theorem d_Tree_leaf_82 : decode prog_7_method_9_code 82 = .ok (.iconst 4, 1) := by decide +kernel
theorem d_Tree_leaf_83 : decode prog_7_method_9_code 83 = .ok (.irem, 1) := by decide +kernel
theorem d_Tree_leaf_84 : decode prog_7_method_9_code 84 = .ok (.imul, 1) := by decide +kernel
theorem d_Tree_leaf_85 : decode prog_7_method_9_code 85 = .ok (.isub, 1) := by decide +kernel
theorem d_Tree_leaf_86 : decode prog_7_method_9_code 86 = .ok (.ishl, 1) := by decide +kernel
theorem d_Tree_leaf_87 : decode prog_7_method_9_code 87 = .ok (.ior, 1) := by decide +kernel
theorem d_Tree_leaf_88 : decode prog_7_method_9_code 88 = .ok (.iastore, 1) := by decide +kernel
theorem d_Tree_leaf_89 : decode prog_7_method_9_code 89 = .ok (.iinc 6 1, 3) := by decide +kernel
theorem d_Tree_leaf_92 : decode prog_7_method_9_code 92 = .ok (.goto (-46), 3) := by decide +kernel
theorem d_Tree_leaf_95 : decode prog_7_method_9_code 95 = .ok (.aload_n 0, 1) := by decide +kernel
theorem d_Tree_leaf_96 : decode prog_7_method_9_code 96 = .ok (.iload 5, 2) := by decide +kernel
theorem d_Tree_leaf_98 : decode prog_7_method_9_code 98 = .ok (.ineg, 1) := by decide +kernel
theorem d_Tree_leaf_99 : decode prog_7_method_9_code 99 = .ok (.lload_n 2, 1) := by decide +kernel
theorem d_Tree_leaf_100 : decode prog_7_method_9_code 100 = .ok (.invokevirtual 95, 3) := by decide +kernel
theorem d_Tree_leaf_103 : decode prog_7_method_9_code 103 = .ok (.iload 5, 2) := by decide +kernel
theorem d_Tree_leaf_105 : decode prog_7_method_9_code 105 = .ok (.ineg, 1) := by decide +kernel
theorem d_Tree_leaf_106 : decode prog_7_method_9_code 106 = .ok (.ireturn, 1) := by decide +kernel
theorem d_Tree_setValue_0 : decode prog_7_method_10_code 0 = .ok (.aload_n 0, 1) := by decide +kernel
theorem d_Tree_setValue_1 : decode prog_7_method_10_code 1 = .ok (.getfield 9, 3) := by decide +kernel
theorem d_Tree_setValue_4 : decode prog_7_method_10_code 4 = .ok (.iconst 1, 1) := by decide +kernel
theorem d_Tree_setValue_5 : decode prog_7_method_10_code 5 = .ok (.iload_n 1, 1) := by decide +kernel
theorem d_Tree_setValue_6 : decode prog_7_method_10_code 6 = .ok (.isub, 1) := by decide +kernel
theorem d_Tree_setValue_7 : decode prog_7_method_10_code 7 = .ok (.lload_n 2, 1) := by decide +kernel
theorem d_Tree_setValue_8 : decode prog_7_method_10_code 8 = .ok (.bipush 32, 2) := by decide +kernel
theorem d_Tree_setValue_10 : decode prog_7_method_10_code 10 = .ok (.lshr, 1) := by decide +kernel
theorem d_Tree_setValue_11 : decode prog_7_method_10_code 11 = .ok (.l2i, 1) := by decide +kernel
theorem d_Tree_setValue_12 : decode prog_7_method_10_code 12 = .ok (.iastore, 1) := by decide +kernel
theorem d_Tree_setValue_13 : decode prog_7_method_10_code 13 = .ok (.aload_n 0, 1) := by decide +kernel
theorem d_Tree_setValue_14 : decode prog_7_method_10_code 14 = .ok (.getfield 9, 3) := by decide +kernel
theorem d_Tree_setValue_17 : decode prog_7_method_10_code 17 = .ok (.iconst 2, 1) := by decide +kernel
theorem d_Tree_setValue_18 : decode prog_7_method_10_code 18 = .ok (.iload_n 1, 1) := by decide +kernel
theorem d_Tree_setValue_19 : decode prog_7_method_10_code 19 = .ok (.isub, 1) := by decide +kernel
theorem d_Tree_setValue_20 : decode prog_7_method_10_code 20 = .ok (.lload_n 2, 1) := by decide +kernel
theorem d_Tree_setValue_21 : decode prog_7_method_10_code 21 = .ok (.l2i, 1) := by decide +kernel
theorem d_Tree_setValue_22 : decode prog_7_method_10_code 22 = .ok (.iastore, 1) := by decide +kernel
theorem d_Tree_setValue_23 : decode prog_7_method_10_code 23 = .ok (.return_, 1) := by decide +kernel
theorem d_Tree_value_0 : decode prog_7_method_11_code 0 = .ok (.aload_n 0, 1) := by decide +kernel
theorem d_Tree_value_1 : decode prog_7_method_11_code 1 = .ok (.getfield 9, 3) := by decide +kernel
theorem d_Tree_value_4 : decode prog_7_method_11_code 4 = .ok (.iconst 1, 1) := by decide +kernel
theorem d_Tree_value_5 : decode prog_7_method_11_code 5 = .ok (.iload_n 1, 1) := by decide +kernel
theorem d_Tree_value_6 : decode prog_7_method_11_code 6 = .ok (.isub, 1) := by decide +kernel
theorem d_Tree_value_7 : decode prog_7_method_11_code 7 = .ok (.iaload, 1) := by decide +kernel
theorem d_Tree_value_8 : decode prog_7_method_11_code 8 = .ok (.i2l, 1) := by decide +kernel
theorem d_Tree_value_9 : decode prog_7_method_11_code 9 = .ok (.bipush 32, 2) := by decide +kernel
theorem d_Tree_value_11 : decode prog_7_method_11_code 11 = .ok (.lshl, 1) := by decide +kernel
theorem d_Tree_value_12 : decode prog_7_method_11_code 12 = .ok (.aload_n 0, 1) := by decide +kernel
theorem d_Tree_value_13 : decode prog_7_method_11_code 13 = .ok (.getfield 9, 3) := by decide +kernel
theorem d_Tree_value_16 : decode prog_7_method_11_code 16 = .ok (.iconst 2, 1) := by decide +kernel
theorem d_Tree_value_17 : decode prog_7_method_11_code 17 = .ok (.iload_n 1, 1) := by decide +kernel
theorem d_Tree_value_18 : decode prog_7_method_11_code 18 = .ok (.isub, 1) := by decide +kernel
theorem d_Tree_value_19 : decode prog_7_method_11_code 19 = .ok (.iaload, 1) := by decide +kernel
theorem d_Tree_value_20 : decode prog_7_method_11_code 20 = .ok (.i2l, 1) := by decide +kernel
theorem d_Tree_value_21 : decode prog_7_method_11_code 21 = .ok (.ldc2_w 99, 3) := by decide +kernel
theorem d_Tree_value_24 : decode prog_7_method_11_code 24 = .ok (.land, 1) := by decide +kernel
theorem d_Tree_value_25 : decode prog_7_method_11_code 25 = .ok (.lor, 1) := by decide +kernel
theorem d_Tree_value_26 : decode prog_7_method_11_code 26 = .ok (.lreturn, 1) := by decide +kernel
theorem d_Tree_byteOf_0 : decode prog_7_method_12_code 0 = .ok (.aload_n 0, 1) := by decide +kernel
theorem d_Tree_byteOf_1 : decode prog_7_method_12_code 1 = .ok (.getfield 9, 3) := by decide +kernel
theorem d_Tree_byteOf_4 : decode prog_7_method_12_code 4 = .ok (.iconst 4, 1) := by decide +kernel
theorem d_Tree_byteOf_5 : decode prog_7_method_12_code 5 = .ok (.iload_n 1, 1) := by decide +kernel
theorem d_Tree_byteOf_6 : decode prog_7_method_12_code 6 = .ok (.isub, 1) := by decide +kernel
theorem d_Tree_byteOf_7 : decode prog_7_method_12_code 7 = .ok (.iload_n 2, 1) := by decide +kernel
theorem d_Tree_byteOf_8 : decode prog_7_method_12_code 8 = .ok (.iconst 4, 1) := by decide +kernel
theorem d_Tree_byteOf_9 : decode prog_7_method_12_code 9 = .ok (.idiv, 1) := by decide +kernel
theorem d_Tree_byteOf_10 : decode prog_7_method_12_code 10 = .ok (.iadd, 1) := by decide +kernel
theorem d_Tree_byteOf_11 : decode prog_7_method_12_code 11 = .ok (.iaload, 1) := by decide +kernel
theorem d_Tree_byteOf_12 : decode prog_7_method_12_code 12 = .ok (.bipush 24, 2) := by decide +kernel
theorem d_Tree_byteOf_14 : decode prog_7_method_12_code 14 = .ok (.bipush 8, 2) := by decide +kernel
theorem d_Tree_byteOf_16 : decode prog_7_method_12_code 16 = .ok (.iload_n 2, 1) := by decide +kernel
theorem d_Tree_byteOf_17 : decode prog_7_method_12_code 17 = .ok (.iconst 4, 1) := by decide +kernel
theorem d_Tree_byteOf_18 : decode prog_7_method_12_code 18 = .ok (.irem, 1) := by decide +kernel
theorem d_Tree_byteOf_19 : decode prog_7_method_12_code 19 = .ok (.imul, 1) := by decide +kernel
theorem d_Tree_byteOf_20 : decode prog_7_method_12_code 20 = .ok (.isub, 1) := by decide +kernel
theorem d_Tree_byteOf_21 : decode prog_7_method_12_code 21 = .ok (.iushr, 1) := by decide +kernel
theorem d_Tree_byteOf_22 : decode prog_7_method_12_code 22 = .ok (.sipush 255, 3) := by decide +kernel
theorem d_Tree_byteOf_25 : decode prog_7_method_12_code 25 = .ok (.iand, 1) := by decide +kernel
theorem d_Tree_byteOf_26 : decode prog_7_method_12_code 26 = .ok (.ireturn, 1) := by decide +kernel
theorem d_Tree_tell_0 : decode prog_7_method_13_code 0 = .ok (.aload_n 2, 1) := by decide +kernel
theorem d_Tree_tell_1 : decode prog_7_method_13_code 1 = .ok (.aload_n 0, 1) := by decide +kernel
theorem d_Tree_tell_2 : decode prog_7_method_13_code 2 = .ok (.getfield 9, 3) := by decide +kernel
theorem d_Tree_tell_5 : decode prog_7_method_13_code 5 = .ok (.iload_n 1, 1) := by decide +kernel
theorem d_Tree_tell_6 : decode prog_7_method_13_code 6 = .ok (.ineg, 1) := by decide +kernel
theorem d_Tree_tell_7 : decode prog_7_method_13_code 7 = .ok (.iaload, 1) := by decide +kernel
theorem d_Tree_tell_8 : decode prog_7_method_13_code 8 = .ok (.putfield 86, 3) := by decide +kernel
theorem d_Tree_tell_11 : decode prog_7_method_13_code 11 = .ok (.iconst 0, 1) := by decide +kernel
theorem d_Tree_tell_12 : decode prog_7_method_13_code 12 = .ok (.istore_n 3, 1) := by decide +kernel
theorem d_Tree_tell_13 : decode prog_7_method_13_code 13 = .ok (.iload_n 3, 1) := by decide +kernel
theorem d_Tree_tell_14 : decode prog_7_method_13_code 14 = .ok (.aload_n 2, 1) := by decide +kernel
theorem d_Tree_tell_15 : decode prog_7_method_13_code 15 = .ok (.getfield 86, 3) := by decide +kernel
theorem d_Tree_tell_18 : decode prog_7_method_13_code 18 = .ok (.if_icmp .ge 22, 3) := by decide +kernel
theorem d_Tree_tell_21 : decode prog_7_method_13_code 21 = .ok (.aload_n 2, 1) := by decide +kernel
theorem d_Tree_tell_22 : decode prog_7_method_13_code 22 = .ok (.getfield 101, 3) := by decide +kernel
theorem d_Tree_tell_25 : decode prog_7_method_13_code 25 = .ok (.iload_n 3, 1) := by decide +kernel
theorem d_Tree_tell_26 : decode prog_7_method_13_code 26 = .ok (.aload_n 0, 1) := by decide +kernel
theorem d_Tree_tell_27 : decode prog_7_method_13_code 27 = .ok (.iload_n 1, 1) := by decide +kernel
theorem d_Tree_tell_28 : decode prog_7_method_13_code 28 = .ok (.iload_n 3, 1) := by decide +kernel
theorem d_Tree_tell_29 : decode prog_7_method_13_code 29 = .ok (.invokevirtual 105, 3) := by decide +kernel
theorem d_Tree_tell_32 : decode prog_7_method_13_code 32 = .ok (.i2b, 1) := by decide +kernel
theorem d_Tree_tell_33 : decode prog_7_method_13_code 33 = .ok (.bastore, 1) := by decide +kernel
theorem d_Tree_tell_34 : decode prog_7_method_13_code 34 = .ok (.iinc 3 1, 3) := by decide +kernel
theorem d_Tree_tell_37 : decode prog_7_method_13_code 37 = .ok (.goto (-24), 3) := by decide +kernel
theorem d_Tree_tell_40 : decode prog_7_method_13_code 40 = .ok (.aload_n 2, 1) := by decide +kernel
theorem d_Tree_tell_41 : decode prog_7_method_13_code 41 = .ok (.aload_n 0, 1) := by decide +kernel
theorem d_Tree_tell_42 : decode prog_7_method_13_code 42 = .ok (.getfield 9, 3) := by decide +kernel
theorem d_Tree_tell_45 : decode prog_7_method_13_code 45 = .ok (.iconst 3, 1) := by decide +kernel
theorem d_Tree_tell_46 : decode prog_7_method_13_code 46 = .ok (.iload_n 1, 1) := by decide +kernel
theorem d_Tree_tell_47 : decode prog_7_method_13_code 47 = .ok (.isub, 1) := by decide +kernel
theorem d_Tree_tell_48 : decode prog_7_method_13_code 48 = .ok (.iaload, 1) := by decide +kernel
theorem d_Tree_tell_49 : decode prog_7_method_13_code 49 = .ok (.iconst 1, 1) := by decide +kernel
theorem d_Tree_tell_50 : decode prog_7_method_13_code 50 = .ok (.if_icmp .ne 7, 3) := by decide +kernel
theorem d_Tree_tell_53 : decode prog_7_method_13_code 53 = .ok (.iconst 1, 1) := by decide +kernel
theorem d_Tree_tell_54 : decode prog_7_method_13_code 54 = .ok (.goto 4, 3) := by decide +kernel
theorem d_Tree_tell_57 : decode prog_7_method_13_code 57 = .ok (.iconst 0, 1) := by decide +kernel
theorem d_Tree_tell_58 : decode prog_7_method_13_code 58 = .ok (.invokevirtual 109, 3) := by decide +kernel
theorem d_Tree_tell_61 : decode prog_7_method_13_code 61 = .ok (.return_, 1) := by decide +kernel
theorem d_Tree_keys_0 : decode prog_7_method_14_code 0 = .ok (.aload_n 0, 1) := by decide +kernel
theorem d_Tree_keys_1 : decode prog_7_method_14_code 1 = .ok (.aload_n 0, 1) := by decide +kernel
theorem d_Tree_keys_2 : decode prog_7_method_14_code 2 = .ok (.getfield 70, 3) := by decide +kernel
theorem d_Tree_keys_5 : decode prog_7_method_14_code 5 = .ok (.invokevirtual 113, 3) := by decide +kernel
theorem d_Tree_keys_8 : decode prog_7_method_14_code 8 = .ok (.ireturn, 1) := by decide +kernel
theorem d_Tree_below_0 : decode prog_7_method_15_code 0 = .ok (.iload_n 1, 1) := by decide +kernel
theorem d_Tree_below_1 : decode prog_7_method_15_code 1 = .ok (.ifCond .ne 7, 3) := by decide +kernel
theorem d_Tree_below_4 : decode prog_7_method_15_code 4 = .ok (.iconst 0, 1) := by decide +kernel
theorem d_Tree_below_5 : decode prog_7_method_15_code 5 = .ok (.goto 19, 3) := by decide +kernel
theorem d_Tree_below_8 : decode prog_7_method_15_code 8 = .ok (.iload_n 1, 1) := by decide +kernel
theorem d_Tree_below_9 : decode prog_7_method_15_code 9 = .ok (.ifCond .ge 7, 3) := by decide +kernel
theorem d_Tree_below_12 : decode prog_7_method_15_code 12 = .ok (.iconst 1, 1) := by decide +kernel
theorem d_Tree_below_13 : decode prog_7_method_15_code 13 = .ok (.goto 11, 3) := by decide +kernel
theorem d_Tree_below_16 : decode prog_7_method_15_code 16 = .ok (.aload_n 0, 1) := by decide +kernel
theorem d_Tree_below_17 : decode prog_7_method_15_code 17 = .ok (.getfield 9, 3) := by decide +kernel
theorem d_Tree_below_20 : decode prog_7_method_15_code 20 = .ok (.iload_n 1, 1) := by decide +kernel
theorem d_Tree_below_21 : decode prog_7_method_15_code 21 = .ok (.iconst 2, 1) := by decide +kernel
theorem d_Tree_below_22 : decode prog_7_method_15_code 22 = .ok (.iadd, 1) := by decide +kernel
theorem d_Tree_below_23 : decode prog_7_method_15_code 23 = .ok (.iaload, 1) := by decide +kernel
theorem d_Tree_below_24 : decode prog_7_method_15_code 24 = .ok (.ireturn, 1) := by decide +kernel
theorem d_Tree_child_0 : decode prog_7_method_16_code 0 = .ok (.aload_n 0, 1) := by decide +kernel
theorem d_Tree_child_1 : decode prog_7_method_16_code 1 = .ok (.iload_n 1, 1) := by decide +kernel
theorem d_Tree_child_2 : decode prog_7_method_16_code 2 = .ok (.invokevirtual 116, 3) := by decide +kernel
theorem d_Tree_child_5 : decode prog_7_method_16_code 5 = .ok (.aload_n 0, 1) := by decide +kernel
theorem d_Tree_child_6 : decode prog_7_method_16_code 6 = .ok (.getfield 9, 3) := by decide +kernel
theorem d_Tree_child_9 : decode prog_7_method_16_code 9 = .ok (.iload_n 1, 1) := by decide +kernel
theorem d_Tree_child_10 : decode prog_7_method_16_code 10 = .ok (.iload_n 2, 1) := by decide +kernel
theorem d_Tree_child_11 : decode prog_7_method_16_code 11 = .ok (.invokevirtual 119, 3) := by decide +kernel
theorem d_Tree_child_14 : decode prog_7_method_16_code 14 = .ok (.istore_n 3, 1) := by decide +kernel
theorem d_Tree_child_15 : decode prog_7_method_16_code 15 = .ok (.iload_n 3, 1) := by decide +kernel
theorem d_Tree_child_16 : decode prog_7_method_16_code 16 = .ok (.ifCond .ne 7, 3) := by decide +kernel
theorem d_Tree_child_19 : decode prog_7_method_16_code 19 = .ok (.iconst 0, 1) := by decide +kernel
theorem d_Tree_child_20 : decode prog_7_method_16_code 20 = .ok (.goto 9, 3) := by decide +kernel
theorem d_Tree_child_23 : decode prog_7_method_16_code 23 = .ok (.aload_n 0, 1) := by decide +kernel
theorem d_Tree_child_24 : decode prog_7_method_16_code 24 = .ok (.getfield 9, 3) := by decide +kernel
theorem d_Tree_child_27 : decode prog_7_method_16_code 27 = .ok (.iload_n 3, 1) := by decide +kernel
theorem d_Tree_child_28 : decode prog_7_method_16_code 28 = .ok (.iaload, 1) := by decide +kernel
theorem d_Tree_child_29 : decode prog_7_method_16_code 29 = .ok (.ireturn, 1) := by decide +kernel
theorem d_Tree_least_0 : decode prog_7_method_17_code 0 = .ok (.iload_n 1, 1) := by decide +kernel
theorem d_Tree_least_1 : decode prog_7_method_17_code 1 = .ok (.istore_n 2, 1) := by decide +kernel
theorem d_Tree_least_2 : decode prog_7_method_17_code 2 = .ok (.iload_n 2, 1) := by decide +kernel
theorem d_Tree_least_3 : decode prog_7_method_17_code 3 = .ok (.ifCond .le 26, 3) := by decide +kernel
theorem d_Tree_least_6 : decode prog_7_method_17_code 6 = .ok (.aload_n 0, 1) := by decide +kernel
theorem d_Tree_least_7 : decode prog_7_method_17_code 7 = .ok (.iload_n 2, 1) := by decide +kernel
theorem d_Tree_least_8 : decode prog_7_method_17_code 8 = .ok (.aload_n 0, 1) := by decide +kernel
theorem d_Tree_least_9 : decode prog_7_method_17_code 9 = .ok (.iload_n 2, 1) := by decide +kernel
theorem d_Tree_least_10 : decode prog_7_method_17_code 10 = .ok (.invokevirtual 116, 3) := by decide +kernel
theorem d_Tree_least_13 : decode prog_7_method_17_code 13 = .ok (.aload_n 0, 1) := by decide +kernel
theorem d_Tree_least_14 : decode prog_7_method_17_code 14 = .ok (.getfield 9, 3) := by decide +kernel
theorem d_Tree_least_17 : decode prog_7_method_17_code 17 = .ok (.iload_n 2, 1) := by decide +kernel
theorem d_Tree_least_18 : decode prog_7_method_17_code 18 = .ok (.iconst 0, 1) := by decide +kernel
theorem d_Tree_least_19 : decode prog_7_method_17_code 19 = .ok (.invokevirtual 123, 3) := by decide +kernel
theorem d_Tree_least_22 : decode prog_7_method_17_code 22 = .ok (.invokevirtual 126, 3) := by decide +kernel
theorem d_Tree_least_25 : decode prog_7_method_17_code 25 = .ok (.istore_n 2, 1) := by decide +kernel
theorem d_Tree_least_26 : decode prog_7_method_17_code 26 = .ok (.goto (-24), 3) := by decide +kernel
theorem d_Tree_least_29 : decode prog_7_method_17_code 29 = .ok (.iload_n 2, 1) := by decide +kernel
theorem d_Tree_least_30 : decode prog_7_method_17_code 30 = .ok (.ireturn, 1) := by decide +kernel
theorem d_Tree_nearest_0 : decode prog_7_method_18_code 0 = .ok (.aload_n 0, 1) := by decide +kernel
theorem d_Tree_nearest_1 : decode prog_7_method_18_code 1 = .ok (.getfield 70, 3) := by decide +kernel
theorem d_Tree_nearest_4 : decode prog_7_method_18_code 4 = .ok (.istore_n 2, 1) := by decide +kernel
theorem d_Tree_nearest_5 : decode prog_7_method_18_code 5 = .ok (.iload_n 2, 1) := by decide +kernel
theorem d_Tree_nearest_6 : decode prog_7_method_18_code 6 = .ok (.ifCond .le 55, 3) := by decide +kernel
theorem d_Tree_nearest_9 : decode prog_7_method_18_code 9 = .ok (.aload_n 0, 1) := by decide +kernel
theorem d_Tree_nearest_10 : decode prog_7_method_18_code 10 = .ok (.getfield 9, 3) := by decide +kernel
theorem d_Tree_nearest_13 : decode prog_7_method_18_code 13 = .ok (.iload_n 2, 1) := by decide +kernel
theorem d_Tree_nearest_14 : decode prog_7_method_18_code 14 = .ok (.iconst 3, 1) := by decide +kernel
theorem d_Tree_nearest_15 : decode prog_7_method_18_code 15 = .ok (.iadd, 1) := by decide +kernel
theorem d_Tree_nearest_16 : decode prog_7_method_18_code 16 = .ok (.iaload, 1) := by decide +kernel
theorem d_Tree_nearest_17 : decode prog_7_method_18_code 17 = .ok (.aload_n 1, 1) := by decide +kernel
theorem d_Tree_nearest_18 : decode prog_7_method_18_code 18 = .ok (.getfield 86, 3) := by decide +kernel
theorem d_Tree_nearest_21 : decode prog_7_method_18_code 21 = .ok (.if_icmp .ge 23, 3) := by decide +kernel
theorem d_Tree_nearest_24 : decode prog_7_method_18_code 24 = .ok (.aload_n 0, 1) := by decide +kernel
theorem d_Tree_nearest_25 : decode prog_7_method_18_code 25 = .ok (.iload_n 2, 1) := by decide +kernel
theorem d_Tree_nearest_26 : decode prog_7_method_18_code 26 = .ok (.aload_n 1, 1) := by decide +kernel
theorem d_Tree_nearest_27 : decode prog_7_method_18_code 27 = .ok (.aload_n 0, 1) := by decide +kernel
theorem d_Tree_nearest_28 : decode prog_7_method_18_code 28 = .ok (.getfield 9, 3) := by decide +kernel
theorem d_Tree_nearest_31 : decode prog_7_method_18_code 31 = .ok (.iload_n 2, 1) := by decide +kernel
theorem d_Tree_nearest_32 : decode prog_7_method_18_code 32 = .ok (.iconst 3, 1) := by decide +kernel
theorem d_Tree_nearest_33 : decode prog_7_method_18_code 33 = .ok (.iadd, 1) := by decide +kernel
theorem d_Tree_nearest_34 : decode prog_7_method_18_code 34 = .ok (.iaload, 1) := by decide +kernel
theorem d_Tree_nearest_35 : decode prog_7_method_18_code 35 = .ok (.invokevirtual 92, 3) := by decide +kernel
theorem d_Tree_nearest_38 : decode prog_7_method_18_code 38 = .ok (.invokevirtual 126, 3) := by decide +kernel
theorem d_Tree_nearest_41 : decode prog_7_method_18_code 41 = .ok (.goto 4, 3) := by decide +kernel
theorem d_Tree_nearest_44 : decode prog_7_method_18_code 44 = .ok (.iconst 0, 1) := by decide +kernel
theorem d_Tree_nearest_45 : decode prog_7_method_18_code 45 = .ok (.istore_n 3, 1) := by decide +kernel
theorem d_Tree_nearest_46 : decode prog_7_method_18_code 46 = .ok (.iload_n 3, 1) := by decide +kernel
theorem d_Tree_nearest_47 : decode prog_7_method_18_code 47 = .ok (.ifCond .ne 9, 3) := by decide +kernel
theorem d_Tree_nearest_50 : decode prog_7_method_18_code 50 = .ok (.aload_n 0, 1) := by decide +kernel
theorem d_Tree_nearest_51 : decode prog_7_method_18_code 51 = .ok (.iload_n 2, 1) := by decide +kernel
theorem d_Tree_nearest_52 : decode prog_7_method_18_code 52 = .ok (.invokevirtual 129, 3) := by decide +kernel
theorem d_Tree_nearest_55 : decode prog_7_method_18_code 55 = .ok (.ireturn, 1) := by decide +kernel
theorem d_Tree_nearest_56 : decode prog_7_method_18_code 56 = .ok (.iload_n 3, 1) := by decide +kernel
theorem d_Tree_nearest_57 : decode prog_7_method_18_code 57 = .ok (.istore_n 2, 1) := by decide +kernel
theorem d_Tree_nearest_58 : decode prog_7_method_18_code 58 = .ok (.goto (-53), 3) := by decide +kernel
theorem d_Tree_nearest_61 : decode prog_7_method_18_code 61 = .ok (.iload_n 2, 1) := by decide +kernel
theorem d_Tree_nearest_62 : decode prog_7_method_18_code 62 = .ok (.ireturn, 1) := by decide +kernel
theorem d_Tree_differs_0 : decode prog_7_method_19_code 0 = .ok (.aload_n 1, 1) := by decide +kernel
theorem d_Tree_differs_1 : decode prog_7_method_19_code 1 = .ok (.getfield 86, 3) := by decide +kernel
theorem d_Tree_differs_4 : decode prog_7_method_19_code 4 = .ok (.aload_n 0, 1) := by decide +kernel
theorem d_Tree_differs_5 : decode prog_7_method_19_code 5 = .ok (.getfield 9, 3) := by decide +kernel
theorem d_Tree_differs_8 : decode prog_7_method_19_code 8 = .ok (.iload_n 2, 1) := by decide +kernel
theorem d_Tree_differs_9 : decode prog_7_method_19_code 9 = .ok (.ineg, 1) := by decide +kernel
theorem d_Tree_differs_10 : decode prog_7_method_19_code 10 = .ok (.iaload, 1) := by decide +kernel
theorem d_Tree_differs_11 : decode prog_7_method_19_code 11 = .ok (.invokestatic 132, 3) := by decide +kernel
theorem d_Tree_differs_14 : decode prog_7_method_19_code 14 = .ok (.istore_n 3, 1) := by decide +kernel
theorem d_Tree_differs_15 : decode prog_7_method_19_code 15 = .ok (.iconst 0, 1) := by decide +kernel
theorem d_Tree_differs_16 : decode prog_7_method_19_code 16 = .ok (.istore 4, 2) := by decide +kernel
theorem d_Tree_differs_18 : decode prog_7_method_19_code 18 = .ok (.iload 4, 2) := by decide +kernel
theorem d_Tree_differs_20 : decode prog_7_method_19_code 20 = .ok (.iload_n 3, 1) := by decide +kernel
theorem d_Tree_differs_21 : decode prog_7_method_19_code 21 = .ok (.if_icmp .ge 25, 3) := by decide +kernel
theorem d_Tree_differs_24 : decode prog_7_method_19_code 24 = .ok (.aload_n 1, 1) := by decide +kernel
theorem d_Tree_differs_25 : decode prog_7_method_19_code 25 = .ok (.iload 4, 2) := by decide +kernel
theorem d_Tree_differs_27 : decode prog_7_method_19_code 27 = .ok (.invokevirtual 92, 3) := by decide +kernel
theorem d_Tree_differs_30 : decode prog_7_method_19_code 30 = .ok (.aload_n 0, 1) := by decide +kernel
theorem d_Tree_differs_31 : decode prog_7_method_19_code 31 = .ok (.iload_n 2, 1) := by decide +kernel
theorem d_Tree_differs_32 : decode prog_7_method_19_code 32 = .ok (.iload 4, 2) := by decide +kernel
theorem d_Tree_differs_34 : decode prog_7_method_19_code 34 = .ok (.invokevirtual 105, 3) := by decide +kernel
theorem d_Tree_differs_37 : decode prog_7_method_19_code 37 = .ok (.if_icmp .ne 9, 3) := by decide +kernel
theorem d_Tree_differs_40 : decode prog_7_method_19_code 40 = .ok (.iinc 4 1, 3) := by decide +kernel
theorem d_Tree_differs_43 : decode prog_7_method_19_code 43 = .ok (.goto (-25), 3) := by decide +kernel
theorem d_Tree_differs_46 : decode prog_7_method_19_code 46 = .ok (.iload 4, 2) := by decide +kernel
theorem d_Tree_differs_48 : decode prog_7_method_19_code 48 = .ok (.ireturn, 1) := by decide +kernel
theorem d_Tree_find_0 : decode prog_7_method_20_code 0 = .ok (.aload_n 0, 1) := by decide +kernel
theorem d_Tree_find_1 : decode prog_7_method_20_code 1 = .ok (.getfield 70, 3) := by decide +kernel
theorem d_Tree_find_4 : decode prog_7_method_20_code 4 = .ok (.istore_n 2, 1) := by decide +kernel
theorem d_Tree_find_5 : decode prog_7_method_20_code 5 = .ok (.iload_n 2, 1) := by decide +kernel
theorem d_Tree_find_6 : decode prog_7_method_20_code 6 = .ok (.ifCond .le 43, 3) := by decide +kernel
theorem d_Tree_find_9 : decode prog_7_method_20_code 9 = .ok (.aload_n 0, 1) := by decide +kernel
theorem d_Tree_find_10 : decode prog_7_method_20_code 10 = .ok (.getfield 9, 3) := by decide +kernel
theorem d_Tree_find_13 : decode prog_7_method_20_code 13 = .ok (.iload_n 2, 1) := by decide +kernel
theorem d_Tree_find_14 : decode prog_7_method_20_code 14 = .ok (.iconst 3, 1) := by decide +kernel
theorem d_Tree_find_15 : decode prog_7_method_20_code 15 = .ok (.iadd, 1) := by decide +kernel
theorem d_Tree_find_16 : decode prog_7_method_20_code 16 = .ok (.iaload, 1) := by decide +kernel
theorem d_Tree_find_17 : decode prog_7_method_20_code 17 = .ok (.aload_n 1, 1) := by decide +kernel
theorem d_Tree_find_18 : decode prog_7_method_20_code 18 = .ok (.getfield 86, 3) := by decide +kernel
theorem d_Tree_find_21 : decode prog_7_method_20_code 21 = .ok (.if_icmp .ge 23, 3) := by decide +kernel
theorem d_Tree_find_24 : decode prog_7_method_20_code 24 = .ok (.aload_n 0, 1) := by decide +kernel
theorem d_Tree_find_25 : decode prog_7_method_20_code 25 = .ok (.iload_n 2, 1) := by decide +kernel
theorem d_Tree_find_26 : decode prog_7_method_20_code 26 = .ok (.aload_n 1, 1) := by decide +kernel
theorem d_Tree_find_27 : decode prog_7_method_20_code 27 = .ok (.aload_n 0, 1) := by decide +kernel
theorem d_Tree_find_28 : decode prog_7_method_20_code 28 = .ok (.getfield 9, 3) := by decide +kernel
theorem d_Tree_find_31 : decode prog_7_method_20_code 31 = .ok (.iload_n 2, 1) := by decide +kernel
theorem d_Tree_find_32 : decode prog_7_method_20_code 32 = .ok (.iconst 3, 1) := by decide +kernel
theorem d_Tree_find_33 : decode prog_7_method_20_code 33 = .ok (.iadd, 1) := by decide +kernel
theorem d_Tree_find_34 : decode prog_7_method_20_code 34 = .ok (.iaload, 1) := by decide +kernel
theorem d_Tree_find_35 : decode prog_7_method_20_code 35 = .ok (.invokevirtual 92, 3) := by decide +kernel
theorem d_Tree_find_38 : decode prog_7_method_20_code 38 = .ok (.invokevirtual 126, 3) := by decide +kernel
theorem d_Tree_find_41 : decode prog_7_method_20_code 41 = .ok (.goto 4, 3) := by decide +kernel
theorem d_Tree_find_44 : decode prog_7_method_20_code 44 = .ok (.iconst 0, 1) := by decide +kernel
theorem d_Tree_find_45 : decode prog_7_method_20_code 45 = .ok (.istore_n 2, 1) := by decide +kernel
theorem d_Tree_find_46 : decode prog_7_method_20_code 46 = .ok (.goto (-41), 3) := by decide +kernel
theorem d_Tree_find_49 : decode prog_7_method_20_code 49 = .ok (.iload_n 2, 1) := by decide +kernel
theorem d_Tree_find_50 : decode prog_7_method_20_code 50 = .ok (.ifCond .ge 34, 3) := by decide +kernel
theorem d_Tree_find_53 : decode prog_7_method_20_code 53 = .ok (.aload_n 0, 1) := by decide +kernel
theorem d_Tree_find_54 : decode prog_7_method_20_code 54 = .ok (.getfield 9, 3) := by decide +kernel
theorem d_Tree_find_57 : decode prog_7_method_20_code 57 = .ok (.iload_n 2, 1) := by decide +kernel
theorem d_Tree_find_58 : decode prog_7_method_20_code 58 = .ok (.ineg, 1) := by decide +kernel
theorem d_Tree_find_59 : decode prog_7_method_20_code 59 = .ok (.iaload, 1) := by decide +kernel
theorem d_Tree_find_60 : decode prog_7_method_20_code 60 = .ok (.aload_n 1, 1) := by decide +kernel
theorem d_Tree_find_61 : decode prog_7_method_20_code 61 = .ok (.getfield 86, 3) := by decide +kernel
theorem d_Tree_find_64 : decode prog_7_method_20_code 64 = .ok (.if_icmp .ne 20, 3) := by decide +kernel
theorem d_Tree_find_67 : decode prog_7_method_20_code 67 = .ok (.aload_n 0, 1) := by decide +kernel
theorem d_Tree_find_68 : decode prog_7_method_20_code 68 = .ok (.aload_n 1, 1) := by decide +kernel
theorem d_Tree_find_69 : decode prog_7_method_20_code 69 = .ok (.iload_n 2, 1) := by decide +kernel
theorem d_Tree_find_70 : decode prog_7_method_20_code 70 = .ok (.invokevirtual 137, 3) := by decide +kernel
theorem d_Tree_find_73 : decode prog_7_method_20_code 73 = .ok (.aload_n 1, 1) := by decide +kernel
theorem d_Tree_find_74 : decode prog_7_method_20_code 74 = .ok (.getfield 86, 3) := by decide +kernel
theorem d_Tree_find_77 : decode prog_7_method_20_code 77 = .ok (.if_icmp .ne 7, 3) := by decide +kernel
theorem d_Tree_find_80 : decode prog_7_method_20_code 80 = .ok (.iload_n 2, 1) := by decide +kernel
theorem d_Tree_find_81 : decode prog_7_method_20_code 81 = .ok (.goto 4, 3) := by decide +kernel
theorem d_Tree_find_84 : decode prog_7_method_20_code 84 = .ok (.iconst 0, 1) := by decide +kernel
theorem d_Tree_find_85 : decode prog_7_method_20_code 85 = .ok (.ireturn, 1) := by decide +kernel
theorem d_Tree_before_0 : decode prog_7_method_21_code 0 = .ok (.iconst 0, 1) := by decide +kernel
theorem d_Tree_before_1 : decode prog_7_method_21_code 1 = .ok (.istore_n 3, 1) := by decide +kernel
theorem d_Tree_before_2 : decode prog_7_method_21_code 2 = .ok (.aload_n 0, 1) := by decide +kernel
theorem d_Tree_before_3 : decode prog_7_method_21_code 3 = .ok (.iload_n 1, 1) := by decide +kernel
theorem d_Tree_before_4 : decode prog_7_method_21_code 4 = .ok (.invokevirtual 116, 3) := by decide +kernel
theorem d_Tree_before_7 : decode prog_7_method_21_code 7 = .ok (.astore 4, 2) := by decide +kernel
theorem d_Tree_before_9 : decode prog_7_method_21_code 9 = .ok (.aload 4, 2) := by decide +kernel
theorem d_Tree_before_11 : decode prog_7_method_21_code 11 = .ok (.aload_n 0, 1) := by decide +kernel
theorem d_Tree_before_12 : decode prog_7_method_21_code 12 = .ok (.getfield 9, 3) := by decide +kernel
theorem d_Tree_before_15 : decode prog_7_method_21_code 15 = .ok (.iload_n 1, 1) := by decide +kernel
theorem d_Tree_before_16 : decode prog_7_method_21_code 16 = .ok (.iconst 0, 1) := by decide +kernel
theorem d_Tree_before_17 : decode prog_7_method_21_code 17 = .ok (.invokevirtual 123, 3) := by decide +kernel
theorem d_Tree_before_20 : decode prog_7_method_21_code 20 = .ok (.istore 5, 2) := by decide +kernel
theorem d_Tree_before_22 : decode prog_7_method_21_code 22 = .ok (.iload 5, 2) := by decide +kernel
theorem d_Tree_before_24 : decode prog_7_method_21_code 24 = .ok (.iconst (-1), 1) := by decide +kernel
theorem d_Tree_before_25 : decode prog_7_method_21_code 25 = .ok (.if_icmp .eq 54, 3) := by decide +kernel
theorem d_Tree_before_28 : decode prog_7_method_21_code 28 = .ok (.iload 5, 2) := by decide +kernel
theorem d_Tree_before_30 : decode prog_7_method_21_code 30 = .ok (.iload_n 2, 1) := by decide +kernel
theorem d_Tree_before_31 : decode prog_7_method_21_code 31 = .ok (.if_icmp .ge 48, 3) := by decide +kernel
theorem d_Tree_before_34 : decode prog_7_method_21_code 34 = .ok (.iload_n 3, 1) := by decide +kernel
theorem d_Tree_before_35 : decode prog_7_method_21_code 35 = .ok (.aload_n 0, 1) := by decide +kernel
theorem d_Tree_before_36 : decode prog_7_method_21_code 36 = .ok (.aload_n 0, 1) := by decide +kernel
theorem d_Tree_before_37 : decode prog_7_method_21_code 37 = .ok (.iload_n 1, 1) := by decide +kernel
theorem d_Tree_before_38 : decode prog_7_method_21_code 38 = .ok (.iload 5, 2) := by decide +kernel
theorem d_Tree_before_40 : decode prog_7_method_21_code 40 = .ok (.invokevirtual 126, 3) := by decide +kernel
theorem d_Tree_before_43 : decode prog_7_method_21_code 43 = .ok (.invokevirtual 113, 3) := by decide +kernel
theorem d_Tree_before_46 : decode prog_7_method_21_code 46 = .ok (.iadd, 1) := by decide +kernel
theorem d_Tree_before_47 : decode prog_7_method_21_code 47 = .ok (.istore_n 3, 1) := by decide +kernel
theorem d_Tree_before_48 : decode prog_7_method_21_code 48 = .ok (.iload 5, 2) := by decide +kernel
theorem d_Tree_before_50 : decode prog_7_method_21_code 50 = .ok (.sipush 255, 3) := by decide +kernel
theorem d_Tree_before_53 : decode prog_7_method_21_code 53 = .ok (.if_icmp .ne 7, 3) := by decide +kernel
theorem d_Tree_before_56 : decode prog_7_method_21_code 56 = .ok (.iconst (-1), 1) := by decide +kernel
theorem d_Tree_before_57 : decode prog_7_method_21_code 57 = .ok (.goto 17, 3) := by decide +kernel
theorem d_Tree_before_60 : decode prog_7_method_21_code 60 = .ok (.aload 4, 2) := by decide +kernel
theorem d_Tree_before_62 : decode prog_7_method_21_code 62 = .ok (.aload_n 0, 1) := by decide +kernel
theorem d_Tree_before_63 : decode prog_7_method_21_code 63 = .ok (.getfield 9, 3) := by decide +kernel
theorem d_Tree_before_66 : decode prog_7_method_21_code 66 = .ok (.iload_n 1, 1) := by decide +kernel
theorem d_Tree_before_67 : decode prog_7_method_21_code 67 = .ok (.iload 5, 2) := by decide +kernel
theorem d_Tree_before_69 : decode prog_7_method_21_code 69 = .ok (.iconst 1, 1) := by decide +kernel
theorem d_Tree_before_70 : decode prog_7_method_21_code 70 = .ok (.iadd, 1) := by decide +kernel
theorem d_Tree_before_71 : decode prog_7_method_21_code 71 = .ok (.invokevirtual 123, 3) := by decide +kernel
theorem d_Tree_before_74 : decode prog_7_method_21_code 74 = .ok (.istore 5, 2) := by decide +kernel
theorem d_Tree_before_76 : decode prog_7_method_21_code 76 = .ok (.goto (-54), 3) := by decide +kernel
theorem d_Tree_before_79 : decode prog_7_method_21_code 79 = .ok (.iload_n 3, 1) := by decide +kernel
theorem d_Tree_before_80 : decode prog_7_method_21_code 80 = .ok (.ireturn, 1) := by decide +kernel
theorem d_Tree_rank_0 : decode prog_7_method_22_code 0 = .ok (.aload_n 0, 1) := by decide +kernel
theorem d_Tree_rank_1 : decode prog_7_method_22_code 1 = .ok (.getfield 70, 3) := by decide +kernel
theorem d_Tree_rank_4 : decode prog_7_method_22_code 4 = .ok (.ifCond .ne 5, 3) := by decide +kernel
theorem d_Tree_rank_7 : decode prog_7_method_22_code 7 = .ok (.iconst 0, 1) := by decide +kernel
theorem d_Tree_rank_8 : decode prog_7_method_22_code 8 = .ok (.ireturn, 1) := by decide +kernel
theorem d_Tree_rank_9 : decode prog_7_method_22_code 9 = .ok (.aload_n 0, 1) := by decide +kernel
theorem d_Tree_rank_10 : decode prog_7_method_22_code 10 = .ok (.aload_n 1, 1) := by decide +kernel
theorem d_Tree_rank_11 : decode prog_7_method_22_code 11 = .ok (.invokevirtual 141, 3) := by decide +kernel
theorem d_Tree_rank_14 : decode prog_7_method_22_code 14 = .ok (.istore_n 2, 1) := by decide +kernel
theorem d_Tree_rank_15 : decode prog_7_method_22_code 15 = .ok (.aload_n 0, 1) := by decide +kernel
theorem d_Tree_rank_16 : decode prog_7_method_22_code 16 = .ok (.aload_n 1, 1) := by decide +kernel
theorem d_Tree_rank_17 : decode prog_7_method_22_code 17 = .ok (.iload_n 2, 1) := by decide +kernel
theorem d_Tree_rank_18 : decode prog_7_method_22_code 18 = .ok (.invokevirtual 137, 3) := by decide +kernel
theorem d_Tree_rank_21 : decode prog_7_method_22_code 21 = .ok (.istore_n 3, 1) := by decide +kernel
theorem d_Tree_rank_22 : decode prog_7_method_22_code 22 = .ok (.iconst 0, 1) := by decide +kernel
theorem d_Tree_rank_23 : decode prog_7_method_22_code 23 = .ok (.istore 4, 2) := by decide +kernel
theorem d_Tree_rank_25 : decode prog_7_method_22_code 25 = .ok (.aload_n 0, 1) := by decide +kernel
theorem d_Tree_rank_26 : decode prog_7_method_22_code 26 = .ok (.getfield 70, 3) := by decide +kernel
theorem d_Tree_rank_29 : decode prog_7_method_22_code 29 = .ok (.istore 5, 2) := by decide +kernel
theorem d_Tree_rank_31 : decode prog_7_method_22_code 31 = .ok (.iload 5, 2) := by decide +kernel
theorem d_Tree_rank_33 : decode prog_7_method_22_code 33 = .ok (.ifCond .le 57, 3) := by decide +kernel
theorem d_Tree_rank_36 : decode prog_7_method_22_code 36 = .ok (.aload_n 0, 1) := by decide +kernel
theorem d_Tree_rank_37 : decode prog_7_method_22_code 37 = .ok (.getfield 9, 3) := by decide +kernel
theorem d_Tree_rank_40 : decode prog_7_method_22_code 40 = .ok (.iload 5, 2) := by decide +kernel
theorem d_Tree_rank_42 : decode prog_7_method_22_code 42 = .ok (.iconst 3, 1) := by decide +kernel
theorem d_Tree_rank_43 : decode prog_7_method_22_code 43 = .ok (.iadd, 1) := by decide +kernel
theorem d_Tree_rank_44 : decode prog_7_method_22_code 44 = .ok (.iaload, 1) := by decide +kernel
theorem d_Tree_rank_45 : decode prog_7_method_22_code 45 = .ok (.iload_n 3, 1) := by decide +kernel
theorem d_Tree_rank_46 : decode prog_7_method_22_code 46 = .ok (.if_icmp .ge 44, 3) := by decide +kernel
theorem d_Tree_rank_49 : decode prog_7_method_22_code 49 = .ok (.aload_n 1, 1) := by decide +kernel
theorem d_Tree_rank_50 : decode prog_7_method_22_code 50 = .ok (.aload_n 0, 1) := by decide +kernel
theorem d_Tree_rank_51 : decode prog_7_method_22_code 51 = .ok (.getfield 9, 3) := by decide +kernel
theorem d_Tree_rank_54 : decode prog_7_method_22_code 54 = .ok (.iload 5, 2) := by decide +kernel
theorem d_Tree_rank_56 : decode prog_7_method_22_code 56 = .ok (.iconst 3, 1) := by decide +kernel
theorem d_Tree_rank_57 : decode prog_7_method_22_code 57 = .ok (.iadd, 1) := by decide +kernel
theorem d_Tree_rank_58 : decode prog_7_method_22_code 58 = .ok (.iaload, 1) := by decide +kernel
theorem d_Tree_rank_59 : decode prog_7_method_22_code 59 = .ok (.invokevirtual 92, 3) := by decide +kernel
theorem d_Tree_rank_62 : decode prog_7_method_22_code 62 = .ok (.istore 6, 2) := by decide +kernel
theorem d_Tree_rank_64 : decode prog_7_method_22_code 64 = .ok (.iload 4, 2) := by decide +kernel
theorem d_Tree_rank_66 : decode prog_7_method_22_code 66 = .ok (.aload_n 0, 1) := by decide +kernel
theorem d_Tree_rank_67 : decode prog_7_method_22_code 67 = .ok (.iload 5, 2) := by decide +kernel
theorem d_Tree_rank_69 : decode prog_7_method_22_code 69 = .ok (.iload 6, 2) := by decide +kernel
theorem d_Tree_rank_71 : decode prog_7_method_22_code 71 = .ok (.invokevirtual 145, 3) := by decide +kernel
theorem d_Tree_rank_74 : decode prog_7_method_22_code 74 = .ok (.iadd, 1) := by decide +kernel
theorem d_Tree_rank_75 : decode prog_7_method_22_code 75 = .ok (.istore 4, 2) := by decide +kernel
theorem d_Tree_rank_77 : decode prog_7_method_22_code 77 = .ok (.aload_n 0, 1) := by decide +kernel
theorem d_Tree_rank_78 : decode prog_7_method_22_code 78 = .ok (.iload 5, 2) := by decide +kernel
theorem d_Tree_rank_80 : decode prog_7_method_22_code 80 = .ok (.iload 6, 2) := by decide +kernel
theorem d_Tree_rank_82 : decode prog_7_method_22_code 82 = .ok (.invokevirtual 126, 3) := by decide +kernel
theorem d_Tree_rank_85 : decode prog_7_method_22_code 85 = .ok (.istore 5, 2) := by decide +kernel
theorem d_Tree_rank_87 : decode prog_7_method_22_code 87 = .ok (.goto (-56), 3) := by decide +kernel
theorem d_Tree_rank_90 : decode prog_7_method_22_code 90 = .ok (.iload_n 3, 1) := by decide +kernel
theorem d_Tree_rank_91 : decode prog_7_method_22_code 91 = .ok (.aload_n 1, 1) := by decide +kernel
theorem d_Tree_rank_92 : decode prog_7_method_22_code 92 = .ok (.getfield 86, 3) := by decide +kernel
theorem d_Tree_rank_95 : decode prog_7_method_22_code 95 = .ok (.if_icmp .ne 6, 3) := by decide +kernel
theorem d_Tree_rank_98 : decode prog_7_method_22_code 98 = .ok (.iload 4, 2) := by decide +kernel
theorem d_Tree_rank_100 : decode prog_7_method_22_code 100 = .ok (.ireturn, 1) := by decide +kernel
theorem d_Tree_rank_101 : decode prog_7_method_22_code 101 = .ok (.iload 5, 2) := by decide +kernel
theorem d_Tree_rank_103 : decode prog_7_method_22_code 103 = .ok (.ifCond .le 31, 3) := by decide +kernel
theorem d_Tree_rank_106 : decode prog_7_method_22_code 106 = .ok (.aload_n 0, 1) := by decide +kernel
theorem d_Tree_rank_107 : decode prog_7_method_22_code 107 = .ok (.getfield 9, 3) := by decide +kernel
theorem d_Tree_rank_110 : decode prog_7_method_22_code 110 = .ok (.iload 5, 2) := by decide +kernel
theorem d_Tree_rank_112 : decode prog_7_method_22_code 112 = .ok (.iconst 3, 1) := by decide +kernel
theorem d_Tree_rank_113 : decode prog_7_method_22_code 113 = .ok (.iadd, 1) := by decide +kernel
theorem d_Tree_rank_114 : decode prog_7_method_22_code 114 = .ok (.iaload, 1) := by decide +kernel
theorem d_Tree_rank_115 : decode prog_7_method_22_code 115 = .ok (.iload_n 3, 1) := by decide +kernel
theorem d_Tree_rank_116 : decode prog_7_method_22_code 116 = .ok (.if_icmp .ne 18, 3) := by decide +kernel
theorem d_Tree_rank_119 : decode prog_7_method_22_code 119 = .ok (.iload 4, 2) := by decide +kernel
theorem d_Tree_rank_121 : decode prog_7_method_22_code 121 = .ok (.aload_n 0, 1) := by decide +kernel
theorem d_Tree_rank_122 : decode prog_7_method_22_code 122 = .ok (.iload 5, 2) := by decide +kernel
theorem d_Tree_rank_124 : decode prog_7_method_22_code 124 = .ok (.aload_n 1, 1) := by decide +kernel
theorem d_Tree_rank_125 : decode prog_7_method_22_code 125 = .ok (.iload_n 3, 1) := by decide +kernel
theorem d_Tree_rank_126 : decode prog_7_method_22_code 126 = .ok (.invokevirtual 92, 3) := by decide +kernel
theorem d_Tree_rank_129 : decode prog_7_method_22_code 129 = .ok (.invokevirtual 145, 3) := by decide +kernel
theorem d_Tree_rank_132 : decode prog_7_method_22_code 132 = .ok (.iadd, 1) := by decide +kernel
theorem d_Tree_rank_133 : decode prog_7_method_22_code 133 = .ok (.ireturn, 1) := by decide +kernel
theorem d_Tree_rank_134 : decode prog_7_method_22_code 134 = .ok (.aload_n 0, 1) := by decide +kernel
theorem d_Tree_rank_135 : decode prog_7_method_22_code 135 = .ok (.iload_n 2, 1) := by decide +kernel
theorem d_Tree_rank_136 : decode prog_7_method_22_code 136 = .ok (.iload_n 3, 1) := by decide +kernel
theorem d_Tree_rank_137 : decode prog_7_method_22_code 137 = .ok (.invokevirtual 105, 3) := by decide +kernel
theorem d_Tree_rank_140 : decode prog_7_method_22_code 140 = .ok (.aload_n 1, 1) := by decide +kernel
theorem d_Tree_rank_141 : decode prog_7_method_22_code 141 = .ok (.iload_n 3, 1) := by decide +kernel
theorem d_Tree_rank_142 : decode prog_7_method_22_code 142 = .ok (.invokevirtual 92, 3) := by decide +kernel
theorem d_Tree_rank_145 : decode prog_7_method_22_code 145 = .ok (.if_icmp .ge 15, 3) := by decide +kernel
theorem d_Tree_rank_148 : decode prog_7_method_22_code 148 = .ok (.iload 4, 2) := by decide +kernel
theorem d_Tree_rank_150 : decode prog_7_method_22_code 150 = .ok (.aload_n 0, 1) := by decide +kernel
theorem d_Tree_rank_151 : decode prog_7_method_22_code 151 = .ok (.iload 5, 2) := by decide +kernel
theorem d_Tree_rank_153 : decode prog_7_method_22_code 153 = .ok (.invokevirtual 113, 3) := by decide +kernel
theorem d_Tree_rank_156 : decode prog_7_method_22_code 156 = .ok (.iadd, 1) := by decide +kernel
theorem d_Tree_rank_157 : decode prog_7_method_22_code 157 = .ok (.goto 5, 3) := by decide +kernel
theorem d_Tree_rank_160 : decode prog_7_method_22_code 160 = .ok (.iload 4, 2) := by decide +kernel
theorem d_Tree_rank_162 : decode prog_7_method_22_code 162 = .ok (.ireturn, 1) := by decide +kernel
theorem d_Tree_select_0 : decode prog_7_method_23_code 0 = .ok (.iload_n 1, 1) := by decide +kernel
theorem d_Tree_select_1 : decode prog_7_method_23_code 1 = .ok (.istore_n 2, 1) := by decide +kernel
theorem d_Tree_select_2 : decode prog_7_method_23_code 2 = .ok (.aload_n 0, 1) := by decide +kernel
theorem d_Tree_select_3 : decode prog_7_method_23_code 3 = .ok (.getfield 70, 3) := by decide +kernel
theorem d_Tree_select_6 : decode prog_7_method_23_code 6 = .ok (.istore_n 3, 1) := by decide +kernel
theorem d_Tree_select_7 : decode prog_7_method_23_code 7 = .ok (.iload_n 3, 1) := by decide +kernel
theorem d_Tree_select_8 : decode prog_7_method_23_code 8 = .ok (.ifCond .le 85, 3) := by decide +kernel
theorem d_Tree_select_11 : decode prog_7_method_23_code 11 = .ok (.aload_n 0, 1) := by decide +kernel
theorem d_Tree_select_12 : decode prog_7_method_23_code 12 = .ok (.iload_n 3, 1) := by decide +kernel
theorem d_Tree_select_13 : decode prog_7_method_23_code 13 = .ok (.invokevirtual 116, 3) := by decide +kernel
theorem d_Tree_select_16 : decode prog_7_method_23_code 16 = .ok (.astore 4, 2) := by decide +kernel
theorem d_Tree_select_18 : decode prog_7_method_23_code 18 = .ok (.aload 4, 2) := by decide +kernel
theorem d_Tree_select_20 : decode prog_7_method_23_code 20 = .ok (.aload_n 0, 1) := by decide +kernel
theorem d_Tree_select_21 : decode prog_7_method_23_code 21 = .ok (.getfield 9, 3) := by decide +kernel
theorem d_Tree_select_24 : decode prog_7_method_23_code 24 = .ok (.iload_n 3, 1) := by decide +kernel
theorem d_Tree_select_25 : decode prog_7_method_23_code 25 = .ok (.iconst 0, 1) := by decide +kernel
theorem d_Tree_select_26 : decode prog_7_method_23_code 26 = .ok (.invokevirtual 123, 3) := by decide +kernel
theorem d_Tree_select_29 : decode prog_7_method_23_code 29 = .ok (.istore 5, 2) := by decide +kernel
theorem d_Tree_select_31 : decode prog_7_method_23_code 31 = .ok (.aload_n 0, 1) := by decide +kernel
theorem d_Tree_select_32 : decode prog_7_method_23_code 32 = .ok (.iload_n 3, 1) := by decide +kernel
theorem d_Tree_select_33 : decode prog_7_method_23_code 33 = .ok (.iload 5, 2) := by decide +kernel
theorem d_Tree_select_35 : decode prog_7_method_23_code 35 = .ok (.invokevirtual 126, 3) := by decide +kernel
theorem d_Tree_select_38 : decode prog_7_method_23_code 38 = .ok (.istore 6, 2) := by decide +kernel
theorem d_Tree_select_40 : decode prog_7_method_23_code 40 = .ok (.aload_n 0, 1) := by decide +kernel
theorem d_Tree_select_41 : decode prog_7_method_23_code 41 = .ok (.iload 6, 2) := by decide +kernel
theorem d_Tree_select_43 : decode prog_7_method_23_code 43 = .ok (.invokevirtual 113, 3) := by decide +kernel
theorem d_Tree_select_46 : decode prog_7_method_23_code 46 = .ok (.iload_n 2, 1) := by decide +kernel
theorem d_Tree_select_47 : decode prog_7_method_23_code 47 = .ok (.if_icmp .gt 40, 3) := by decide +kernel
theorem d_Tree_select_50 : decode prog_7_method_23_code 50 = .ok (.iload_n 2, 1) := by decide +kernel
theorem d_Tree_select_51 : decode prog_7_method_23_code 51 = .ok (.aload_n 0, 1) := by decide +kernel
theorem d_Tree_select_52 : decode prog_7_method_23_code 52 = .ok (.iload 6, 2) := by decide +kernel
theorem d_Tree_select_54 : decode prog_7_method_23_code 54 = .ok (.invokevirtual 113, 3) := by decide +kernel
theorem d_Tree_select_57 : decode prog_7_method_23_code 57 = .ok (.isub, 1) := by decide +kernel
theorem d_Tree_select_58 : decode prog_7_method_23_code 58 = .ok (.istore_n 2, 1) := by decide +kernel
theorem d_Tree_select_59 : decode prog_7_method_23_code 59 = .ok (.aload 4, 2) := by decide +kernel
theorem d_Tree_select_61 : decode prog_7_method_23_code 61 = .ok (.aload_n 0, 1) := by decide +kernel
theorem d_Tree_select_62 : decode prog_7_method_23_code 62 = .ok (.getfield 9, 3) := by decide +kernel
theorem d_Tree_select_65 : decode prog_7_method_23_code 65 = .ok (.iload_n 3, 1) := by decide +kernel
theorem d_Tree_select_66 : decode prog_7_method_23_code 66 = .ok (.iload 5, 2) := by decide +kernel
theorem d_Tree_select_68 : decode prog_7_method_23_code 68 = .ok (.iconst 1, 1) := by decide +kernel
theorem d_Tree_select_69 : decode prog_7_method_23_code 69 = .ok (.iadd, 1) := by decide +kernel
theorem d_Tree_select_70 : decode prog_7_method_23_code 70 = .ok (.invokevirtual 123, 3) := by decide +kernel
theorem d_Tree_select_73 : decode prog_7_method_23_code 73 = .ok (.istore 5, 2) := by decide +kernel
theorem d_Tree_select_75 : decode prog_7_method_23_code 75 = .ok (.aload_n 0, 1) := by decide +kernel
theorem d_Tree_select_76 : decode prog_7_method_23_code 76 = .ok (.iload_n 3, 1) := by decide +kernel
theorem d_Tree_select_77 : decode prog_7_method_23_code 77 = .ok (.iload 5, 2) := by decide +kernel
theorem d_Tree_select_79 : decode prog_7_method_23_code 79 = .ok (.invokevirtual 126, 3) := by decide +kernel
theorem d_Tree_select_82 : decode prog_7_method_23_code 82 = .ok (.istore 6, 2) := by decide +kernel
theorem d_Tree_select_84 : decode prog_7_method_23_code 84 = .ok (.goto (-44), 3) := by decide +kernel
theorem d_Tree_select_87 : decode prog_7_method_23_code 87 = .ok (.iload 6, 2) := by decide +kernel
theorem d_Tree_select_89 : decode prog_7_method_23_code 89 = .ok (.istore_n 3, 1) := by decide +kernel
theorem d_Tree_select_90 : decode prog_7_method_23_code 90 = .ok (.goto (-83), 3) := by decide +kernel
theorem d_Tree_select_93 : decode prog_7_method_23_code 93 = .ok (.iload_n 3, 1) := by decide +kernel
theorem d_Tree_select_94 : decode prog_7_method_23_code 94 = .ok (.ireturn, 1) := by decide +kernel
theorem d_Tree_begins_0 : decode prog_7_method_24_code 0 = .ok (.aload_n 0, 1) := by decide +kernel
theorem d_Tree_begins_1 : decode prog_7_method_24_code 1 = .ok (.getfield 70, 3) := by decide +kernel
theorem d_Tree_begins_4 : decode prog_7_method_24_code 4 = .ok (.istore_n 3, 1) := by decide +kernel
theorem d_Tree_begins_5 : decode prog_7_method_24_code 5 = .ok (.iload_n 3, 1) := by decide +kernel
theorem d_Tree_begins_6 : decode prog_7_method_24_code 6 = .ok (.ifCond .le 36, 3) := by decide +kernel
theorem d_Tree_begins_9 : decode prog_7_method_24_code 9 = .ok (.aload_n 0, 1) := by decide +kernel
theorem d_Tree_begins_10 : decode prog_7_method_24_code 10 = .ok (.getfield 9, 3) := by decide +kernel
theorem d_Tree_begins_13 : decode prog_7_method_24_code 13 = .ok (.iload_n 3, 1) := by decide +kernel
theorem d_Tree_begins_14 : decode prog_7_method_24_code 14 = .ok (.iconst 3, 1) := by decide +kernel
theorem d_Tree_begins_15 : decode prog_7_method_24_code 15 = .ok (.iadd, 1) := by decide +kernel
theorem d_Tree_begins_16 : decode prog_7_method_24_code 16 = .ok (.iaload, 1) := by decide +kernel
theorem d_Tree_begins_17 : decode prog_7_method_24_code 17 = .ok (.iload_n 2, 1) := by decide +kernel
theorem d_Tree_begins_18 : decode prog_7_method_24_code 18 = .ok (.if_icmp .ge 24, 3) := by decide +kernel
theorem d_Tree_begins_21 : decode prog_7_method_24_code 21 = .ok (.aload_n 0, 1) := by decide +kernel
theorem d_Tree_begins_22 : decode prog_7_method_24_code 22 = .ok (.iload_n 3, 1) := by decide +kernel
theorem d_Tree_begins_23 : decode prog_7_method_24_code 23 = .ok (.aload_n 1, 1) := by decide +kernel
theorem d_Tree_begins_24 : decode prog_7_method_24_code 24 = .ok (.aload_n 0, 1) := by decide +kernel
theorem d_Tree_begins_25 : decode prog_7_method_24_code 25 = .ok (.getfield 9, 3) := by decide +kernel
theorem d_Tree_begins_28 : decode prog_7_method_24_code 28 = .ok (.iload_n 3, 1) := by decide +kernel
theorem d_Tree_begins_29 : decode prog_7_method_24_code 29 = .ok (.iconst 3, 1) := by decide +kernel
theorem d_Tree_begins_30 : decode prog_7_method_24_code 30 = .ok (.iadd, 1) := by decide +kernel
theorem d_Tree_begins_31 : decode prog_7_method_24_code 31 = .ok (.iaload, 1) := by decide +kernel
theorem d_Tree_begins_32 : decode prog_7_method_24_code 32 = .ok (.invokevirtual 92, 3) := by decide +kernel
theorem d_Tree_begins_35 : decode prog_7_method_24_code 35 = .ok (.invokevirtual 126, 3) := by decide +kernel
theorem d_Tree_begins_38 : decode prog_7_method_24_code 38 = .ok (.istore_n 3, 1) := by decide +kernel
theorem d_Tree_begins_39 : decode prog_7_method_24_code 39 = .ok (.goto (-34), 3) := by decide +kernel
theorem d_Tree_begins_42 : decode prog_7_method_24_code 42 = .ok (.iload_n 3, 1) := by decide +kernel
theorem d_Tree_begins_43 : decode prog_7_method_24_code 43 = .ok (.ifCond .ne 5, 3) := by decide +kernel
theorem d_Tree_begins_46 : decode prog_7_method_24_code 46 = .ok (.iconst 0, 1) := by decide +kernel
theorem d_Tree_begins_47 : decode prog_7_method_24_code 47 = .ok (.ireturn, 1) := by decide +kernel
theorem d_Tree_begins_48 : decode prog_7_method_24_code 48 = .ok (.aload_n 0, 1) := by decide +kernel
theorem d_Tree_begins_49 : decode prog_7_method_24_code 49 = .ok (.iload_n 3, 1) := by decide +kernel
theorem d_Tree_begins_50 : decode prog_7_method_24_code 50 = .ok (.invokevirtual 129, 3) := by decide +kernel
theorem d_Tree_begins_53 : decode prog_7_method_24_code 53 = .ok (.istore 4, 2) := by decide +kernel
theorem d_Tree_begins_55 : decode prog_7_method_24_code 55 = .ok (.aload_n 0, 1) := by decide +kernel
theorem d_Tree_begins_56 : decode prog_7_method_24_code 56 = .ok (.aload_n 1, 1) := by decide +kernel
theorem d_Tree_begins_57 : decode prog_7_method_24_code 57 = .ok (.iload 4, 2) := by decide +kernel
theorem d_Tree_begins_59 : decode prog_7_method_24_code 59 = .ok (.invokevirtual 137, 3) := by decide +kernel
theorem d_Tree_begins_62 : decode prog_7_method_24_code 62 = .ok (.aload_n 0, 1) := by decide +kernel
theorem d_Tree_begins_63 : decode prog_7_method_24_code 63 = .ok (.getfield 9, 3) := by decide +kernel
theorem d_Tree_begins_66 : decode prog_7_method_24_code 66 = .ok (.iload 4, 2) := by decide +kernel
theorem d_Tree_begins_68 : decode prog_7_method_24_code 68 = .ok (.ineg, 1) := by decide +kernel
theorem d_Tree_begins_69 : decode prog_7_method_24_code 69 = .ok (.iaload, 1) := by decide +kernel
theorem d_Tree_begins_70 : decode prog_7_method_24_code 70 = .ok (.invokestatic 132, 3) := by decide +kernel
theorem d_Tree_begins_73 : decode prog_7_method_24_code 73 = .ok (.iload_n 2, 1) := by decide +kernel
theorem d_Tree_begins_74 : decode prog_7_method_24_code 74 = .ok (.if_icmp .lt 11, 3) := by decide +kernel
theorem d_Tree_begins_77 : decode prog_7_method_24_code 77 = .ok (.aload_n 0, 1) := by decide +kernel
theorem d_Tree_begins_78 : decode prog_7_method_24_code 78 = .ok (.iload_n 3, 1) := by decide +kernel
theorem d_Tree_begins_79 : decode prog_7_method_24_code 79 = .ok (.invokevirtual 113, 3) := by decide +kernel
theorem d_Tree_begins_82 : decode prog_7_method_24_code 82 = .ok (.goto 4, 3) := by decide +kernel
theorem d_Tree_begins_85 : decode prog_7_method_24_code 85 = .ok (.iconst 0, 1) := by decide +kernel
theorem d_Tree_begins_86 : decode prog_7_method_24_code 86 = .ok (.ireturn, 1) := by decide +kernel
theorem d_Tree_relink_0 : decode prog_7_method_25_code 0 = .ok (.iload_n 1, 1) := by decide +kernel
theorem d_Tree_relink_1 : decode prog_7_method_25_code 1 = .ok (.ifCond .ne 11, 3) := by decide +kernel
theorem d_Tree_relink_4 : decode prog_7_method_25_code 4 = .ok (.aload_n 0, 1) := by decide +kernel
theorem d_Tree_relink_5 : decode prog_7_method_25_code 5 = .ok (.iload_n 3, 1) := by decide +kernel
theorem d_Tree_relink_6 : decode prog_7_method_25_code 6 = .ok (.putfield 70, 3) := by decide +kernel
theorem d_Tree_relink_9 : decode prog_7_method_25_code 9 = .ok (.goto 23, 3) := by decide +kernel
theorem d_Tree_relink_12 : decode prog_7_method_25_code 12 = .ok (.aload_n 0, 1) := by decide +kernel
theorem d_Tree_relink_13 : decode prog_7_method_25_code 13 = .ok (.getfield 9, 3) := by decide +kernel
theorem d_Tree_relink_16 : decode prog_7_method_25_code 16 = .ok (.aload_n 0, 1) := by decide +kernel
theorem d_Tree_relink_17 : decode prog_7_method_25_code 17 = .ok (.iload_n 1, 1) := by decide +kernel
theorem d_Tree_relink_18 : decode prog_7_method_25_code 18 = .ok (.invokevirtual 116, 3) := by decide +kernel
theorem d_Tree_relink_21 : decode prog_7_method_25_code 21 = .ok (.aload_n 0, 1) := by decide +kernel
theorem d_Tree_relink_22 : decode prog_7_method_25_code 22 = .ok (.getfield 9, 3) := by decide +kernel
theorem d_Tree_relink_25 : decode prog_7_method_25_code 25 = .ok (.iload_n 1, 1) := by decide +kernel
theorem d_Tree_relink_26 : decode prog_7_method_25_code 26 = .ok (.iload_n 2, 1) := by decide +kernel
theorem d_Tree_relink_27 : decode prog_7_method_25_code 27 = .ok (.invokevirtual 119, 3) := by decide +kernel
theorem d_Tree_relink_30 : decode prog_7_method_25_code 30 = .ok (.iload_n 3, 1) := by decide +kernel
theorem d_Tree_relink_31 : decode prog_7_method_25_code 31 = .ok (.iastore, 1) := by decide +kernel
theorem d_Tree_relink_32 : decode prog_7_method_25_code 32 = .ok (.return_, 1) := by decide +kernel
theorem d_Tree_add_0 : decode prog_7_method_26_code 0 = .ok (.aload_n 1, 1) := by decide +kernel
theorem d_Tree_add_1 : decode prog_7_method_26_code 1 = .ok (.getfield 148, 3) := by decide +kernel
theorem d_Tree_add_4 : decode prog_7_method_26_code 4 = .ok (.ifCond .gt 11, 3) := by decide +kernel
theorem d_Tree_add_7 : decode prog_7_method_26_code 7 = .ok (.aload_n 1, 1) := by decide +kernel
theorem d_Tree_add_8 : decode prog_7_method_26_code 8 = .ok (.getfield 86, 3) := by decide +kernel
theorem d_Tree_add_11 : decode prog_7_method_26_code 11 = .ok (.iconst 2, 1) := by decide +kernel
theorem d_Tree_add_12 : decode prog_7_method_26_code 12 = .ok (.if_icmp .ne 7, 3) := by decide +kernel
theorem d_Tree_add_15 : decode prog_7_method_26_code 15 = .ok (.iconst 1, 1) := by decide +kernel
theorem d_Tree_add_16 : decode prog_7_method_26_code 16 = .ok (.goto 4, 3) := by decide +kernel
theorem d_Tree_add_19 : decode prog_7_method_26_code 19 = .ok (.iconst 0, 1) := by decide +kernel
theorem d_Tree_add_20 : decode prog_7_method_26_code 20 = .ok (.istore 4, 2) := by decide +kernel
theorem d_Tree_add_22 : decode prog_7_method_26_code 22 = .ok (.aload_n 0, 1) := by decide +kernel
theorem d_Tree_add_23 : decode prog_7_method_26_code 23 = .ok (.getfield 70, 3) := by decide +kernel
theorem d_Tree_add_26 : decode prog_7_method_26_code 26 = .ok (.ifCond .ne 16, 3) := by decide +kernel
theorem d_Tree_add_29 : decode prog_7_method_26_code 29 = .ok (.aload_n 0, 1) := by decide +kernel
theorem d_Tree_add_30 : decode prog_7_method_26_code 30 = .ok (.aload_n 0, 1) := by decide +kernel
theorem d_Tree_add_31 : decode prog_7_method_26_code 31 = .ok (.aload_n 1, 1) := by decide +kernel
theorem d_Tree_add_32 : decode prog_7_method_26_code 32 = .ok (.lload_n 2, 1) := by decide +kernel
theorem d_Tree_add_33 : decode prog_7_method_26_code 33 = .ok (.iload 4, 2) := by decide +kernel
theorem d_Tree_add_35 : decode prog_7_method_26_code 35 = .ok (.invokevirtual 151, 3) := by decide +kernel
theorem d_Tree_add_38 : decode prog_7_method_26_code 38 = .ok (.putfield 70, 3) := by decide +kernel
theorem d_Tree_add_41 : decode prog_7_method_26_code 41 = .ok (.return_, 1) := by decide +kernel
theorem d_Tree_add_42 : decode prog_7_method_26_code 42 = .ok (.aload_n 0, 1) := by decide +kernel
theorem d_Tree_add_43 : decode prog_7_method_26_code 43 = .ok (.aload_n 1, 1) := by decide +kernel
theorem d_Tree_add_44 : decode prog_7_method_26_code 44 = .ok (.invokevirtual 141, 3) := by decide +kernel
theorem d_Tree_add_47 : decode prog_7_method_26_code 47 = .ok (.istore 5, 2) := by decide +kernel
theorem d_Tree_add_49 : decode prog_7_method_26_code 49 = .ok (.aload_n 0, 1) := by decide +kernel
theorem d_Tree_add_50 : decode prog_7_method_26_code 50 = .ok (.aload_n 1, 1) := by decide +kernel
theorem d_Tree_add_51 : decode prog_7_method_26_code 51 = .ok (.iload 5, 2) := by decide +kernel
theorem d_Tree_add_53 : decode prog_7_method_26_code 53 = .ok (.invokevirtual 137, 3) := by decide +kernel
theorem d_Tree_add_56 : decode prog_7_method_26_code 56 = .ok (.istore 6, 2) := by decide +kernel
theorem d_Tree_add_58 : decode prog_7_method_26_code 58 = .ok (.iconst 0, 1) := by decide +kernel
theorem d_Tree_add_59 : decode prog_7_method_26_code 59 = .ok (.istore 7, 2) := by decide +kernel
theorem d_Tree_add_61 : decode prog_7_method_26_code 61 = .ok (.iconst 0, 1) := by decide +kernel
theorem d_Tree_add_62 : decode prog_7_method_26_code 62 = .ok (.istore 8, 2) := by decide +kernel
theorem d_Tree_add_64 : decode prog_7_method_26_code 64 = .ok (.aload_n 0, 1) := by decide +kernel
theorem d_Tree_add_65 : decode prog_7_method_26_code 65 = .ok (.getfield 70, 3) := by decide +kernel
theorem d_Tree_add_68 : decode prog_7_method_26_code 68 = .ok (.istore 9, 2) := by decide +kernel
theorem d_Tree_add_70 : decode prog_7_method_26_code 70 = .ok (.iload 9, 2) := by decide +kernel
theorem d_Tree_add_72 : decode prog_7_method_26_code 72 = .ok (.ifCond .le 62, 3) := by decide +kernel
theorem d_Tree_add_75 : decode prog_7_method_26_code 75 = .ok (.aload_n 0, 1) := by decide +kernel
theorem d_Tree_add_76 : decode prog_7_method_26_code 76 = .ok (.getfield 9, 3) := by decide +kernel
theorem d_Tree_add_79 : decode prog_7_method_26_code 79 = .ok (.iload 9, 2) := by decide +kernel
theorem d_Tree_add_81 : decode prog_7_method_26_code 81 = .ok (.iconst 3, 1) := by decide +kernel
theorem d_Tree_add_82 : decode prog_7_method_26_code 82 = .ok (.iadd, 1) := by decide +kernel
theorem d_Tree_add_83 : decode prog_7_method_26_code 83 = .ok (.iaload, 1) := by decide +kernel
theorem d_Tree_add_84 : decode prog_7_method_26_code 84 = .ok (.iload 6, 2) := by decide +kernel
theorem d_Tree_add_86 : decode prog_7_method_26_code 86 = .ok (.if_icmp .ge 48, 3) := by decide +kernel
theorem d_Tree_add_89 : decode prog_7_method_26_code 89 = .ok (.aload_n 0, 1) := by decide +kernel
theorem d_Tree_add_90 : decode prog_7_method_26_code 90 = .ok (.getfield 9, 3) := by decide +kernel
theorem d_Tree_add_93 : decode prog_7_method_26_code 93 = .ok (.iload 9, 2) := by decide +kernel
theorem d_Tree_add_95 : decode prog_7_method_26_code 95 = .ok (.iconst 2, 1) := by decide +kernel
theorem d_Tree_add_96 : decode prog_7_method_26_code 96 = .ok (.iadd, 1) := by decide +kernel
theorem d_Tree_add_97 : decode prog_7_method_26_code 97 = .ok (.dup2, 1) := by decide +kernel
theorem d_Tree_add_98 : decode prog_7_method_26_code 98 = .ok (.iaload, 1) := by decide +kernel
theorem d_Tree_add_99 : decode prog_7_method_26_code 99 = .ok (.iconst 1, 1) := by decide +kernel
theorem d_Tree_add_100 : decode prog_7_method_26_code 100 = .ok (.iadd, 1) := by decide +kernel
theorem d_Tree_add_101 : decode prog_7_method_26_code 101 = .ok (.iastore, 1) := by decide +kernel
theorem d_Tree_add_102 : decode prog_7_method_26_code 102 = .ok (.iload 9, 2) := by decide +kernel
theorem d_Tree_add_104 : decode prog_7_method_26_code 104 = .ok (.istore 7, 2) := by decide +kernel
theorem d_Tree_add_106 : decode prog_7_method_26_code 106 = .ok (.aload_n 1, 1) := by decide +kernel
theorem d_Tree_add_107 : decode prog_7_method_26_code 107 = .ok (.aload_n 0, 1) := by decide +kernel
theorem d_Tree_add_108 : decode prog_7_method_26_code 108 = .ok (.getfield 9, 3) := by decide +kernel
theorem d_Tree_add_111 : decode prog_7_method_26_code 111 = .ok (.iload 9, 2) := by decide +kernel
theorem d_Tree_add_113 : decode prog_7_method_26_code 113 = .ok (.iconst 3, 1) := by decide +kernel
theorem d_Tree_add_114 : decode prog_7_method_26_code 114 = .ok (.iadd, 1) := by decide +kernel
theorem d_Tree_add_115 : decode prog_7_method_26_code 115 = .ok (.iaload, 1) := by decide +kernel
theorem d_Tree_add_116 : decode prog_7_method_26_code 116 = .ok (.invokevirtual 92, 3) := by decide +kernel
theorem d_Tree_add_119 : decode prog_7_method_26_code 119 = .ok (.istore 8, 2) := by decide +kernel
theorem d_Tree_add_121 : decode prog_7_method_26_code 121 = .ok (.aload_n 0, 1) := by decide +kernel
theorem d_Tree_add_122 : decode prog_7_method_26_code 122 = .ok (.iload 9, 2) := by decide +kernel
theorem d_Tree_add_124 : decode prog_7_method_26_code 124 = .ok (.iload 8, 2) := by decide +kernel
theorem d_Tree_add_126 : decode prog_7_method_26_code 126 = .ok (.invokevirtual 126, 3) := by decide +kernel
theorem d_Tree_add_129 : decode prog_7_method_26_code 129 = .ok (.istore 9, 2) := by decide +kernel
theorem d_Tree_add_131 : decode prog_7_method_26_code 131 = .ok (.goto (-61), 3) := by decide +kernel
theorem d_Tree_add_134 : decode prog_7_method_26_code 134 = .ok (.aload_n 1, 1) := by decide +kernel
theorem d_Tree_add_135 : decode prog_7_method_26_code 135 = .ok (.iload 6, 2) := by decide +kernel
theorem d_Tree_add_137 : decode prog_7_method_26_code 137 = .ok (.invokevirtual 92, 3) := by decide +kernel
theorem d_Tree_add_140 : decode prog_7_method_26_code 140 = .ok (.istore 10, 2) := by decide +kernel
theorem d_Tree_add_142 : decode prog_7_method_26_code 142 = .ok (.iload 9, 2) := by decide +kernel
theorem d_Tree_add_144 : decode prog_7_method_26_code 144 = .ok (.ifCond .le 108, 3) := by decide +kernel
theorem d_Tree_add_147 : decode prog_7_method_26_code 147 = .ok (.aload_n 0, 1) := by decide +kernel
theorem d_Tree_add_148 : decode prog_7_method_26_code 148 = .ok (.getfield 9, 3) := by decide +kernel
theorem d_Tree_add_151 : decode prog_7_method_26_code 151 = .ok (.iload 9, 2) := by decide +kernel
theorem d_Tree_add_153 : decode prog_7_method_26_code 153 = .ok (.iconst 3, 1) := by decide +kernel
theorem d_Tree_add_154 : decode prog_7_method_26_code 154 = .ok (.iadd, 1) := by decide +kernel
theorem d_Tree_add_155 : decode prog_7_method_26_code 155 = .ok (.iaload, 1) := by decide +kernel
theorem d_Tree_add_156 : decode prog_7_method_26_code 156 = .ok (.iload 6, 2) := by decide +kernel
theorem d_Tree_add_158 : decode prog_7_method_26_code 158 = .ok (.if_icmp .ne 94, 3) := by decide +kernel
theorem d_Tree_add_161 : decode prog_7_method_26_code 161 = .ok (.aload_n 0, 1) := by decide +kernel
theorem d_Tree_add_162 : decode prog_7_method_26_code 162 = .ok (.getfield 9, 3) := by decide +kernel
theorem d_Tree_add_165 : decode prog_7_method_26_code 165 = .ok (.iload 9, 2) := by decide +kernel
theorem d_Tree_add_167 : decode prog_7_method_26_code 167 = .ok (.iconst 1, 1) := by decide +kernel
theorem d_Tree_add_168 : decode prog_7_method_26_code 168 = .ok (.iadd, 1) := by decide +kernel
theorem d_Tree_add_169 : decode prog_7_method_26_code 169 = .ok (.iaload, 1) := by decide +kernel
theorem d_Tree_add_170 : decode prog_7_method_26_code 170 = .ok (.aload_n 0, 1) := by decide +kernel
theorem d_Tree_add_171 : decode prog_7_method_26_code 171 = .ok (.iload 9, 2) := by decide +kernel
theorem d_Tree_add_173 : decode prog_7_method_26_code 173 = .ok (.invokevirtual 116, 3) := by decide +kernel
theorem d_Tree_add_176 : decode prog_7_method_26_code 176 = .ok (.getfield 155, 3) := by decide +kernel
theorem d_Tree_add_179 : decode prog_7_method_26_code 179 = .ok (.if_icmp .ne 30, 3) := by decide +kernel
theorem d_Tree_add_182 : decode prog_7_method_26_code 182 = .ok (.aload_n 0, 1) := by decide +kernel
theorem d_Tree_add_183 : decode prog_7_method_26_code 183 = .ok (.iload 9, 2) := by decide +kernel
theorem d_Tree_add_185 : decode prog_7_method_26_code 185 = .ok (.aload_n 0, 1) := by decide +kernel
theorem d_Tree_add_186 : decode prog_7_method_26_code 186 = .ok (.getfield 9, 3) := by decide +kernel
theorem d_Tree_add_189 : decode prog_7_method_26_code 189 = .ok (.iload 9, 2) := by decide +kernel
theorem d_Tree_add_191 : decode prog_7_method_26_code 191 = .ok (.iaload, 1) := by decide +kernel
theorem d_Tree_add_192 : decode prog_7_method_26_code 192 = .ok (.iconst 1, 1) := by decide +kernel
theorem d_Tree_add_193 : decode prog_7_method_26_code 193 = .ok (.iadd, 1) := by decide +kernel
theorem d_Tree_add_194 : decode prog_7_method_26_code 194 = .ok (.invokevirtual 158, 3) := by decide +kernel
theorem d_Tree_add_197 : decode prog_7_method_26_code 197 = .ok (.istore 9, 2) := by decide +kernel
theorem d_Tree_add_199 : decode prog_7_method_26_code 199 = .ok (.aload_n 0, 1) := by decide +kernel
theorem d_Tree_add_200 : decode prog_7_method_26_code 200 = .ok (.iload 7, 2) := by decide +kernel
theorem d_Tree_add_202 : decode prog_7_method_26_code 202 = .ok (.iload 8, 2) := by decide +kernel
theorem d_Tree_add_204 : decode prog_7_method_26_code 204 = .ok (.iload 9, 2) := by decide +kernel
theorem d_Tree_add_206 : decode prog_7_method_26_code 206 = .ok (.invokevirtual 161, 3) := by decide +kernel
theorem d_Tree_add_209 : decode prog_7_method_26_code 209 = .ok (.aload_n 0, 1) := by decide +kernel
theorem d_Tree_add_210 : decode prog_7_method_26_code 210 = .ok (.aload_n 1, 1) := by decide +kernel
theorem d_Tree_add_211 : decode prog_7_method_26_code 211 = .ok (.lload_n 2, 1) := by decide +kernel
theorem d_Tree_add_212 : decode prog_7_method_26_code 212 = .ok (.iload 4, 2) := by decide +kernel
theorem d_Tree_add_214 : decode prog_7_method_26_code 214 = .ok (.invokevirtual 151, 3) := by decide +kernel
theorem d_Tree_add_217 : decode prog_7_method_26_code 217 = .ok (.istore 11, 2) := by decide +kernel
theorem d_Tree_add_219 : decode prog_7_method_26_code 219 = .ok (.aload_n 0, 1) := by decide +kernel
theorem d_Tree_add_220 : decode prog_7_method_26_code 220 = .ok (.iload 9, 2) := by decide +kernel
theorem d_Tree_add_222 : decode prog_7_method_26_code 222 = .ok (.invokevirtual 116, 3) := by decide +kernel
theorem d_Tree_add_225 : decode prog_7_method_26_code 225 = .ok (.aload_n 0, 1) := by decide +kernel
theorem d_Tree_add_226 : decode prog_7_method_26_code 226 = .ok (.getfield 9, 3) := by decide +kernel
theorem d_Tree_add_229 : decode prog_7_method_26_code 229 = .ok (.iload 9, 2) := by decide +kernel
theorem d_Tree_add_231 : decode prog_7_method_26_code 231 = .ok (.iload 10, 2) := by decide +kernel
theorem d_Tree_add_233 : decode prog_7_method_26_code 233 = .ok (.iload 11, 2) := by decide +kernel
theorem d_Tree_add_235 : decode prog_7_method_26_code 235 = .ok (.invokevirtual 165, 3) := by decide +kernel
theorem d_Tree_add_238 : decode prog_7_method_26_code 238 = .ok (.aload_n 0, 1) := by decide +kernel
theorem d_Tree_add_239 : decode prog_7_method_26_code 239 = .ok (.getfield 9, 3) := by decide +kernel
theorem d_Tree_add_242 : decode prog_7_method_26_code 242 = .ok (.iload 9, 2) := by decide +kernel
theorem d_Tree_add_244 : decode prog_7_method_26_code 244 = .ok (.iconst 2, 1) := by decide +kernel
theorem d_Tree_add_245 : decode prog_7_method_26_code 245 = .ok (.iadd, 1) := by decide +kernel
theorem d_Tree_add_246 : decode prog_7_method_26_code 246 = .ok (.dup2, 1) := by decide +kernel
theorem d_Tree_add_247 : decode prog_7_method_26_code 247 = .ok (.iaload, 1) := by decide +kernel
theorem d_Tree_add_248 : decode prog_7_method_26_code 248 = .ok (.iconst 1, 1) := by decide +kernel
theorem d_Tree_add_249 : decode prog_7_method_26_code 249 = .ok (.iadd, 1) := by decide +kernel
theorem d_Tree_add_250 : decode prog_7_method_26_code 250 = .ok (.iastore, 1) := by decide +kernel
theorem d_Tree_add_251 : decode prog_7_method_26_code 251 = .ok (.return_, 1) := by decide +kernel
theorem d_Tree_add_252 : decode prog_7_method_26_code 252 = .ok (.aload_n 0, 1) := by decide +kernel
theorem d_Tree_add_253 : decode prog_7_method_26_code 253 = .ok (.iload 5, 2) := by decide +kernel
theorem d_Tree_add_255 : decode prog_7_method_26_code 255 = .ok (.iload 6, 2) := by decide +kernel
theorem d_Tree_add_257 : decode prog_7_method_26_code 257 = .ok (.invokevirtual 105, 3) := by decide +kernel
theorem d_Tree_add_260 : decode prog_7_method_26_code 260 = .ok (.istore 11, 2) := by decide +kernel
theorem d_Tree_add_262 : decode prog_7_method_26_code 262 = .ok (.aload_n 0, 1) := by decide +kernel
theorem d_Tree_add_263 : decode prog_7_method_26_code 263 = .ok (.iload 9, 2) := by decide +kernel
theorem d_Tree_add_265 : decode prog_7_method_26_code 265 = .ok (.invokevirtual 113, 3) := by decide +kernel
theorem d_Tree_add_268 : decode prog_7_method_26_code 268 = .ok (.istore 12, 2) := by decide +kernel
theorem d_Tree_add_270 : decode prog_7_method_26_code 270 = .ok (.aload_n 0, 1) := by decide +kernel
theorem d_Tree_add_271 : decode prog_7_method_26_code 271 = .ok (.aload_n 1, 1) := by decide +kernel
theorem d_Tree_add_272 : decode prog_7_method_26_code 272 = .ok (.lload_n 2, 1) := by decide +kernel
theorem d_Tree_add_273 : decode prog_7_method_26_code 273 = .ok (.iload 4, 2) := by decide +kernel
theorem d_Tree_add_275 : decode prog_7_method_26_code 275 = .ok (.invokevirtual 151, 3) := by decide +kernel
theorem d_Tree_add_278 : decode prog_7_method_26_code 278 = .ok (.istore 13, 2) := by decide +kernel
theorem d_Tree_add_280 : decode prog_7_method_26_code 280 = .ok (.aload_n 0, 1) := by decide +kernel
theorem d_Tree_add_281 : decode prog_7_method_26_code 281 = .ok (.iconst 0, 1) := by decide +kernel
theorem d_Tree_add_282 : decode prog_7_method_26_code 282 = .ok (.iload 6, 2) := by decide +kernel
theorem d_Tree_add_284 : decode prog_7_method_26_code 284 = .ok (.invokevirtual 169, 3) := by decide +kernel
theorem d_Tree_add_287 : decode prog_7_method_26_code 287 = .ok (.istore 14, 2) := by decide +kernel
theorem d_Tree_add_289 : decode prog_7_method_26_code 289 = .ok (.aload_n 0, 1) := by decide +kernel
theorem d_Tree_add_290 : decode prog_7_method_26_code 290 = .ok (.getfield 30, 3) := by decide +kernel
theorem d_Tree_add_293 : decode prog_7_method_26_code 293 = .ok (.aload_n 0, 1) := by decide +kernel
theorem d_Tree_add_294 : decode prog_7_method_26_code 294 = .ok (.getfield 9, 3) := by decide +kernel
theorem d_Tree_add_297 : decode prog_7_method_26_code 297 = .ok (.iload 14, 2) := by decide +kernel
theorem d_Tree_add_299 : decode prog_7_method_26_code 299 = .ok (.iload 11, 2) := by decide +kernel
theorem d_Tree_add_301 : decode prog_7_method_26_code 301 = .ok (.iload 9, 2) := by decide +kernel
theorem d_Tree_add_303 : decode prog_7_method_26_code 303 = .ok (.invokevirtual 165, 3) := by decide +kernel
theorem d_Tree_add_306 : decode prog_7_method_26_code 306 = .ok (.aload_n 0, 1) := by decide +kernel
theorem d_Tree_add_307 : decode prog_7_method_26_code 307 = .ok (.getfield 30, 3) := by decide +kernel
theorem d_Tree_add_310 : decode prog_7_method_26_code 310 = .ok (.aload_n 0, 1) := by decide +kernel
theorem d_Tree_add_311 : decode prog_7_method_26_code 311 = .ok (.getfield 9, 3) := by decide +kernel
theorem d_Tree_add_314 : decode prog_7_method_26_code 314 = .ok (.iload 14, 2) := by decide +kernel
theorem d_Tree_add_316 : decode prog_7_method_26_code 316 = .ok (.iload 10, 2) := by decide +kernel
theorem d_Tree_add_318 : decode prog_7_method_26_code 318 = .ok (.iload 13, 2) := by decide +kernel
theorem d_Tree_add_320 : decode prog_7_method_26_code 320 = .ok (.invokevirtual 165, 3) := by decide +kernel
theorem d_Tree_add_323 : decode prog_7_method_26_code 323 = .ok (.aload_n 0, 1) := by decide +kernel
theorem d_Tree_add_324 : decode prog_7_method_26_code 324 = .ok (.getfield 9, 3) := by decide +kernel
theorem d_Tree_add_327 : decode prog_7_method_26_code 327 = .ok (.iload 14, 2) := by decide +kernel
theorem d_Tree_add_329 : decode prog_7_method_26_code 329 = .ok (.iconst 2, 1) := by decide +kernel
theorem d_Tree_add_330 : decode prog_7_method_26_code 330 = .ok (.iadd, 1) := by decide +kernel
theorem d_Tree_add_331 : decode prog_7_method_26_code 331 = .ok (.iload 12, 2) := by decide +kernel
theorem d_Tree_add_333 : decode prog_7_method_26_code 333 = .ok (.iconst 1, 1) := by decide +kernel
theorem d_Tree_add_334 : decode prog_7_method_26_code 334 = .ok (.iadd, 1) := by decide +kernel
theorem d_Tree_add_335 : decode prog_7_method_26_code 335 = .ok (.iastore, 1) := by decide +kernel
theorem d_Tree_add_336 : decode prog_7_method_26_code 336 = .ok (.aload_n 0, 1) := by decide +kernel
theorem d_Tree_add_337 : decode prog_7_method_26_code 337 = .ok (.iload 7, 2) := by decide +kernel
theorem d_Tree_add_339 : decode prog_7_method_26_code 339 = .ok (.iload 8, 2) := by decide +kernel
theorem d_Tree_add_341 : decode prog_7_method_26_code 341 = .ok (.iload 14, 2) := by decide +kernel
theorem d_Tree_add_343 : decode prog_7_method_26_code 343 = .ok (.invokevirtual 161, 3) := by decide +kernel
theorem d_Tree_add_346 : decode prog_7_method_26_code 346 = .ok (.return_, 1) := by decide +kernel
theorem d_Tree_resized_0 : decode prog_7_method_27_code 0 = .ok (.aload_n 0, 1) := by decide +kernel
theorem d_Tree_resized_1 : decode prog_7_method_27_code 1 = .ok (.iload_n 2, 1) := by decide +kernel
theorem d_Tree_resized_2 : decode prog_7_method_27_code 2 = .ok (.aload_n 0, 1) := by decide +kernel
theorem d_Tree_resized_3 : decode prog_7_method_27_code 3 = .ok (.getfield 9, 3) := by decide +kernel
theorem d_Tree_resized_6 : decode prog_7_method_27_code 6 = .ok (.iload_n 1, 1) := by decide +kernel
theorem d_Tree_resized_7 : decode prog_7_method_27_code 7 = .ok (.iconst 3, 1) := by decide +kernel
theorem d_Tree_resized_8 : decode prog_7_method_27_code 8 = .ok (.iadd, 1) := by decide +kernel
theorem d_Tree_resized_9 : decode prog_7_method_27_code 9 = .ok (.iaload, 1) := by decide +kernel
theorem d_Tree_resized_10 : decode prog_7_method_27_code 10 = .ok (.invokevirtual 169, 3) := by decide +kernel
theorem d_Tree_resized_13 : decode prog_7_method_27_code 13 = .ok (.istore_n 3, 1) := by decide +kernel
theorem d_Tree_resized_14 : decode prog_7_method_27_code 14 = .ok (.aload_n 0, 1) := by decide +kernel
theorem d_Tree_resized_15 : decode prog_7_method_27_code 15 = .ok (.iload_n 1, 1) := by decide +kernel
theorem d_Tree_resized_16 : decode prog_7_method_27_code 16 = .ok (.invokevirtual 116, 3) := by decide +kernel
theorem d_Tree_resized_19 : decode prog_7_method_27_code 19 = .ok (.astore 4, 2) := by decide +kernel
theorem d_Tree_resized_21 : decode prog_7_method_27_code 21 = .ok (.aload_n 0, 1) := by decide +kernel
theorem d_Tree_resized_22 : decode prog_7_method_27_code 22 = .ok (.iload_n 2, 1) := by decide +kernel
theorem d_Tree_resized_23 : decode prog_7_method_27_code 23 = .ok (.invokevirtual 73, 3) := by decide +kernel
theorem d_Tree_resized_26 : decode prog_7_method_27_code 26 = .ok (.astore 5, 2) := by decide +kernel
theorem d_Tree_resized_28 : decode prog_7_method_27_code 28 = .ok (.aload_n 0, 1) := by decide +kernel
theorem d_Tree_resized_29 : decode prog_7_method_27_code 29 = .ok (.getfield 9, 3) := by decide +kernel
theorem d_Tree_resized_32 : decode prog_7_method_27_code 32 = .ok (.iload_n 3, 1) := by decide +kernel
theorem d_Tree_resized_33 : decode prog_7_method_27_code 33 = .ok (.iconst 2, 1) := by decide +kernel
theorem d_Tree_resized_34 : decode prog_7_method_27_code 34 = .ok (.iadd, 1) := by decide +kernel
theorem d_Tree_resized_35 : decode prog_7_method_27_code 35 = .ok (.aload_n 0, 1) := by decide +kernel
theorem d_Tree_resized_36 : decode prog_7_method_27_code 36 = .ok (.getfield 9, 3) := by decide +kernel
theorem d_Tree_resized_39 : decode prog_7_method_27_code 39 = .ok (.iload_n 1, 1) := by decide +kernel
theorem d_Tree_resized_40 : decode prog_7_method_27_code 40 = .ok (.iconst 2, 1) := by decide +kernel
theorem d_Tree_resized_41 : decode prog_7_method_27_code 41 = .ok (.iadd, 1) := by decide +kernel
theorem d_Tree_resized_42 : decode prog_7_method_27_code 42 = .ok (.iaload, 1) := by decide +kernel
theorem d_Tree_resized_43 : decode prog_7_method_27_code 43 = .ok (.iastore, 1) := by decide +kernel
theorem d_Tree_resized_44 : decode prog_7_method_27_code 44 = .ok (.aload 4, 2) := by decide +kernel
theorem d_Tree_resized_46 : decode prog_7_method_27_code 46 = .ok (.aload_n 0, 1) := by decide +kernel
theorem d_Tree_resized_47 : decode prog_7_method_27_code 47 = .ok (.getfield 9, 3) := by decide +kernel
theorem d_Tree_resized_50 : decode prog_7_method_27_code 50 = .ok (.iload_n 1, 1) := by decide +kernel
theorem d_Tree_resized_51 : decode prog_7_method_27_code 51 = .ok (.iconst 0, 1) := by decide +kernel
theorem d_Tree_resized_52 : decode prog_7_method_27_code 52 = .ok (.invokevirtual 123, 3) := by decide +kernel
theorem d_Tree_resized_55 : decode prog_7_method_27_code 55 = .ok (.istore 6, 2) := by decide +kernel
theorem d_Tree_resized_57 : decode prog_7_method_27_code 57 = .ok (.iload 6, 2) := by decide +kernel
theorem d_Tree_resized_59 : decode prog_7_method_27_code 59 = .ok (.iconst (-1), 1) := by decide +kernel
theorem d_Tree_resized_60 : decode prog_7_method_27_code 60 = .ok (.if_icmp .eq 53, 3) := by decide +kernel
theorem d_Tree_resized_63 : decode prog_7_method_27_code 63 = .ok (.aload 5, 2) := by decide +kernel
theorem d_Tree_resized_65 : decode prog_7_method_27_code 65 = .ok (.aload_n 0, 1) := by decide +kernel
theorem d_Tree_resized_66 : decode prog_7_method_27_code 66 = .ok (.getfield 9, 3) := by decide +kernel
theorem d_Tree_resized_69 : decode prog_7_method_27_code 69 = .ok (.iload_n 3, 1) := by decide +kernel
theorem d_Tree_resized_70 : decode prog_7_method_27_code 70 = .ok (.iload 6, 2) := by decide +kernel
theorem d_Tree_resized_72 : decode prog_7_method_27_code 72 = .ok (.aload_n 0, 1) := by decide +kernel
theorem d_Tree_resized_73 : decode prog_7_method_27_code 73 = .ok (.iload_n 1, 1) := by decide +kernel
theorem d_Tree_resized_74 : decode prog_7_method_27_code 74 = .ok (.iload 6, 2) := by decide +kernel
theorem d_Tree_resized_76 : decode prog_7_method_27_code 76 = .ok (.invokevirtual 126, 3) := by decide +kernel
theorem d_Tree_resized_79 : decode prog_7_method_27_code 79 = .ok (.invokevirtual 165, 3) := by decide +kernel
theorem d_Tree_resized_82 : decode prog_7_method_27_code 82 = .ok (.iload 6, 2) := by decide +kernel
theorem d_Tree_resized_84 : decode prog_7_method_27_code 84 = .ok (.sipush 255, 3) := by decide +kernel
theorem d_Tree_resized_87 : decode prog_7_method_27_code 87 = .ok (.if_icmp .ne 7, 3) := by decide +kernel
theorem d_Tree_resized_90 : decode prog_7_method_27_code 90 = .ok (.iconst (-1), 1) := by decide +kernel
theorem d_Tree_resized_91 : decode prog_7_method_27_code 91 = .ok (.goto 17, 3) := by decide +kernel
theorem d_Tree_resized_94 : decode prog_7_method_27_code 94 = .ok (.aload 4, 2) := by decide +kernel
theorem d_Tree_resized_96 : decode prog_7_method_27_code 96 = .ok (.aload_n 0, 1) := by decide +kernel
theorem d_Tree_resized_97 : decode prog_7_method_27_code 97 = .ok (.getfield 9, 3) := by decide +kernel
theorem d_Tree_resized_100 : decode prog_7_method_27_code 100 = .ok (.iload_n 1, 1) := by decide +kernel
theorem d_Tree_resized_101 : decode prog_7_method_27_code 101 = .ok (.iload 6, 2) := by decide +kernel
theorem d_Tree_resized_103 : decode prog_7_method_27_code 103 = .ok (.iconst 1, 1) := by decide +kernel
theorem d_Tree_resized_104 : decode prog_7_method_27_code 104 = .ok (.iadd, 1) := by decide +kernel
theorem d_Tree_resized_105 : decode prog_7_method_27_code 105 = .ok (.invokevirtual 123, 3) := by decide +kernel
theorem d_Tree_resized_108 : decode prog_7_method_27_code 108 = .ok (.istore 6, 2) := by decide +kernel
theorem d_Tree_resized_110 : decode prog_7_method_27_code 110 = .ok (.goto (-53), 3) := by decide +kernel
theorem d_Tree_resized_113 : decode prog_7_method_27_code 113 = .ok (.aload_n 0, 1) := by decide +kernel
theorem d_Tree_resized_114 : decode prog_7_method_27_code 114 = .ok (.getfield 49, 3) := by decide +kernel
theorem d_Tree_resized_117 : decode prog_7_method_27_code 117 = .ok (.aload_n 0, 1) := by decide +kernel
theorem d_Tree_resized_118 : decode prog_7_method_27_code 118 = .ok (.getfield 9, 3) := by decide +kernel
theorem d_Tree_resized_121 : decode prog_7_method_27_code 121 = .ok (.iload_n 1, 1) := by decide +kernel
theorem d_Tree_resized_122 : decode prog_7_method_27_code 122 = .ok (.iaload, 1) := by decide +kernel
theorem d_Tree_resized_123 : decode prog_7_method_27_code 123 = .ok (.dup2, 1) := by decide +kernel
theorem d_Tree_resized_124 : decode prog_7_method_27_code 124 = .ok (.iaload, 1) := by decide +kernel
theorem d_Tree_resized_125 : decode prog_7_method_27_code 125 = .ok (.iconst 1, 1) := by decide +kernel
theorem d_Tree_resized_126 : decode prog_7_method_27_code 126 = .ok (.isub, 1) := by decide +kernel
theorem d_Tree_resized_127 : decode prog_7_method_27_code 127 = .ok (.iastore, 1) := by decide +kernel
theorem d_Tree_resized_128 : decode prog_7_method_27_code 128 = .ok (.aload_n 0, 1) := by decide +kernel
theorem d_Tree_resized_129 : decode prog_7_method_27_code 129 = .ok (.iload_n 1, 1) := by decide +kernel
theorem d_Tree_resized_130 : decode prog_7_method_27_code 130 = .ok (.aload 4, 2) := by decide +kernel
theorem d_Tree_resized_132 : decode prog_7_method_27_code 132 = .ok (.getfield 77, 3) := by decide +kernel
theorem d_Tree_resized_135 : decode prog_7_method_27_code 135 = .ok (.invokevirtual 172, 3) := by decide +kernel
theorem d_Tree_resized_138 : decode prog_7_method_27_code 138 = .ok (.iload_n 3, 1) := by decide +kernel
theorem d_Tree_resized_139 : decode prog_7_method_27_code 139 = .ok (.ireturn, 1) := by decide +kernel
theorem d_Tree_remove_0 : decode prog_7_method_28_code 0 = .ok (.iconst 0, 1) := by decide +kernel
theorem d_Tree_remove_1 : decode prog_7_method_28_code 1 = .ok (.istore_n 2, 1) := by decide +kernel
theorem d_Tree_remove_2 : decode prog_7_method_28_code 2 = .ok (.iconst 0, 1) := by decide +kernel
theorem d_Tree_remove_3 : decode prog_7_method_28_code 3 = .ok (.istore_n 3, 1) := by decide +kernel
theorem d_Tree_remove_4 : decode prog_7_method_28_code 4 = .ok (.iconst 0, 1) := by decide +kernel
theorem d_Tree_remove_5 : decode prog_7_method_28_code 5 = .ok (.istore 4, 2) := by decide +kernel
theorem d_Tree_remove_7 : decode prog_7_method_28_code 7 = .ok (.iconst 0, 1) := by decide +kernel
theorem d_Tree_remove_8 : decode prog_7_method_28_code 8 = .ok (.istore 5, 2) := by decide +kernel
theorem d_Tree_remove_10 : decode prog_7_method_28_code 10 = .ok (.aload_n 0, 1) := by decide +kernel
theorem d_Tree_remove_11 : decode prog_7_method_28_code 11 = .ok (.getfield 70, 3) := by decide +kernel
theorem d_Tree_remove_14 : decode prog_7_method_28_code 14 = .ok (.istore 6, 2) := by decide +kernel
theorem d_Tree_remove_16 : decode prog_7_method_28_code 16 = .ok (.iload 6, 2) := by decide +kernel
theorem d_Tree_remove_18 : decode prog_7_method_28_code 18 = .ok (.ifCond .le 54, 3) := by decide +kernel
theorem d_Tree_remove_21 : decode prog_7_method_28_code 21 = .ok (.aload_n 0, 1) := by decide +kernel
theorem d_Tree_remove_22 : decode prog_7_method_28_code 22 = .ok (.getfield 9, 3) := by decide +kernel
theorem d_Tree_remove_25 : decode prog_7_method_28_code 25 = .ok (.iload 6, 2) := by decide +kernel
theorem d_Tree_remove_27 : decode prog_7_method_28_code 27 = .ok (.iconst 2, 1) := by decide +kernel
theorem d_Tree_remove_28 : decode prog_7_method_28_code 28 = .ok (.iadd, 1) := by decide +kernel
theorem d_Tree_remove_29 : decode prog_7_method_28_code 29 = .ok (.dup2, 1) := by decide +kernel
theorem d_Tree_remove_30 : decode prog_7_method_28_code 30 = .ok (.iaload, 1) := by decide +kernel
theorem d_Tree_remove_31 : decode prog_7_method_28_code 31 = .ok (.iconst 1, 1) := by decide +kernel
theorem d_Tree_remove_32 : decode prog_7_method_28_code 32 = .ok (.isub, 1) := by decide +kernel
theorem d_Tree_remove_33 : decode prog_7_method_28_code 33 = .ok (.iastore, 1) := by decide +kernel
theorem d_Tree_remove_34 : decode prog_7_method_28_code 34 = .ok (.iload 4, 2) := by decide +kernel
theorem d_Tree_remove_36 : decode prog_7_method_28_code 36 = .ok (.istore_n 2, 1) := by decide +kernel
theorem d_Tree_remove_37 : decode prog_7_method_28_code 37 = .ok (.iload 5, 2) := by decide +kernel
theorem d_Tree_remove_39 : decode prog_7_method_28_code 39 = .ok (.istore_n 3, 1) := by decide +kernel
theorem d_Tree_remove_40 : decode prog_7_method_28_code 40 = .ok (.iload 6, 2) := by decide +kernel
theorem d_Tree_remove_42 : decode prog_7_method_28_code 42 = .ok (.istore 4, 2) := by decide +kernel
theorem d_Tree_remove_44 : decode prog_7_method_28_code 44 = .ok (.aload_n 1, 1) := by decide +kernel
theorem d_Tree_remove_45 : decode prog_7_method_28_code 45 = .ok (.aload_n 0, 1) := by decide +kernel
theorem d_Tree_remove_46 : decode prog_7_method_28_code 46 = .ok (.getfield 9, 3) := by decide +kernel
theorem d_Tree_remove_49 : decode prog_7_method_28_code 49 = .ok (.iload 6, 2) := by decide +kernel
theorem d_Tree_remove_51 : decode prog_7_method_28_code 51 = .ok (.iconst 3, 1) := by decide +kernel
theorem d_Tree_remove_52 : decode prog_7_method_28_code 52 = .ok (.iadd, 1) := by decide +kernel
theorem d_Tree_remove_53 : decode prog_7_method_28_code 53 = .ok (.iaload, 1) := by decide +kernel
theorem d_Tree_remove_54 : decode prog_7_method_28_code 54 = .ok (.invokevirtual 92, 3) := by decide +kernel
theorem d_Tree_remove_57 : decode prog_7_method_28_code 57 = .ok (.istore 5, 2) := by decide +kernel
theorem d_Tree_remove_59 : decode prog_7_method_28_code 59 = .ok (.aload_n 0, 1) := by decide +kernel
theorem d_Tree_remove_60 : decode prog_7_method_28_code 60 = .ok (.iload 6, 2) := by decide +kernel
theorem d_Tree_remove_62 : decode prog_7_method_28_code 62 = .ok (.iload 5, 2) := by decide +kernel
theorem d_Tree_remove_64 : decode prog_7_method_28_code 64 = .ok (.invokevirtual 126, 3) := by decide +kernel
theorem d_Tree_remove_67 : decode prog_7_method_28_code 67 = .ok (.istore 6, 2) := by decide +kernel
theorem d_Tree_remove_69 : decode prog_7_method_28_code 69 = .ok (.goto (-53), 3) := by decide +kernel
theorem d_Tree_remove_72 : decode prog_7_method_28_code 72 = .ok (.aload_n 0, 1) := by decide +kernel
theorem d_Tree_remove_73 : decode prog_7_method_28_code 73 = .ok (.iload 6, 2) := by decide +kernel
theorem d_Tree_remove_75 : decode prog_7_method_28_code 75 = .ok (.ineg, 1) := by decide +kernel
theorem d_Tree_remove_76 : decode prog_7_method_28_code 76 = .ok (.aload_n 0, 1) := by decide +kernel
theorem d_Tree_remove_77 : decode prog_7_method_28_code 77 = .ok (.getfield 9, 3) := by decide +kernel
theorem d_Tree_remove_80 : decode prog_7_method_28_code 80 = .ok (.iload 6, 2) := by decide +kernel
theorem d_Tree_remove_82 : decode prog_7_method_28_code 82 = .ok (.ineg, 1) := by decide +kernel
theorem d_Tree_remove_83 : decode prog_7_method_28_code 83 = .ok (.iaload, 1) := by decide +kernel
theorem d_Tree_remove_84 : decode prog_7_method_28_code 84 = .ok (.invokestatic 89, 3) := by decide +kernel
theorem d_Tree_remove_87 : decode prog_7_method_28_code 87 = .ok (.invokevirtual 172, 3) := by decide +kernel
theorem d_Tree_remove_90 : decode prog_7_method_28_code 90 = .ok (.iload 4, 2) := by decide +kernel
theorem d_Tree_remove_92 : decode prog_7_method_28_code 92 = .ok (.ifCond .ne 9, 3) := by decide +kernel
theorem d_Tree_remove_95 : decode prog_7_method_28_code 95 = .ok (.aload_n 0, 1) := by decide +kernel
theorem d_Tree_remove_96 : decode prog_7_method_28_code 96 = .ok (.iconst 0, 1) := by decide +kernel
theorem d_Tree_remove_97 : decode prog_7_method_28_code 97 = .ok (.putfield 70, 3) := by decide +kernel
theorem d_Tree_remove_100 : decode prog_7_method_28_code 100 = .ok (.return_, 1) := by decide +kernel
theorem d_Tree_remove_101 : decode prog_7_method_28_code 101 = .ok (.aload_n 0, 1) := by decide +kernel
theorem d_Tree_remove_102 : decode prog_7_method_28_code 102 = .ok (.iload 4, 2) := by decide +kernel
theorem d_Tree_remove_104 : decode prog_7_method_28_code 104 = .ok (.invokevirtual 116, 3) := by decide +kernel
theorem d_Tree_remove_107 : decode prog_7_method_28_code 107 = .ok (.astore 7, 2) := by decide +kernel
theorem d_Tree_remove_109 : decode prog_7_method_28_code 109 = .ok (.aload 7, 2) := by decide +kernel
theorem d_Tree_remove_111 : decode prog_7_method_28_code 111 = .ok (.aload_n 0, 1) := by decide +kernel
theorem d_Tree_remove_112 : decode prog_7_method_28_code 112 = .ok (.getfield 9, 3) := by decide +kernel
theorem d_Tree_remove_115 : decode prog_7_method_28_code 115 = .ok (.iload 4, 2) := by decide +kernel
theorem d_Tree_remove_117 : decode prog_7_method_28_code 117 = .ok (.iload 5, 2) := by decide +kernel
theorem d_Tree_remove_119 : decode prog_7_method_28_code 119 = .ok (.invokevirtual 175, 3) := by decide +kernel
theorem d_Tree_remove_122 : decode prog_7_method_28_code 122 = .ok (.aload_n 0, 1) := by decide +kernel
theorem d_Tree_remove_123 : decode prog_7_method_28_code 123 = .ok (.getfield 9, 3) := by decide +kernel
theorem d_Tree_remove_126 : decode prog_7_method_28_code 126 = .ok (.iload 4, 2) := by decide +kernel
theorem d_Tree_remove_128 : decode prog_7_method_28_code 128 = .ok (.iconst 1, 1) := by decide +kernel
theorem d_Tree_remove_129 : decode prog_7_method_28_code 129 = .ok (.iadd, 1) := by decide +kernel
theorem d_Tree_remove_130 : decode prog_7_method_28_code 130 = .ok (.iaload, 1) := by decide +kernel
theorem d_Tree_remove_131 : decode prog_7_method_28_code 131 = .ok (.iconst 1, 1) := by decide +kernel
theorem d_Tree_remove_132 : decode prog_7_method_28_code 132 = .ok (.if_icmp .ne 61, 3) := by decide +kernel
theorem d_Tree_remove_135 : decode prog_7_method_28_code 135 = .ok (.aload_n 0, 1) := by decide +kernel
theorem d_Tree_remove_136 : decode prog_7_method_28_code 136 = .ok (.iload 4, 2) := by decide +kernel
theorem d_Tree_remove_138 : decode prog_7_method_28_code 138 = .ok (.aload 7, 2) := by decide +kernel
theorem d_Tree_remove_140 : decode prog_7_method_28_code 140 = .ok (.aload_n 0, 1) := by decide +kernel
theorem d_Tree_remove_141 : decode prog_7_method_28_code 141 = .ok (.getfield 9, 3) := by decide +kernel
theorem d_Tree_remove_144 : decode prog_7_method_28_code 144 = .ok (.iload 4, 2) := by decide +kernel
theorem d_Tree_remove_146 : decode prog_7_method_28_code 146 = .ok (.iconst 0, 1) := by decide +kernel
theorem d_Tree_remove_147 : decode prog_7_method_28_code 147 = .ok (.invokevirtual 123, 3) := by decide +kernel
theorem d_Tree_remove_150 : decode prog_7_method_28_code 150 = .ok (.invokevirtual 126, 3) := by decide +kernel
theorem d_Tree_remove_153 : decode prog_7_method_28_code 153 = .ok (.istore 8, 2) := by decide +kernel
theorem d_Tree_remove_155 : decode prog_7_method_28_code 155 = .ok (.aload_n 0, 1) := by decide +kernel
theorem d_Tree_remove_156 : decode prog_7_method_28_code 156 = .ok (.iload_n 2, 1) := by decide +kernel
theorem d_Tree_remove_157 : decode prog_7_method_28_code 157 = .ok (.iload_n 3, 1) := by decide +kernel
theorem d_Tree_remove_158 : decode prog_7_method_28_code 158 = .ok (.iload 8, 2) := by decide +kernel
theorem d_Tree_remove_160 : decode prog_7_method_28_code 160 = .ok (.invokevirtual 161, 3) := by decide +kernel
theorem d_Tree_remove_163 : decode prog_7_method_28_code 163 = .ok (.aload_n 0, 1) := by decide +kernel
theorem d_Tree_remove_164 : decode prog_7_method_28_code 164 = .ok (.getfield 49, 3) := by decide +kernel
theorem d_Tree_remove_167 : decode prog_7_method_28_code 167 = .ok (.aload_n 0, 1) := by decide +kernel
theorem d_Tree_remove_168 : decode prog_7_method_28_code 168 = .ok (.getfield 9, 3) := by decide +kernel
theorem d_Tree_remove_171 : decode prog_7_method_28_code 171 = .ok (.iload 4, 2) := by decide +kernel
theorem d_Tree_remove_173 : decode prog_7_method_28_code 173 = .ok (.iaload, 1) := by decide +kernel
theorem d_Tree_remove_174 : decode prog_7_method_28_code 174 = .ok (.dup2, 1) := by decide +kernel
theorem d_Tree_remove_175 : decode prog_7_method_28_code 175 = .ok (.iaload, 1) := by decide +kernel
theorem d_Tree_remove_176 : decode prog_7_method_28_code 176 = .ok (.iconst 1, 1) := by decide +kernel
theorem d_Tree_remove_177 : decode prog_7_method_28_code 177 = .ok (.isub, 1) := by decide +kernel
theorem d_Tree_remove_178 : decode prog_7_method_28_code 178 = .ok (.iastore, 1) := by decide +kernel
theorem d_Tree_remove_179 : decode prog_7_method_28_code 179 = .ok (.aload_n 0, 1) := by decide +kernel
theorem d_Tree_remove_180 : decode prog_7_method_28_code 180 = .ok (.iload 4, 2) := by decide +kernel
theorem d_Tree_remove_182 : decode prog_7_method_28_code 182 = .ok (.aload 7, 2) := by decide +kernel
theorem d_Tree_remove_184 : decode prog_7_method_28_code 184 = .ok (.getfield 77, 3) := by decide +kernel
theorem d_Tree_remove_187 : decode prog_7_method_28_code 187 = .ok (.invokevirtual 172, 3) := by decide +kernel
theorem d_Tree_remove_190 : decode prog_7_method_28_code 190 = .ok (.goto 66, 3) := by decide +kernel
theorem d_Tree_remove_193 : decode prog_7_method_28_code 193 = .ok (.aload_n 0, 1) := by decide +kernel
theorem d_Tree_remove_194 : decode prog_7_method_28_code 194 = .ok (.getfield 9, 3) := by decide +kernel
theorem d_Tree_remove_197 : decode prog_7_method_28_code 197 = .ok (.iload 4, 2) := by decide +kernel
theorem d_Tree_remove_199 : decode prog_7_method_28_code 199 = .ok (.iaload, 1) := by decide +kernel
theorem d_Tree_remove_200 : decode prog_7_method_28_code 200 = .ok (.ifCond .le 56, 3) := by decide +kernel
theorem d_Tree_remove_203 : decode prog_7_method_28_code 203 = .ok (.aload_n 0, 1) := by decide +kernel
theorem d_Tree_remove_204 : decode prog_7_method_28_code 204 = .ok (.getfield 9, 3) := by decide +kernel
theorem d_Tree_remove_207 : decode prog_7_method_28_code 207 = .ok (.iload 4, 2) := by decide +kernel
theorem d_Tree_remove_209 : decode prog_7_method_28_code 209 = .ok (.iconst 1, 1) := by decide +kernel
theorem d_Tree_remove_210 : decode prog_7_method_28_code 210 = .ok (.iadd, 1) := by decide +kernel
theorem d_Tree_remove_211 : decode prog_7_method_28_code 211 = .ok (.iaload, 1) := by decide +kernel
theorem d_Tree_remove_212 : decode prog_7_method_28_code 212 = .ok (.aload_n 0, 1) := by decide +kernel
theorem d_Tree_remove_213 : decode prog_7_method_28_code 213 = .ok (.aload_n 0, 1) := by decide +kernel
theorem d_Tree_remove_214 : decode prog_7_method_28_code 214 = .ok (.getfield 9, 3) := by decide +kernel
theorem d_Tree_remove_217 : decode prog_7_method_28_code 217 = .ok (.iload 4, 2) := by decide +kernel
theorem d_Tree_remove_219 : decode prog_7_method_28_code 219 = .ok (.iaload, 1) := by decide +kernel
theorem d_Tree_remove_220 : decode prog_7_method_28_code 220 = .ok (.iconst 1, 1) := by decide +kernel
theorem d_Tree_remove_221 : decode prog_7_method_28_code 221 = .ok (.isub, 1) := by decide +kernel
theorem d_Tree_remove_222 : decode prog_7_method_28_code 222 = .ok (.invokevirtual 73, 3) := by decide +kernel
theorem d_Tree_remove_225 : decode prog_7_method_28_code 225 = .ok (.getfield 155, 3) := by decide +kernel
theorem d_Tree_remove_228 : decode prog_7_method_28_code 228 = .ok (.if_icmp .gt 28, 3) := by decide +kernel
theorem d_Tree_remove_231 : decode prog_7_method_28_code 231 = .ok (.aload_n 0, 1) := by decide +kernel
theorem d_Tree_remove_232 : decode prog_7_method_28_code 232 = .ok (.iload 4, 2) := by decide +kernel
theorem d_Tree_remove_234 : decode prog_7_method_28_code 234 = .ok (.aload_n 0, 1) := by decide +kernel
theorem d_Tree_remove_235 : decode prog_7_method_28_code 235 = .ok (.getfield 9, 3) := by decide +kernel
theorem d_Tree_remove_238 : decode prog_7_method_28_code 238 = .ok (.iload 4, 2) := by decide +kernel
theorem d_Tree_remove_240 : decode prog_7_method_28_code 240 = .ok (.iaload, 1) := by decide +kernel
theorem d_Tree_remove_241 : decode prog_7_method_28_code 241 = .ok (.iconst 1, 1) := by decide +kernel
theorem d_Tree_remove_242 : decode prog_7_method_28_code 242 = .ok (.isub, 1) := by decide +kernel
theorem d_Tree_remove_243 : decode prog_7_method_28_code 243 = .ok (.invokevirtual 158, 3) := by decide +kernel
theorem d_Tree_remove_246 : decode prog_7_method_28_code 246 = .ok (.istore 8, 2) := by decide +kernel
theorem d_Tree_remove_248 : decode prog_7_method_28_code 248 = .ok (.aload_n 0, 1) := by decide +kernel
theorem d_Tree_remove_249 : decode prog_7_method_28_code 249 = .ok (.iload_n 2, 1) := by decide +kernel
theorem d_Tree_remove_250 : decode prog_7_method_28_code 250 = .ok (.iload_n 3, 1) := by decide +kernel
theorem d_Tree_remove_251 : decode prog_7_method_28_code 251 = .ok (.iload 8, 2) := by decide +kernel
theorem d_Tree_remove_253 : decode prog_7_method_28_code 253 = .ok (.invokevirtual 161, 3) := by decide +kernel
theorem d_Tree_remove_256 : decode prog_7_method_28_code 256 = .ok (.return_, 1) := by decide +kernel
theorem d_Tree_number_0 : decode prog_7_method_29_code 0 = .ok (.aload_n 1, 1) := by decide +kernel
theorem d_Tree_number_1 : decode prog_7_method_29_code 1 = .ok (.invokevirtual 179, 3) := by decide +kernel
theorem d_Tree_number_4 : decode prog_7_method_29_code 4 = .ok (.aload_n 1, 1) := by decide +kernel
theorem d_Tree_number_5 : decode prog_7_method_29_code 5 = .ok (.aload_n 0, 1) := by decide +kernel
theorem d_Tree_number_6 : decode prog_7_method_29_code 6 = .ok (.getfield 182, 3) := by decide +kernel
theorem d_Tree_number_9 : decode prog_7_method_29_code 9 = .ok (.aload_n 0, 1) := by decide +kernel
theorem d_Tree_number_10 : decode prog_7_method_29_code 10 = .ok (.getfield 186, 3) := by decide +kernel
theorem d_Tree_number_13 : decode prog_7_method_29_code 13 = .ok (.iload_n 2, 1) := by decide +kernel
theorem d_Tree_number_14 : decode prog_7_method_29_code 14 = .ok (.i2l, 1) := by decide +kernel
theorem d_Tree_number_15 : decode prog_7_method_29_code 15 = .ok (.lmul, 1) := by decide +kernel
theorem d_Tree_number_16 : decode prog_7_method_29_code 16 = .ok (.ladd, 1) := by decide +kernel
theorem d_Tree_number_17 : decode prog_7_method_29_code 17 = .ok (.invokevirtual 189, 3) := by decide +kernel
theorem d_Tree_number_20 : decode prog_7_method_29_code 20 = .ok (.return_, 1) := by decide +kernel
theorem d_Tree_build_0 : decode prog_7_method_30_code 0 = .ok (.aload_n 0, 1) := by decide +kernel
theorem d_Tree_build_1 : decode prog_7_method_30_code 1 = .ok (.lload_n 1, 1) := by decide +kernel
theorem d_Tree_build_2 : decode prog_7_method_30_code 2 = .ok (.putfield 182, 3) := by decide +kernel
theorem d_Tree_build_5 : decode prog_7_method_30_code 5 = .ok (.aload_n 0, 1) := by decide +kernel
theorem d_Tree_build_6 : decode prog_7_method_30_code 6 = .ok (.lload_n 3, 1) := by decide +kernel
theorem d_Tree_build_7 : decode prog_7_method_30_code 7 = .ok (.putfield 186, 3) := by decide +kernel
theorem d_Tree_build_10 : decode prog_7_method_30_code 10 = .ok (.aload_n 0, 1) := by decide +kernel
theorem d_Tree_build_11 : decode prog_7_method_30_code 11 = .ok (.lload 6, 2) := by decide +kernel
theorem d_Tree_build_13 : decode prog_7_method_30_code 13 = .ok (.putfield 193, 3) := by decide +kernel
theorem d_Tree_build_16 : decode prog_7_method_30_code 16 = .ok (.aload_n 0, 1) := by decide +kernel
theorem d_Tree_build_17 : decode prog_7_method_30_code 17 = .ok (.aload_n 0, 1) := by decide +kernel
theorem d_Tree_build_18 : decode prog_7_method_30_code 18 = .ok (.iconst 0, 1) := by decide +kernel
theorem d_Tree_build_19 : decode prog_7_method_30_code 19 = .ok (.iload 5, 2) := by decide +kernel
theorem d_Tree_build_21 : decode prog_7_method_30_code 21 = .ok (.invokevirtual 196, 3) := by decide +kernel
theorem d_Tree_build_24 : decode prog_7_method_30_code 24 = .ok (.putfield 70, 3) := by decide +kernel
theorem d_Tree_build_27 : decode prog_7_method_30_code 27 = .ok (.return_, 1) := by decide +kernel
theorem d_Tree_built_0 : decode prog_7_method_31_code 0 = .ok (.aload_n 0, 1) := by decide +kernel
theorem d_Tree_built_1 : decode prog_7_method_31_code 1 = .ok (.aload_n 0, 1) := by decide +kernel
theorem d_Tree_built_2 : decode prog_7_method_31_code 2 = .ok (.getfield 57, 3) := by decide +kernel
theorem d_Tree_built_5 : decode prog_7_method_31_code 5 = .ok (.iload_n 1, 1) := by decide +kernel
theorem d_Tree_built_6 : decode prog_7_method_31_code 6 = .ok (.invokevirtual 199, 3) := by decide +kernel
theorem d_Tree_built_9 : decode prog_7_method_31_code 9 = .ok (.iload_n 2, 1) := by decide +kernel
theorem d_Tree_built_10 : decode prog_7_method_31_code 10 = .ok (.iload_n 1, 1) := by decide +kernel
theorem d_Tree_built_11 : decode prog_7_method_31_code 11 = .ok (.isub, 1) := by decide +kernel
theorem d_Tree_built_12 : decode prog_7_method_31_code 12 = .ok (.iconst 1, 1) := by decide +kernel
theorem d_Tree_built_13 : decode prog_7_method_31_code 13 = .ok (.if_icmp .ne 20, 3) := by decide +kernel
theorem d_Tree_built_16 : decode prog_7_method_31_code 16 = .ok (.aload_n 0, 1) := by decide +kernel
theorem d_Tree_built_17 : decode prog_7_method_31_code 17 = .ok (.aload_n 0, 1) := by decide +kernel
theorem d_Tree_built_18 : decode prog_7_method_31_code 18 = .ok (.getfield 57, 3) := by decide +kernel
theorem d_Tree_built_21 : decode prog_7_method_31_code 21 = .ok (.aload_n 0, 1) := by decide +kernel
theorem d_Tree_built_22 : decode prog_7_method_31_code 22 = .ok (.getfield 193, 3) := by decide +kernel
theorem d_Tree_built_25 : decode prog_7_method_31_code 25 = .ok (.iload_n 1, 1) := by decide +kernel
theorem d_Tree_built_26 : decode prog_7_method_31_code 26 = .ok (.i2l, 1) := by decide +kernel
theorem d_Tree_built_27 : decode prog_7_method_31_code 27 = .ok (.ladd, 1) := by decide +kernel
theorem d_Tree_built_28 : decode prog_7_method_31_code 28 = .ok (.iconst 0, 1) := by decide +kernel
theorem d_Tree_built_29 : decode prog_7_method_31_code 29 = .ok (.invokevirtual 151, 3) := by decide +kernel
theorem d_Tree_built_32 : decode prog_7_method_31_code 32 = .ok (.ireturn, 1) := by decide +kernel
theorem d_Tree_built_33 : decode prog_7_method_31_code 33 = .ok (.aload_n 0, 1) := by decide +kernel
theorem d_Tree_built_34 : decode prog_7_method_31_code 34 = .ok (.aload_n 0, 1) := by decide +kernel
theorem d_Tree_built_35 : decode prog_7_method_31_code 35 = .ok (.getfield 61, 3) := by decide +kernel
theorem d_Tree_built_38 : decode prog_7_method_31_code 38 = .ok (.iload_n 2, 1) := by decide +kernel
theorem d_Tree_built_39 : decode prog_7_method_31_code 39 = .ok (.iconst 1, 1) := by decide +kernel
theorem d_Tree_built_40 : decode prog_7_method_31_code 40 = .ok (.isub, 1) := by decide +kernel
theorem d_Tree_built_41 : decode prog_7_method_31_code 41 = .ok (.invokevirtual 199, 3) := by decide +kernel
theorem d_Tree_built_44 : decode prog_7_method_31_code 44 = .ok (.iconst 0, 1) := by decide +kernel
theorem d_Tree_built_45 : decode prog_7_method_31_code 45 = .ok (.istore_n 3, 1) := by decide +kernel
theorem d_Tree_built_46 : decode prog_7_method_31_code 46 = .ok (.aload_n 0, 1) := by decide +kernel
theorem d_Tree_built_47 : decode prog_7_method_31_code 47 = .ok (.getfield 57, 3) := by decide +kernel
theorem d_Tree_built_50 : decode prog_7_method_31_code 50 = .ok (.iload_n 3, 1) := by decide +kernel
theorem d_Tree_built_51 : decode prog_7_method_31_code 51 = .ok (.invokevirtual 92, 3) := by decide +kernel
theorem d_Tree_built_54 : decode prog_7_method_31_code 54 = .ok (.aload_n 0, 1) := by decide +kernel
theorem d_Tree_built_55 : decode prog_7_method_31_code 55 = .ok (.getfield 61, 3) := by decide +kernel
theorem d_Tree_built_58 : decode prog_7_method_31_code 58 = .ok (.iload_n 3, 1) := by decide +kernel
theorem d_Tree_built_59 : decode prog_7_method_31_code 59 = .ok (.invokevirtual 92, 3) := by decide +kernel
theorem d_Tree_built_62 : decode prog_7_method_31_code 62 = .ok (.if_icmp .ne 9, 3) := by decide +kernel
theorem d_Tree_built_65 : decode prog_7_method_31_code 65 = .ok (.iinc 3 1, 3) := by decide +kernel
theorem d_Tree_built_68 : decode prog_7_method_31_code 68 = .ok (.goto (-22), 3) := by decide +kernel
theorem d_Tree_built_71 : decode prog_7_method_31_code 71 = .ok (.iconst 0, 1) := by decide +kernel
theorem d_Tree_built_72 : decode prog_7_method_31_code 72 = .ok (.istore 4, 2) := by decide +kernel
theorem d_Tree_built_74 : decode prog_7_method_31_code 74 = .ok (.iload_n 1, 1) := by decide +kernel
theorem d_Tree_built_75 : decode prog_7_method_31_code 75 = .ok (.istore 5, 2) := by decide +kernel
theorem d_Tree_built_77 : decode prog_7_method_31_code 77 = .ok (.iload 5, 2) := by decide +kernel
theorem d_Tree_built_79 : decode prog_7_method_31_code 79 = .ok (.iload_n 2, 1) := by decide +kernel
theorem d_Tree_built_80 : decode prog_7_method_31_code 80 = .ok (.if_icmp .ge 19, 3) := by decide +kernel
theorem d_Tree_built_83 : decode prog_7_method_31_code 83 = .ok (.iinc 4 1, 3) := by decide +kernel
theorem d_Tree_built_86 : decode prog_7_method_31_code 86 = .ok (.aload_n 0, 1) := by decide +kernel
theorem d_Tree_built_87 : decode prog_7_method_31_code 87 = .ok (.iload 5, 2) := by decide +kernel
theorem d_Tree_built_89 : decode prog_7_method_31_code 89 = .ok (.iload_n 2, 1) := by decide +kernel
theorem d_Tree_built_90 : decode prog_7_method_31_code 90 = .ok (.iload_n 3, 1) := by decide +kernel
theorem d_Tree_built_91 : decode prog_7_method_31_code 91 = .ok (.invokevirtual 202, 3) := by decide +kernel
theorem d_Tree_built_94 : decode prog_7_method_31_code 94 = .ok (.istore 5, 2) := by decide +kernel
theorem d_Tree_built_96 : decode prog_7_method_31_code 96 = .ok (.goto (-19), 3) := by decide +kernel
theorem d_Tree_built_99 : decode prog_7_method_31_code 99 = .ok (.iconst 0, 1) := by decide +kernel
theorem d_Tree_built_100 : decode prog_7_method_31_code 100 = .ok (.istore 5, 2) := by decide +kernel
theorem d_Tree_built_102 : decode prog_7_method_31_code 102 = .ok (.iload 4, 2) := by decide +kernel
theorem d_Tree_built_104 : decode prog_7_method_31_code 104 = .ok (.aload_n 0, 1) := by decide +kernel
theorem d_Tree_built_105 : decode prog_7_method_31_code 105 = .ok (.iload 5, 2) := by decide +kernel
theorem d_Tree_built_107 : decode prog_7_method_31_code 107 = .ok (.invokevirtual 73, 3) := by decide +kernel
theorem d_Tree_built_110 : decode prog_7_method_31_code 110 = .ok (.getfield 155, 3) := by decide +kernel
theorem d_Tree_built_113 : decode prog_7_method_31_code 113 = .ok (.if_icmp .le 9, 3) := by decide +kernel
theorem d_Tree_built_116 : decode prog_7_method_31_code 116 = .ok (.iinc 5 1, 3) := by decide +kernel
theorem d_Tree_built_119 : decode prog_7_method_31_code 119 = .ok (.goto (-17), 3) := by decide +kernel
theorem d_Tree_built_122 : decode prog_7_method_31_code 122 = .ok (.aload_n 0, 1) := by decide +kernel
theorem d_Tree_built_123 : decode prog_7_method_31_code 123 = .ok (.iload 5, 2) := by decide +kernel
theorem d_Tree_built_125 : decode prog_7_method_31_code 125 = .ok (.iload_n 3, 1) := by decide +kernel
theorem d_Tree_built_126 : decode prog_7_method_31_code 126 = .ok (.invokevirtual 169, 3) := by decide +kernel
theorem d_Tree_built_129 : decode prog_7_method_31_code 129 = .ok (.istore 6, 2) := by decide +kernel
theorem d_Tree_built_131 : decode prog_7_method_31_code 131 = .ok (.aload_n 0, 1) := by decide +kernel
theorem d_Tree_built_132 : decode prog_7_method_31_code 132 = .ok (.getfield 9, 3) := by decide +kernel
theorem d_Tree_built_135 : decode prog_7_method_31_code 135 = .ok (.iload 6, 2) := by decide +kernel
theorem d_Tree_built_137 : decode prog_7_method_31_code 137 = .ok (.iconst 2, 1) := by decide +kernel
theorem d_Tree_built_138 : decode prog_7_method_31_code 138 = .ok (.iadd, 1) := by decide +kernel
theorem d_Tree_built_139 : decode prog_7_method_31_code 139 = .ok (.iload_n 2, 1) := by decide +kernel
theorem d_Tree_built_140 : decode prog_7_method_31_code 140 = .ok (.iload_n 1, 1) := by decide +kernel
theorem d_Tree_built_141 : decode prog_7_method_31_code 141 = .ok (.isub, 1) := by decide +kernel
theorem d_Tree_built_142 : decode prog_7_method_31_code 142 = .ok (.iastore, 1) := by decide +kernel
theorem d_Tree_built_143 : decode prog_7_method_31_code 143 = .ok (.iload_n 1, 1) := by decide +kernel
theorem d_Tree_built_144 : decode prog_7_method_31_code 144 = .ok (.istore 7, 2) := by decide +kernel
theorem d_Tree_built_146 : decode prog_7_method_31_code 146 = .ok (.iload 7, 2) := by decide +kernel
theorem d_Tree_built_148 : decode prog_7_method_31_code 148 = .ok (.iload_n 2, 1) := by decide +kernel
theorem d_Tree_built_149 : decode prog_7_method_31_code 149 = .ok (.if_icmp .ge 69, 3) := by decide +kernel
theorem d_Tree_built_152 : decode prog_7_method_31_code 152 = .ok (.aload_n 0, 1) := by decide +kernel
theorem d_Tree_built_153 : decode prog_7_method_31_code 153 = .ok (.iload 7, 2) := by decide +kernel
theorem d_Tree_built_155 : decode prog_7_method_31_code 155 = .ok (.iload_n 2, 1) := by decide +kernel
theorem d_Tree_built_156 : decode prog_7_method_31_code 156 = .ok (.iload_n 3, 1) := by decide +kernel
theorem d_Tree_built_157 : decode prog_7_method_31_code 157 = .ok (.invokevirtual 202, 3) := by decide +kernel
theorem d_Tree_built_160 : decode prog_7_method_31_code 160 = .ok (.istore 8, 2) := by decide +kernel
theorem d_Tree_built_162 : decode prog_7_method_31_code 162 = .ok (.aload_n 0, 1) := by decide +kernel
theorem d_Tree_built_163 : decode prog_7_method_31_code 163 = .ok (.aload_n 0, 1) := by decide +kernel
theorem d_Tree_built_164 : decode prog_7_method_31_code 164 = .ok (.getfield 57, 3) := by decide +kernel
theorem d_Tree_built_167 : decode prog_7_method_31_code 167 = .ok (.iload 7, 2) := by decide +kernel
theorem d_Tree_built_169 : decode prog_7_method_31_code 169 = .ok (.invokevirtual 199, 3) := by decide +kernel
theorem d_Tree_built_172 : decode prog_7_method_31_code 172 = .ok (.aload_n 0, 1) := by decide +kernel
theorem d_Tree_built_173 : decode prog_7_method_31_code 173 = .ok (.getfield 57, 3) := by decide +kernel
theorem d_Tree_built_176 : decode prog_7_method_31_code 176 = .ok (.iload_n 3, 1) := by decide +kernel
theorem d_Tree_built_177 : decode prog_7_method_31_code 177 = .ok (.invokevirtual 92, 3) := by decide +kernel
theorem d_Tree_built_180 : decode prog_7_method_31_code 180 = .ok (.istore 9, 2) := by decide +kernel
theorem d_Tree_built_182 : decode prog_7_method_31_code 182 = .ok (.aload_n 0, 1) := by decide +kernel
theorem d_Tree_built_183 : decode prog_7_method_31_code 183 = .ok (.iload 7, 2) := by decide +kernel
theorem d_Tree_built_185 : decode prog_7_method_31_code 185 = .ok (.iload 8, 2) := by decide +kernel
theorem d_Tree_built_187 : decode prog_7_method_31_code 187 = .ok (.invokevirtual 196, 3) := by decide +kernel
theorem d_Tree_built_190 : decode prog_7_method_31_code 190 = .ok (.istore 10, 2) := by decide +kernel
theorem d_Tree_built_192 : decode prog_7_method_31_code 192 = .ok (.aload_n 0, 1) := by decide +kernel
theorem d_Tree_built_193 : decode prog_7_method_31_code 193 = .ok (.iload 5, 2) := by decide +kernel
theorem d_Tree_built_195 : decode prog_7_method_31_code 195 = .ok (.invokevirtual 73, 3) := by decide +kernel
theorem d_Tree_built_198 : decode prog_7_method_31_code 198 = .ok (.aload_n 0, 1) := by decide +kernel
theorem d_Tree_built_199 : decode prog_7_method_31_code 199 = .ok (.getfield 9, 3) := by decide +kernel
theorem d_Tree_built_202 : decode prog_7_method_31_code 202 = .ok (.iload 6, 2) := by decide +kernel
theorem d_Tree_built_204 : decode prog_7_method_31_code 204 = .ok (.iload 9, 2) := by decide +kernel
theorem d_Tree_built_206 : decode prog_7_method_31_code 206 = .ok (.iload 10, 2) := by decide +kernel
theorem d_Tree_built_208 : decode prog_7_method_31_code 208 = .ok (.invokevirtual 165, 3) := by decide +kernel
theorem d_Tree_built_211 : decode prog_7_method_31_code 211 = .ok (.iload 8, 2) := by decide +kernel
theorem d_Tree_built_213 : decode prog_7_method_31_code 213 = .ok (.istore 7, 2) := by decide +kernel
theorem d_Tree_built_215 : decode prog_7_method_31_code 215 = .ok (.goto (-69), 3) := by decide +kernel
theorem d_Tree_built_218 : decode prog_7_method_31_code 218 = .ok (.iload 6, 2) := by decide +kernel
theorem d_Tree_built_220 : decode prog_7_method_31_code 220 = .ok (.ireturn, 1) := by decide +kernel
theorem d_Tree_behind_0 : decode prog_7_method_32_code 0 = .ok (.aload_n 0, 1) := by decide +kernel
theorem d_Tree_behind_1 : decode prog_7_method_32_code 1 = .ok (.aload_n 0, 1) := by decide +kernel
theorem d_Tree_behind_2 : decode prog_7_method_32_code 2 = .ok (.getfield 57, 3) := by decide +kernel
theorem d_Tree_behind_5 : decode prog_7_method_32_code 5 = .ok (.iload_n 1, 1) := by decide +kernel
theorem d_Tree_behind_6 : decode prog_7_method_32_code 6 = .ok (.invokevirtual 199, 3) := by decide +kernel
theorem d_Tree_behind_9 : decode prog_7_method_32_code 9 = .ok (.aload_n 0, 1) := by decide +kernel
theorem d_Tree_behind_10 : decode prog_7_method_32_code 10 = .ok (.getfield 57, 3) := by decide +kernel
theorem d_Tree_behind_13 : decode prog_7_method_32_code 13 = .ok (.iload_n 3, 1) := by decide +kernel
theorem d_Tree_behind_14 : decode prog_7_method_32_code 14 = .ok (.invokevirtual 92, 3) := by decide +kernel
theorem d_Tree_behind_17 : decode prog_7_method_32_code 17 = .ok (.istore 4, 2) := by decide +kernel
theorem d_Tree_behind_19 : decode prog_7_method_32_code 19 = .ok (.iload_n 1, 1) := by decide +kernel
theorem d_Tree_behind_20 : decode prog_7_method_32_code 20 = .ok (.istore 5, 2) := by decide +kernel
theorem d_Tree_behind_22 : decode prog_7_method_32_code 22 = .ok (.iload_n 2, 1) := by decide +kernel
theorem d_Tree_behind_23 : decode prog_7_method_32_code 23 = .ok (.istore 6, 2) := by decide +kernel
theorem d_Tree_behind_25 : decode prog_7_method_32_code 25 = .ok (.iload 6, 2) := by decide +kernel
theorem d_Tree_behind_27 : decode prog_7_method_32_code 27 = .ok (.iload 5, 2) := by decide +kernel
theorem d_Tree_behind_29 : decode prog_7_method_32_code 29 = .ok (.isub, 1) := by decide +kernel
theorem d_Tree_behind_30 : decode prog_7_method_32_code 30 = .ok (.iconst 1, 1) := by decide +kernel
theorem d_Tree_behind_31 : decode prog_7_method_32_code 31 = .ok (.if_icmp .le 49, 3) := by decide +kernel
theorem d_Tree_behind_34 : decode prog_7_method_32_code 34 = .ok (.iload 5, 2) := by decide +kernel
theorem d_Tree_behind_36 : decode prog_7_method_32_code 36 = .ok (.iload 6, 2) := by decide +kernel
theorem d_Tree_behind_38 : decode prog_7_method_32_code 38 = .ok (.iadd, 1) := by decide +kernel
theorem d_Tree_behind_39 : decode prog_7_method_32_code 39 = .ok (.iconst 1, 1) := by decide +kernel
theorem d_Tree_behind_40 : decode prog_7_method_32_code 40 = .ok (.iushr, 1) := by decide +kernel
theorem d_Tree_behind_41 : decode prog_7_method_32_code 41 = .ok (.istore 7, 2) := by decide +kernel
theorem d_Tree_behind_43 : decode prog_7_method_32_code 43 = .ok (.aload_n 0, 1) := by decide +kernel
theorem d_Tree_behind_44 : decode prog_7_method_32_code 44 = .ok (.aload_n 0, 1) := by decide +kernel
theorem d_Tree_behind_45 : decode prog_7_method_32_code 45 = .ok (.getfield 57, 3) := by decide +kernel
theorem d_Tree_behind_48 : decode prog_7_method_32_code 48 = .ok (.iload 7, 2) := by decide +kernel
theorem d_Tree_behind_50 : decode prog_7_method_32_code 50 = .ok (.invokevirtual 199, 3) := by decide +kernel
theorem d_Tree_behind_53 : decode prog_7_method_32_code 53 = .ok (.aload_n 0, 1) := by decide +kernel
theorem d_Tree_behind_54 : decode prog_7_method_32_code 54 = .ok (.getfield 57, 3) := by decide +kernel
theorem d_Tree_behind_57 : decode prog_7_method_32_code 57 = .ok (.iload_n 3, 1) := by decide +kernel
theorem d_Tree_behind_58 : decode prog_7_method_32_code 58 = .ok (.invokevirtual 92, 3) := by decide +kernel
theorem d_Tree_behind_61 : decode prog_7_method_32_code 61 = .ok (.iload 4, 2) := by decide +kernel
theorem d_Tree_behind_63 : decode prog_7_method_32_code 63 = .ok (.if_icmp .ne 10, 3) := by decide +kernel
theorem d_Tree_behind_66 : decode prog_7_method_32_code 66 = .ok (.iload 7, 2) := by decide +kernel
theorem d_Tree_behind_68 : decode prog_7_method_32_code 68 = .ok (.istore 5, 2) := by decide +kernel
theorem d_Tree_behind_70 : decode prog_7_method_32_code 70 = .ok (.goto 7, 3) := by decide +kernel
theorem d_Tree_behind_73 : decode prog_7_method_32_code 73 = .ok (.iload 7, 2) := by decide +kernel
theorem d_Tree_behind_75 : decode prog_7_method_32_code 75 = .ok (.istore 6, 2) := by decide +kernel
theorem d_Tree_behind_77 : decode prog_7_method_32_code 77 = .ok (.goto (-52), 3) := by decide +kernel
theorem d_Tree_behind_80 : decode prog_7_method_32_code 80 = .ok (.iload 6, 2) := by decide +kernel
theorem d_Tree_behind_82 : decode prog_7_method_32_code 82 = .ok (.ireturn, 1) := by decide +kernel
theorem d_Tree_compact_0 : decode prog_7_method_33_code 0 = .ok (.aload_n 0, 1) := by decide +kernel
theorem d_Tree_compact_1 : decode prog_7_method_33_code 1 = .ok (.getfield 15, 3) := by decide +kernel
theorem d_Tree_compact_4 : decode prog_7_method_33_code 4 = .ok (.arraylength, 1) := by decide +kernel
theorem d_Tree_compact_5 : decode prog_7_method_33_code 5 = .ok (.aload_n 0, 1) := by decide +kernel
theorem d_Tree_compact_6 : decode prog_7_method_33_code 6 = .ok (.getfield 9, 3) := by decide +kernel
theorem d_Tree_compact_9 : decode prog_7_method_33_code 9 = .ok (.arraylength, 1) := by decide +kernel
theorem d_Tree_compact_10 : decode prog_7_method_33_code 10 = .ok (.if_icmp .ge 14, 3) := by decide +kernel
theorem d_Tree_compact_13 : decode prog_7_method_33_code 13 = .ok (.aload_n 0, 1) := by decide +kernel
theorem d_Tree_compact_14 : decode prog_7_method_33_code 14 = .ok (.aload_n 0, 1) := by decide +kernel
theorem d_Tree_compact_15 : decode prog_7_method_33_code 15 = .ok (.getfield 9, 3) := by decide +kernel
theorem d_Tree_compact_18 : decode prog_7_method_33_code 18 = .ok (.arraylength, 1) := by decide +kernel
theorem d_Tree_compact_19 : decode prog_7_method_33_code 19 = .ok (.newarray .int, 2) := by decide +kernel
theorem d_Tree_compact_21 : decode prog_7_method_33_code 21 = .ok (.putfield 15, 3) := by decide +kernel
theorem d_Tree_compact_24 : decode prog_7_method_33_code 24 = .ok (.aload_n 0, 1) := by decide +kernel
theorem d_Tree_compact_25 : decode prog_7_method_33_code 25 = .ok (.getfield 9, 3) := by decide +kernel
theorem d_Tree_compact_28 : decode prog_7_method_33_code 28 = .ok (.astore_n 1, 1) := by decide +kernel
theorem d_Tree_compact_29 : decode prog_7_method_33_code 29 = .ok (.iconst 1, 1) := by decide +kernel
theorem d_Tree_compact_30 : decode prog_7_method_33_code 30 = .ok (.istore_n 2, 1) := by decide +kernel
theorem d_Tree_compact_31 : decode prog_7_method_33_code 31 = .ok (.aload_n 0, 1) := by decide +kernel
theorem d_Tree_compact_32 : decode prog_7_method_33_code 32 = .ok (.iconst 1, 1) := by decide +kernel
theorem d_Tree_compact_33 : decode prog_7_method_33_code 33 = .ok (.putfield 18, 3) := by decide +kernel
theorem d_Tree_compact_36 : decode prog_7_method_33_code 36 = .ok (.aload_n 0, 1) := by decide +kernel
theorem d_Tree_compact_37 : decode prog_7_method_33_code 37 = .ok (.aload_n 0, 1) := by decide +kernel
theorem d_Tree_compact_38 : decode prog_7_method_33_code 38 = .ok (.aload_n 0, 1) := by decide +kernel
theorem d_Tree_compact_39 : decode prog_7_method_33_code 39 = .ok (.getfield 70, 3) := by decide +kernel
theorem d_Tree_compact_42 : decode prog_7_method_33_code 42 = .ok (.aload_n 1, 1) := by decide +kernel
theorem d_Tree_compact_43 : decode prog_7_method_33_code 43 = .ok (.invokevirtual 206, 3) := by decide +kernel
theorem d_Tree_compact_46 : decode prog_7_method_33_code 46 = .ok (.putfield 70, 3) := by decide +kernel
theorem d_Tree_compact_49 : decode prog_7_method_33_code 49 = .ok (.aload_n 0, 1) := by decide +kernel
theorem d_Tree_compact_50 : decode prog_7_method_33_code 50 = .ok (.aload_n 0, 1) := by decide +kernel
theorem d_Tree_compact_51 : decode prog_7_method_33_code 51 = .ok (.getfield 15, 3) := by decide +kernel
theorem d_Tree_compact_54 : decode prog_7_method_33_code 54 = .ok (.putfield 9, 3) := by decide +kernel
theorem d_Tree_compact_57 : decode prog_7_method_33_code 57 = .ok (.aload_n 0, 1) := by decide +kernel
theorem d_Tree_compact_58 : decode prog_7_method_33_code 58 = .ok (.aload_n 1, 1) := by decide +kernel
theorem d_Tree_compact_59 : decode prog_7_method_33_code 59 = .ok (.putfield 15, 3) := by decide +kernel
theorem d_Tree_compact_62 : decode prog_7_method_33_code 62 = .ok (.iconst 0, 1) := by decide +kernel
theorem d_Tree_compact_63 : decode prog_7_method_33_code 63 = .ok (.istore_n 3, 1) := by decide +kernel
theorem d_Tree_compact_64 : decode prog_7_method_33_code 64 = .ok (.iload_n 3, 1) := by decide +kernel
theorem d_Tree_compact_65 : decode prog_7_method_33_code 65 = .ok (.sipush 260, 3) := by decide +kernel
theorem d_Tree_compact_68 : decode prog_7_method_33_code 68 = .ok (.if_icmp .gt 16, 3) := by decide +kernel
theorem d_Tree_compact_71 : decode prog_7_method_33_code 71 = .ok (.aload_n 0, 1) := by decide +kernel
theorem d_Tree_compact_72 : decode prog_7_method_33_code 72 = .ok (.getfield 22, 3) := by decide +kernel
theorem d_Tree_compact_75 : decode prog_7_method_33_code 75 = .ok (.iload_n 3, 1) := by decide +kernel
theorem d_Tree_compact_76 : decode prog_7_method_33_code 76 = .ok (.iconst 0, 1) := by decide +kernel
theorem d_Tree_compact_77 : decode prog_7_method_33_code 77 = .ok (.iastore, 1) := by decide +kernel
theorem d_Tree_compact_78 : decode prog_7_method_33_code 78 = .ok (.iinc 3 1, 3) := by decide +kernel
theorem d_Tree_compact_81 : decode prog_7_method_33_code 81 = .ok (.goto (-17), 3) := by decide +kernel
theorem d_Tree_compact_84 : decode prog_7_method_33_code 84 = .ok (.aload_n 0, 1) := by decide +kernel
theorem d_Tree_compact_85 : decode prog_7_method_33_code 85 = .ok (.getfield 18, 3) := by decide +kernel
theorem d_Tree_compact_88 : decode prog_7_method_33_code 88 = .ok (.iload_n 2, 1) := by decide +kernel
theorem d_Tree_compact_89 : decode prog_7_method_33_code 89 = .ok (.isub, 1) := by decide +kernel
theorem d_Tree_compact_90 : decode prog_7_method_33_code 90 = .ok (.ireturn, 1) := by decide +kernel
theorem d_Tree_shifted_0 : decode prog_7_method_34_code 0 = .ok (.iload_n 1, 1) := by decide +kernel
theorem d_Tree_shifted_1 : decode prog_7_method_34_code 1 = .ok (.ifCond .ne 5, 3) := by decide +kernel
theorem d_Tree_shifted_4 : decode prog_7_method_34_code 4 = .ok (.iconst 0, 1) := by decide +kernel
theorem d_Tree_shifted_5 : decode prog_7_method_34_code 5 = .ok (.ireturn, 1) := by decide +kernel
theorem d_Tree_shifted_6 : decode prog_7_method_34_code 6 = .ok (.iload_n 1, 1) := by decide +kernel
theorem d_Tree_shifted_7 : decode prog_7_method_34_code 7 = .ok (.ifCond .ge 8, 3) := by decide +kernel
theorem d_Tree_shifted_10 : decode prog_7_method_34_code 10 = .ok (.iload_n 1, 1) := by decide +kernel
theorem d_Tree_shifted_11 : decode prog_7_method_34_code 11 = .ok (.ineg, 1) := by decide +kernel
theorem d_Tree_shifted_12 : decode prog_7_method_34_code 12 = .ok (.goto 4, 3) := by decide +kernel
theorem d_Tree_shifted_15 : decode prog_7_method_34_code 15 = .ok (.iload_n 1, 1) := by decide +kernel
theorem d_Tree_shifted_16 : decode prog_7_method_34_code 16 = .ok (.istore_n 3, 1) := by decide +kernel
theorem d_Tree_shifted_17 : decode prog_7_method_34_code 17 = .ok (.iload_n 1, 1) := by decide +kernel
theorem d_Tree_shifted_18 : decode prog_7_method_34_code 18 = .ok (.ifCond .ge 7, 3) := by decide +kernel
theorem d_Tree_shifted_21 : decode prog_7_method_34_code 21 = .ok (.aconst_null, 1) := by decide +kernel
theorem d_Tree_shifted_22 : decode prog_7_method_34_code 22 = .ok (.goto 10, 3) := by decide +kernel
theorem d_Tree_shifted_25 : decode prog_7_method_34_code 25 = .ok (.aload_n 0, 1) := by decide +kernel
theorem d_Tree_shifted_26 : decode prog_7_method_34_code 26 = .ok (.aload_n 2, 1) := by decide +kernel
theorem d_Tree_shifted_27 : decode prog_7_method_34_code 27 = .ok (.iload_n 3, 1) := by decide +kernel
theorem d_Tree_shifted_28 : decode prog_7_method_34_code 28 = .ok (.iaload, 1) := by decide +kernel
theorem d_Tree_shifted_29 : decode prog_7_method_34_code 29 = .ok (.invokevirtual 73, 3) := by decide +kernel
theorem d_Tree_shifted_32 : decode prog_7_method_34_code 32 = .ok (.astore 4, 2) := by decide +kernel
theorem d_Tree_shifted_34 : decode prog_7_method_34_code 34 = .ok (.iload_n 1, 1) := by decide +kernel
theorem d_Tree_shifted_35 : decode prog_7_method_34_code 35 = .ok (.ifCond .ge 12, 3) := by decide +kernel
theorem d_Tree_shifted_38 : decode prog_7_method_34_code 38 = .ok (.aload_n 2, 1) := by decide +kernel
theorem d_Tree_shifted_39 : decode prog_7_method_34_code 39 = .ok (.iload_n 3, 1) := by decide +kernel
theorem d_Tree_shifted_40 : decode prog_7_method_34_code 40 = .ok (.iaload, 1) := by decide +kernel
theorem d_Tree_shifted_41 : decode prog_7_method_34_code 41 = .ok (.invokestatic 89, 3) := by decide +kernel
theorem d_Tree_shifted_44 : decode prog_7_method_34_code 44 = .ok (.goto 8, 3) := by decide +kernel
theorem d_Tree_shifted_47 : decode prog_7_method_34_code 47 = .ok (.aload 4, 2) := by decide +kernel
theorem d_Tree_shifted_49 : decode prog_7_method_34_code 49 = .ok (.getfield 77, 3) := by decide +kernel
theorem d_Tree_shifted_52 : decode prog_7_method_34_code 52 = .ok (.istore 5, 2) := by decide +kernel
theorem d_Tree_shifted_54 : decode prog_7_method_34_code 54 = .ok (.aload_n 0, 1) := by decide +kernel
theorem d_Tree_shifted_55 : decode prog_7_method_34_code 55 = .ok (.getfield 18, 3) := by decide +kernel
theorem d_Tree_shifted_58 : decode prog_7_method_34_code 58 = .ok (.istore 6, 2) := by decide +kernel
theorem d_Tree_shifted_60 : decode prog_7_method_34_code 60 = .ok (.aload_n 0, 1) := by decide +kernel
theorem d_Tree_shifted_61 : decode prog_7_method_34_code 61 = .ok (.dup, 1) := by decide +kernel
theorem d_Tree_shifted_62 : decode prog_7_method_34_code 62 = .ok (.getfield 18, 3) := by decide +kernel
theorem d_Tree_shifted_65 : decode prog_7_method_34_code 65 = .ok (.iload 5, 2) := by decide +kernel
theorem d_Tree_shifted_67 : decode prog_7_method_34_code 67 = .ok (.iadd, 1) := by decide +kernel
theorem d_Tree_shifted_68 : decode prog_7_method_34_code 68 = .ok (.putfield 18, 3) := by decide +kernel
theorem d_Tree_shifted_71 : decode prog_7_method_34_code 71 = .ok (.iconst 0, 1) := by decide +kernel
theorem d_Tree_shifted_72 : decode prog_7_method_34_code 72 = .ok (.istore 7, 2) := by decide +kernel
theorem d_Tree_shifted_74 : decode prog_7_method_34_code 74 = .ok (.iload 7, 2) := by decide +kernel
theorem d_Tree_shifted_76 : decode prog_7_method_34_code 76 = .ok (.iload 5, 2) := by decide +kernel
theorem d_Tree_shifted_78 : decode prog_7_method_34_code 78 = .ok (.if_icmp .ge 25, 3) := by decide +kernel
theorem d_Tree_shifted_81 : decode prog_7_method_34_code 81 = .ok (.aload_n 0, 1) := by decide +kernel
theorem d_Tree_shifted_82 : decode prog_7_method_34_code 82 = .ok (.getfield 15, 3) := by decide +kernel
theorem d_Tree_shifted_85 : decode prog_7_method_34_code 85 = .ok (.iload 6, 2) := by decide +kernel
theorem d_Tree_shifted_87 : decode prog_7_method_34_code 87 = .ok (.iload 7, 2) := by decide +kernel
theorem d_Tree_shifted_89 : decode prog_7_method_34_code 89 = .ok (.iadd, 1) := by decide +kernel
theorem d_Tree_shifted_90 : decode prog_7_method_34_code 90 = .ok (.aload_n 2, 1) := by decide +kernel
theorem d_Tree_shifted_91 : decode prog_7_method_34_code 91 = .ok (.iload_n 3, 1) := by decide +kernel
theorem d_Tree_shifted_92 : decode prog_7_method_34_code 92 = .ok (.iload 7, 2) := by decide +kernel
theorem d_Tree_shifted_94 : decode prog_7_method_34_code 94 = .ok (.iadd, 1) := by decide +kernel
theorem d_Tree_shifted_95 : decode prog_7_method_34_code 95 = .ok (.iaload, 1) := by decide +kernel
theorem d_Tree_shifted_96 : decode prog_7_method_34_code 96 = .ok (.iastore, 1) := by decide +kernel
theorem d_Tree_shifted_97 : decode prog_7_method_34_code 97 = .ok (.iinc 7 1, 3) := by decide +kernel
theorem d_Tree_shifted_100 : decode prog_7_method_34_code 100 = .ok (.goto (-26), 3) := by decide +kernel
theorem d_Tree_shifted_103 : decode prog_7_method_34_code 103 = .ok (.iload_n 1, 1) := by decide +kernel
theorem d_Tree_shifted_104 : decode prog_7_method_34_code 104 = .ok (.ifCond .ge 7, 3) := by decide +kernel
theorem d_Tree_shifted_107 : decode prog_7_method_34_code 107 = .ok (.iload 6, 2) := by decide +kernel
theorem d_Tree_shifted_109 : decode prog_7_method_34_code 109 = .ok (.ineg, 1) := by decide +kernel
theorem d_Tree_shifted_110 : decode prog_7_method_34_code 110 = .ok (.ireturn, 1) := by decide +kernel
theorem d_Tree_shifted_111 : decode prog_7_method_34_code 111 = .ok (.aload 4, 2) := by decide +kernel
theorem d_Tree_shifted_113 : decode prog_7_method_34_code 113 = .ok (.aload_n 2, 1) := by decide +kernel
theorem d_Tree_shifted_114 : decode prog_7_method_34_code 114 = .ok (.iload_n 3, 1) := by decide +kernel
theorem d_Tree_shifted_115 : decode prog_7_method_34_code 115 = .ok (.iconst 0, 1) := by decide +kernel
theorem d_Tree_shifted_116 : decode prog_7_method_34_code 116 = .ok (.invokevirtual 123, 3) := by decide +kernel
theorem d_Tree_shifted_119 : decode prog_7_method_34_code 119 = .ok (.istore 7, 2) := by decide +kernel
theorem d_Tree_shifted_121 : decode prog_7_method_34_code 121 = .ok (.iload 7, 2) := by decide +kernel
theorem d_Tree_shifted_123 : decode prog_7_method_34_code 123 = .ok (.iconst (-1), 1) := by decide +kernel
theorem d_Tree_shifted_124 : decode prog_7_method_34_code 124 = .ok (.if_icmp .eq 63, 3) := by decide +kernel
theorem d_Tree_shifted_127 : decode prog_7_method_34_code 127 = .ok (.aload 4, 2) := by decide +kernel
theorem d_Tree_shifted_129 : decode prog_7_method_34_code 129 = .ok (.aload_n 2, 1) := by decide +kernel
theorem d_Tree_shifted_130 : decode prog_7_method_34_code 130 = .ok (.iload_n 3, 1) := by decide +kernel
theorem d_Tree_shifted_131 : decode prog_7_method_34_code 131 = .ok (.iload 7, 2) := by decide +kernel
theorem d_Tree_shifted_133 : decode prog_7_method_34_code 133 = .ok (.invokevirtual 119, 3) := by decide +kernel
theorem d_Tree_shifted_136 : decode prog_7_method_34_code 136 = .ok (.istore 8, 2) := by decide +kernel
theorem d_Tree_shifted_138 : decode prog_7_method_34_code 138 = .ok (.aload_n 0, 1) := by decide +kernel
theorem d_Tree_shifted_139 : decode prog_7_method_34_code 139 = .ok (.getfield 15, 3) := by decide +kernel
theorem d_Tree_shifted_142 : decode prog_7_method_34_code 142 = .ok (.iload 6, 2) := by decide +kernel
theorem d_Tree_shifted_144 : decode prog_7_method_34_code 144 = .ok (.iload 8, 2) := by decide +kernel
theorem d_Tree_shifted_146 : decode prog_7_method_34_code 146 = .ok (.iadd, 1) := by decide +kernel
theorem d_Tree_shifted_147 : decode prog_7_method_34_code 147 = .ok (.iload_n 3, 1) := by decide +kernel
theorem d_Tree_shifted_148 : decode prog_7_method_34_code 148 = .ok (.isub, 1) := by decide +kernel
theorem d_Tree_shifted_149 : decode prog_7_method_34_code 149 = .ok (.aload_n 0, 1) := by decide +kernel
theorem d_Tree_shifted_150 : decode prog_7_method_34_code 150 = .ok (.aload_n 2, 1) := by decide +kernel
theorem d_Tree_shifted_151 : decode prog_7_method_34_code 151 = .ok (.iload 8, 2) := by decide +kernel
theorem d_Tree_shifted_153 : decode prog_7_method_34_code 153 = .ok (.iaload, 1) := by decide +kernel
theorem d_Tree_shifted_154 : decode prog_7_method_34_code 154 = .ok (.aload_n 2, 1) := by decide +kernel
theorem d_Tree_shifted_155 : decode prog_7_method_34_code 155 = .ok (.invokevirtual 206, 3) := by decide +kernel
theorem d_Tree_shifted_158 : decode prog_7_method_34_code 158 = .ok (.iastore, 1) := by decide +kernel
theorem d_Tree_shifted_159 : decode prog_7_method_34_code 159 = .ok (.iload 7, 2) := by decide +kernel
theorem d_Tree_shifted_161 : decode prog_7_method_34_code 161 = .ok (.sipush 255, 3) := by decide +kernel
theorem d_Tree_shifted_164 : decode prog_7_method_34_code 164 = .ok (.if_icmp .ne 7, 3) := by decide +kernel
theorem d_Tree_shifted_167 : decode prog_7_method_34_code 167 = .ok (.iconst (-1), 1) := by decide +kernel
theorem d_Tree_shifted_168 : decode prog_7_method_34_code 168 = .ok (.goto 14, 3) := by decide +kernel
theorem d_Tree_shifted_171 : decode prog_7_method_34_code 171 = .ok (.aload 4, 2) := by decide +kernel
theorem d_Tree_shifted_173 : decode prog_7_method_34_code 173 = .ok (.aload_n 2, 1) := by decide +kernel
theorem d_Tree_shifted_174 : decode prog_7_method_34_code 174 = .ok (.iload_n 3, 1) := by decide +kernel
theorem d_Tree_shifted_175 : decode prog_7_method_34_code 175 = .ok (.iload 7, 2) := by decide +kernel
theorem d_Tree_shifted_177 : decode prog_7_method_34_code 177 = .ok (.iconst 1, 1) := by decide +kernel
theorem d_Tree_shifted_178 : decode prog_7_method_34_code 178 = .ok (.iadd, 1) := by decide +kernel
theorem d_Tree_shifted_179 : decode prog_7_method_34_code 179 = .ok (.invokevirtual 123, 3) := by decide +kernel
theorem d_Tree_shifted_182 : decode prog_7_method_34_code 182 = .ok (.istore 7, 2) := by decide +kernel
theorem d_Tree_shifted_184 : decode prog_7_method_34_code 184 = .ok (.goto (-63), 3) := by decide +kernel
theorem d_Tree_shifted_187 : decode prog_7_method_34_code 187 = .ok (.iload 6, 2) := by decide +kernel
theorem d_Tree_shifted_189 : decode prog_7_method_34_code 189 = .ok (.ireturn, 1) := by decide +kernel
theorem d_Tree_deep_0 : decode prog_7_method_35_code 0 = .ok (.aload_n 0, 1) := by decide +kernel
theorem d_Tree_deep_1 : decode prog_7_method_35_code 1 = .ok (.aload_n 1, 1) := by decide +kernel
theorem d_Tree_deep_2 : decode prog_7_method_35_code 2 = .ok (.invokevirtual 210, 3) := by decide +kernel
theorem d_Tree_deep_5 : decode prog_7_method_35_code 5 = .ok (.ifCond .ne 5, 3) := by decide +kernel
theorem d_Tree_deep_8 : decode prog_7_method_35_code 8 = .ok (.iconst (-1), 1) := by decide +kernel
theorem d_Tree_deep_9 : decode prog_7_method_35_code 9 = .ok (.ireturn, 1) := by decide +kernel
theorem d_Tree_deep_10 : decode prog_7_method_35_code 10 = .ok (.iconst 0, 1) := by decide +kernel
theorem d_Tree_deep_11 : decode prog_7_method_35_code 11 = .ok (.istore_n 2, 1) := by decide +kernel
theorem d_Tree_deep_12 : decode prog_7_method_35_code 12 = .ok (.aload_n 0, 1) := by decide +kernel
theorem d_Tree_deep_13 : decode prog_7_method_35_code 13 = .ok (.getfield 70, 3) := by decide +kernel
theorem d_Tree_deep_16 : decode prog_7_method_35_code 16 = .ok (.istore_n 3, 1) := by decide +kernel
theorem d_Tree_deep_17 : decode prog_7_method_35_code 17 = .ok (.iload_n 3, 1) := by decide +kernel
theorem d_Tree_deep_18 : decode prog_7_method_35_code 18 = .ok (.ifCond .le 27, 3) := by decide +kernel
theorem d_Tree_deep_21 : decode prog_7_method_35_code 21 = .ok (.iinc 2 1, 3) := by decide +kernel
theorem d_Tree_deep_24 : decode prog_7_method_35_code 24 = .ok (.aload_n 0, 1) := by decide +kernel
theorem d_Tree_deep_25 : decode prog_7_method_35_code 25 = .ok (.iload_n 3, 1) := by decide +kernel
theorem d_Tree_deep_26 : decode prog_7_method_35_code 26 = .ok (.aload_n 1, 1) := by decide +kernel
theorem d_Tree_deep_27 : decode prog_7_method_35_code 27 = .ok (.aload_n 0, 1) := by decide +kernel
theorem d_Tree_deep_28 : decode prog_7_method_35_code 28 = .ok (.getfield 9, 3) := by decide +kernel
theorem d_Tree_deep_31 : decode prog_7_method_35_code 31 = .ok (.iload_n 3, 1) := by decide +kernel
theorem d_Tree_deep_32 : decode prog_7_method_35_code 32 = .ok (.iconst 3, 1) := by decide +kernel
theorem d_Tree_deep_33 : decode prog_7_method_35_code 33 = .ok (.iadd, 1) := by decide +kernel
theorem d_Tree_deep_34 : decode prog_7_method_35_code 34 = .ok (.iaload, 1) := by decide +kernel
theorem d_Tree_deep_35 : decode prog_7_method_35_code 35 = .ok (.invokevirtual 92, 3) := by decide +kernel
theorem d_Tree_deep_38 : decode prog_7_method_35_code 38 = .ok (.invokevirtual 126, 3) := by decide +kernel
theorem d_Tree_deep_41 : decode prog_7_method_35_code 41 = .ok (.istore_n 3, 1) := by decide +kernel
theorem d_Tree_deep_42 : decode prog_7_method_35_code 42 = .ok (.goto (-25), 3) := by decide +kernel
theorem d_Tree_deep_45 : decode prog_7_method_35_code 45 = .ok (.iload_n 2, 1) := by decide +kernel
theorem d_Tree_deep_46 : decode prog_7_method_35_code 46 = .ok (.ireturn, 1) := by decide +kernel
theorem d_Tree_deepest_0 : decode prog_7_method_36_code 0 = .ok (.aload_n 0, 1) := by decide +kernel
theorem d_Tree_deepest_1 : decode prog_7_method_36_code 1 = .ok (.aload_n 0, 1) := by decide +kernel
theorem d_Tree_deepest_2 : decode prog_7_method_36_code 2 = .ok (.getfield 70, 3) := by decide +kernel
theorem d_Tree_deepest_5 : decode prog_7_method_36_code 5 = .ok (.invokevirtual 213, 3) := by decide +kernel
theorem d_Tree_deepest_8 : decode prog_7_method_36_code 8 = .ok (.ireturn, 1) := by decide +kernel
theorem d_Tree_deepestOf_0 : decode prog_7_method_37_code 0 = .ok (.iload_n 1, 1) := by decide +kernel
theorem d_Tree_deepestOf_1 : decode prog_7_method_37_code 1 = .ok (.ifCond .gt 5, 3) := by decide +kernel
theorem d_Tree_deepestOf_4 : decode prog_7_method_37_code 4 = .ok (.iconst 0, 1) := by decide +kernel
theorem d_Tree_deepestOf_5 : decode prog_7_method_37_code 5 = .ok (.ireturn, 1) := by decide +kernel
theorem d_Tree_deepestOf_6 : decode prog_7_method_37_code 6 = .ok (.aload_n 0, 1) := by decide +kernel
theorem d_Tree_deepestOf_7 : decode prog_7_method_37_code 7 = .ok (.iload_n 1, 1) := by decide +kernel
theorem d_Tree_deepestOf_8 : decode prog_7_method_37_code 8 = .ok (.invokevirtual 116, 3) := by decide +kernel
theorem d_Tree_deepestOf_11 : decode prog_7_method_37_code 11 = .ok (.astore_n 2, 1) := by decide +kernel
theorem d_Tree_deepestOf_12 : decode prog_7_method_37_code 12 = .ok (.iconst 0, 1) := by decide +kernel
theorem d_Tree_deepestOf_13 : decode prog_7_method_37_code 13 = .ok (.istore_n 3, 1) := by decide +kernel
theorem d_Tree_deepestOf_14 : decode prog_7_method_37_code 14 = .ok (.aload_n 2, 1) := by decide +kernel
theorem d_Tree_deepestOf_15 : decode prog_7_method_37_code 15 = .ok (.aload_n 0, 1) := by decide +kernel
theorem d_Tree_deepestOf_16 : decode prog_7_method_37_code 16 = .ok (.getfield 9, 3) := by decide +kernel
theorem d_Tree_deepestOf_19 : decode prog_7_method_37_code 19 = .ok (.iload_n 1, 1) := by decide +kernel
theorem d_Tree_deepestOf_20 : decode prog_7_method_37_code 20 = .ok (.iconst 0, 1) := by decide +kernel
theorem d_Tree_deepestOf_21 : decode prog_7_method_37_code 21 = .ok (.invokevirtual 123, 3) := by decide +kernel
theorem d_Tree_deepestOf_24 : decode prog_7_method_37_code 24 = .ok (.istore 4, 2) := by decide +kernel
theorem d_Tree_deepestOf_26 : decode prog_7_method_37_code 26 = .ok (.iload 4, 2) := by decide +kernel
theorem d_Tree_deepestOf_28 : decode prog_7_method_37_code 28 = .ok (.iconst (-1), 1) := by decide +kernel
theorem d_Tree_deepestOf_29 : decode prog_7_method_37_code 29 = .ok (.if_icmp .eq 49, 3) := by decide +kernel
theorem d_Tree_deepestOf_32 : decode prog_7_method_37_code 32 = .ok (.iload_n 3, 1) := by decide +kernel
theorem d_Tree_deepestOf_33 : decode prog_7_method_37_code 33 = .ok (.aload_n 0, 1) := by decide +kernel
theorem d_Tree_deepestOf_34 : decode prog_7_method_37_code 34 = .ok (.aload_n 0, 1) := by decide +kernel
theorem d_Tree_deepestOf_35 : decode prog_7_method_37_code 35 = .ok (.iload_n 1, 1) := by decide +kernel
theorem d_Tree_deepestOf_36 : decode prog_7_method_37_code 36 = .ok (.iload 4, 2) := by decide +kernel
theorem d_Tree_deepestOf_38 : decode prog_7_method_37_code 38 = .ok (.invokevirtual 126, 3) := by decide +kernel
theorem d_Tree_deepestOf_41 : decode prog_7_method_37_code 41 = .ok (.invokevirtual 213, 3) := by decide +kernel
theorem d_Tree_deepestOf_44 : decode prog_7_method_37_code 44 = .ok (.invokestatic 216, 3) := by decide +kernel
theorem d_Tree_deepestOf_47 : decode prog_7_method_37_code 47 = .ok (.istore_n 3, 1) := by decide +kernel
theorem d_Tree_deepestOf_48 : decode prog_7_method_37_code 48 = .ok (.iload 4, 2) := by decide +kernel
theorem d_Tree_deepestOf_50 : decode prog_7_method_37_code 50 = .ok (.sipush 255, 3) := by decide +kernel
theorem d_Tree_deepestOf_53 : decode prog_7_method_37_code 53 = .ok (.if_icmp .ne 7, 3) := by decide +kernel
theorem d_Tree_deepestOf_56 : decode prog_7_method_37_code 56 = .ok (.iconst (-1), 1) := by decide +kernel
theorem d_Tree_deepestOf_57 : decode prog_7_method_37_code 57 = .ok (.goto 16, 3) := by decide +kernel
theorem d_Tree_deepestOf_60 : decode prog_7_method_37_code 60 = .ok (.aload_n 2, 1) := by decide +kernel
theorem d_Tree_deepestOf_61 : decode prog_7_method_37_code 61 = .ok (.aload_n 0, 1) := by decide +kernel
theorem d_Tree_deepestOf_62 : decode prog_7_method_37_code 62 = .ok (.getfield 9, 3) := by decide +kernel
theorem d_Tree_deepestOf_65 : decode prog_7_method_37_code 65 = .ok (.iload_n 1, 1) := by decide +kernel
theorem d_Tree_deepestOf_66 : decode prog_7_method_37_code 66 = .ok (.iload 4, 2) := by decide +kernel
theorem d_Tree_deepestOf_68 : decode prog_7_method_37_code 68 = .ok (.iconst 1, 1) := by decide +kernel
theorem d_Tree_deepestOf_69 : decode prog_7_method_37_code 69 = .ok (.iadd, 1) := by decide +kernel
theorem d_Tree_deepestOf_70 : decode prog_7_method_37_code 70 = .ok (.invokevirtual 123, 3) := by decide +kernel
theorem d_Tree_deepestOf_73 : decode prog_7_method_37_code 73 = .ok (.istore 4, 2) := by decide +kernel
theorem d_Tree_deepestOf_75 : decode prog_7_method_37_code 75 = .ok (.goto (-49), 3) := by decide +kernel
theorem d_Tree_deepestOf_78 : decode prog_7_method_37_code 78 = .ok (.iload_n 3, 1) := by decide +kernel
theorem d_Tree_deepestOf_79 : decode prog_7_method_37_code 79 = .ok (.iconst 1, 1) := by decide +kernel
theorem d_Tree_deepestOf_80 : decode prog_7_method_37_code 80 = .ok (.iadd, 1) := by decide +kernel
theorem d_Tree_deepestOf_81 : decode prog_7_method_37_code 81 = .ok (.ireturn, 1) := by decide +kernel
theorem d_Tree_first_0 : decode prog_7_method_38_code 0 = .ok (.aload_n 0, 1) := by decide +kernel
theorem d_Tree_first_1 : decode prog_7_method_38_code 1 = .ok (.getfield 70, 3) := by decide +kernel
theorem d_Tree_first_4 : decode prog_7_method_38_code 4 = .ok (.ifCond .le 31, 3) := by decide +kernel
theorem d_Tree_first_7 : decode prog_7_method_38_code 7 = .ok (.aload_n 0, 1) := by decide +kernel
theorem d_Tree_first_8 : decode prog_7_method_38_code 8 = .ok (.getfield 9, 3) := by decide +kernel
theorem d_Tree_first_11 : decode prog_7_method_38_code 11 = .ok (.aload_n 0, 1) := by decide +kernel
theorem d_Tree_first_12 : decode prog_7_method_38_code 12 = .ok (.getfield 70, 3) := by decide +kernel
theorem d_Tree_first_15 : decode prog_7_method_38_code 15 = .ok (.iconst 3, 1) := by decide +kernel
theorem d_Tree_first_16 : decode prog_7_method_38_code 16 = .ok (.iadd, 1) := by decide +kernel
theorem d_Tree_first_17 : decode prog_7_method_38_code 17 = .ok (.iaload, 1) := by decide +kernel
theorem d_Tree_first_18 : decode prog_7_method_38_code 18 = .ok (.ifCond .ne 17, 3) := by decide +kernel
theorem d_Tree_first_21 : decode prog_7_method_38_code 21 = .ok (.aload_n 0, 1) := by decide +kernel
theorem d_Tree_first_22 : decode prog_7_method_38_code 22 = .ok (.getfield 9, 3) := by decide +kernel
theorem d_Tree_first_25 : decode prog_7_method_38_code 25 = .ok (.aload_n 0, 1) := by decide +kernel
theorem d_Tree_first_26 : decode prog_7_method_38_code 26 = .ok (.getfield 70, 3) := by decide +kernel
theorem d_Tree_first_29 : decode prog_7_method_38_code 29 = .ok (.iconst 1, 1) := by decide +kernel
theorem d_Tree_first_30 : decode prog_7_method_38_code 30 = .ok (.iadd, 1) := by decide +kernel
theorem d_Tree_first_31 : decode prog_7_method_38_code 31 = .ok (.iaload, 1) := by decide +kernel
theorem d_Tree_first_32 : decode prog_7_method_38_code 32 = .ok (.goto 4, 3) := by decide +kernel
theorem d_Tree_first_35 : decode prog_7_method_38_code 35 = .ok (.iconst 0, 1) := by decide +kernel
theorem d_Tree_first_36 : decode prog_7_method_38_code 36 = .ok (.ireturn, 1) := by decide +kernel
