theorem d_Store_found_0 : decode prog_1_method_1_code 0 = .ok (.aload_n 0, 1) := by decide +kernel
theorem d_Store_found_1 : decode prog_1_method_1_code 1 = .ok (.getfield 1, 3) := by decide +kernel
theorem d_Store_found_4 : decode prog_1_method_1_code 4 = .ok (.aload_n 1, 1) := by decide +kernel
theorem d_Store_found_5 : decode prog_1_method_1_code 5 = .ok (.invokevirtual 7, 3) := by decide +kernel
theorem d_Store_found_8 : decode prog_1_method_1_code 8 = .ok (.istore_n 2, 1) := by decide +kernel
theorem d_Store_found_9 : decode prog_1_method_1_code 9 = .ok (.iload_n 2, 1) := by decide +kernel
theorem d_Store_found_10 : decode prog_1_method_1_code 10 = .ok (.ifCond .ne 11, 3) := by decide +kernel
theorem d_Store_found_13 : decode prog_1_method_1_code 13 = .ok (.new 13, 3) := by decide +kernel
theorem d_Store_found_16 : decode prog_1_method_1_code 16 = .ok (.dup, 1) := by decide +kernel
theorem d_Store_found_17 : decode prog_1_method_1_code 17 = .ok (.invokespecial 15, 3) := by decide +kernel
theorem d_Store_found_20 : decode prog_1_method_1_code 20 = .ok (.athrow, 1) := by decide +kernel
theorem d_Store_found_21 : decode prog_1_method_1_code 21 = .ok (.iload_n 2, 1) := by decide +kernel
theorem d_Store_found_22 : decode prog_1_method_1_code 22 = .ok (.ireturn, 1) := by decide +kernel
theorem d_Store_known_0 : decode prog_1_method_2_code 0 = .ok (.aload_n 0, 1) := by decide +kernel
theorem d_Store_known_1 : decode prog_1_method_2_code 1 = .ok (.getfield 19, 3) := by decide +kernel
theorem d_Store_known_4 : decode prog_1_method_2_code 4 = .ok (.ifCond .ne 11, 3) := by decide +kernel
theorem d_Store_known_7 : decode prog_1_method_2_code 7 = .ok (.new 13, 3) := by decide +kernel
theorem d_Store_known_10 : decode prog_1_method_2_code 10 = .ok (.dup, 1) := by decide +kernel
theorem d_Store_known_11 : decode prog_1_method_2_code 11 = .ok (.invokespecial 15, 3) := by decide +kernel
theorem d_Store_known_14 : decode prog_1_method_2_code 14 = .ok (.athrow, 1) := by decide +kernel
theorem d_Store_known_15 : decode prog_1_method_2_code 15 = .ok (.aload_n 0, 1) := by decide +kernel
theorem d_Store_known_16 : decode prog_1_method_2_code 16 = .ok (.getfield 23, 3) := by decide +kernel
theorem d_Store_known_19 : decode prog_1_method_2_code 19 = .ok (.areturn, 1) := by decide +kernel
theorem d_Store_comes_0 : decode prog_1_method_3_code 0 = .ok (.iload_n 1, 1) := by decide +kernel
theorem d_Store_comes_1 : decode prog_1_method_3_code 1 = .ok (.ifCond .lt 14, 3) := by decide +kernel
theorem d_Store_comes_4 : decode prog_1_method_3_code 4 = .ok (.iload_n 1, 1) := by decide +kernel
theorem d_Store_comes_5 : decode prog_1_method_3_code 5 = .ok (.aload_n 0, 1) := by decide +kernel
theorem d_Store_comes_6 : decode prog_1_method_3_code 6 = .ok (.getfield 1, 3) := by decide +kernel
theorem d_Store_comes_9 : decode prog_1_method_3_code 9 = .ok (.invokevirtual 27, 3) := by decide +kernel
theorem d_Store_comes_12 : decode prog_1_method_3_code 12 = .ok (.if_icmp .lt 5, 3) := by decide +kernel
theorem d_Store_comes_15 : decode prog_1_method_3_code 15 = .ok (.iconst 0, 1) := by decide +kernel
theorem d_Store_comes_16 : decode prog_1_method_3_code 16 = .ok (.ireturn, 1) := by decide +kernel
theorem d_Store_comes_17 : decode prog_1_method_3_code 17 = .ok (.aload_n 0, 1) := by decide +kernel
theorem d_Store_comes_18 : decode prog_1_method_3_code 18 = .ok (.getfield 1, 3) := by decide +kernel
theorem d_Store_comes_21 : decode prog_1_method_3_code 21 = .ok (.aload_n 0, 1) := by decide +kernel
theorem d_Store_comes_22 : decode prog_1_method_3_code 22 = .ok (.getfield 1, 3) := by decide +kernel
theorem d_Store_comes_25 : decode prog_1_method_3_code 25 = .ok (.iload_n 1, 1) := by decide +kernel
theorem d_Store_comes_26 : decode prog_1_method_3_code 26 = .ok (.invokevirtual 31, 3) := by decide +kernel
theorem d_Store_comes_29 : decode prog_1_method_3_code 29 = .ok (.aload_n 0, 1) := by decide +kernel
theorem d_Store_comes_30 : decode prog_1_method_3_code 30 = .ok (.getfield 23, 3) := by decide +kernel
theorem d_Store_comes_33 : decode prog_1_method_3_code 33 = .ok (.invokevirtual 35, 3) := by decide +kernel
theorem d_Store_comes_36 : decode prog_1_method_3_code 36 = .ok (.aload_n 0, 1) := by decide +kernel
theorem d_Store_comes_37 : decode prog_1_method_3_code 37 = .ok (.iconst 1, 1) := by decide +kernel
theorem d_Store_comes_38 : decode prog_1_method_3_code 38 = .ok (.putfield 19, 3) := by decide +kernel
theorem d_Store_comes_41 : decode prog_1_method_3_code 41 = .ok (.iconst 1, 1) := by decide +kernel
theorem d_Store_comes_42 : decode prog_1_method_3_code 42 = .ok (.ireturn, 1) := by decide +kernel
theorem d_Store_behind_0 : decode prog_1_method_4_code 0 = .ok (.aload_n 0, 1) := by decide +kernel
theorem d_Store_behind_1 : decode prog_1_method_4_code 1 = .ok (.getfield 1, 3) := by decide +kernel
theorem d_Store_behind_4 : decode prog_1_method_4_code 4 = .ok (.aload_n 0, 1) := by decide +kernel
theorem d_Store_behind_5 : decode prog_1_method_4_code 5 = .ok (.getfield 39, 3) := by decide +kernel
theorem d_Store_behind_8 : decode prog_1_method_4_code 8 = .ok (.invokevirtual 42, 3) := by decide +kernel
theorem d_Store_behind_11 : decode prog_1_method_4_code 11 = .ok (.aload_n 0, 1) := by decide +kernel
theorem d_Store_behind_12 : decode prog_1_method_4_code 12 = .ok (.getfield 1, 3) := by decide +kernel
theorem d_Store_behind_15 : decode prog_1_method_4_code 15 = .ok (.aload_n 0, 1) := by decide +kernel
theorem d_Store_behind_16 : decode prog_1_method_4_code 16 = .ok (.getfield 39, 3) := by decide +kernel
theorem d_Store_behind_19 : decode prog_1_method_4_code 19 = .ok (.invokevirtual 7, 3) := by decide +kernel
theorem d_Store_behind_22 : decode prog_1_method_4_code 22 = .ok (.ifCond .eq 7, 3) := by decide +kernel
theorem d_Store_behind_25 : decode prog_1_method_4_code 25 = .ok (.iconst 1, 1) := by decide +kernel
theorem d_Store_behind_26 : decode prog_1_method_4_code 26 = .ok (.goto 4, 3) := by decide +kernel
theorem d_Store_behind_29 : decode prog_1_method_4_code 29 = .ok (.iconst 0, 1) := by decide +kernel
theorem d_Store_behind_30 : decode prog_1_method_4_code 30 = .ok (.iadd, 1) := by decide +kernel
theorem d_Store_behind_31 : decode prog_1_method_4_code 31 = .ok (.ireturn, 1) := by decide +kernel
theorem d_Store_init_0 : decode prog_1_method_5_code 0 = .ok (.aload_n 0, 1) := by decide +kernel
theorem d_Store_init_1 : decode prog_1_method_5_code 1 = .ok (.invokespecial 45, 3) := by decide +kernel
theorem d_Store_init_4 : decode prog_1_method_5_code 4 = .ok (.aload_n 0, 1) := by decide +kernel
theorem d_Store_init_5 : decode prog_1_method_5_code 5 = .ok (.new 8, 3) := by decide +kernel
theorem d_Store_init_8 : decode prog_1_method_5_code 8 = .ok (.dup, 1) := by decide +kernel
theorem d_Store_init_9 : decode prog_1_method_5_code 9 = .ok (.invokespecial 48, 3) := by decide +kernel
theorem d_Store_init_12 : decode prog_1_method_5_code 12 = .ok (.putfield 1, 3) := by decide +kernel
theorem d_Store_init_15 : decode prog_1_method_5_code 15 = .ok (.aload_n 0, 1) := by decide +kernel
theorem d_Store_init_16 : decode prog_1_method_5_code 16 = .ok (.new 49, 3) := by decide +kernel
theorem d_Store_init_19 : decode prog_1_method_5_code 19 = .ok (.dup, 1) := by decide +kernel
theorem d_Store_init_20 : decode prog_1_method_5_code 20 = .ok (.iconst 0, 1) := by decide +kernel
theorem d_Store_init_21 : decode prog_1_method_5_code 21 = .ok (.invokespecial 51, 3) := by decide +kernel
theorem d_Store_init_24 : decode prog_1_method_5_code 24 = .ok (.putfield 54, 3) := by decide +kernel
theorem d_Store_init_27 : decode prog_1_method_5_code 27 = .ok (.aload_n 0, 1) := by decide +kernel
theorem d_Store_init_28 : decode prog_1_method_5_code 28 = .ok (.iload_n 1, 1) := by decide +kernel
theorem d_Store_init_29 : decode prog_1_method_5_code 29 = .ok (.iconst 3, 1) := by decide +kernel
theorem d_Store_init_30 : decode prog_1_method_5_code 30 = .ok (.irem, 1) := by decide +kernel
theorem d_Store_init_31 : decode prog_1_method_5_code 31 = .ok (.iconst 3, 1) := by decide +kernel
theorem d_Store_init_32 : decode prog_1_method_5_code 32 = .ok (.iadd, 1) := by decide +kernel
theorem d_Store_init_33 : decode prog_1_method_5_code 33 = .ok (.iconst 3, 1) := by decide +kernel
theorem d_Store_init_34 : decode prog_1_method_5_code 34 = .ok (.irem, 1) := by decide +kernel
theorem d_Store_init_35 : decode prog_1_method_5_code 35 = .ok (.putfield 57, 3) := by decide +kernel
theorem d_Store_init_38 : decode prog_1_method_5_code 38 = .ok (.aload_n 0, 1) := by decide +kernel
theorem d_Store_init_39 : decode prog_1_method_5_code 39 = .ok (.new 49, 3) := by decide +kernel
theorem d_Store_init_42 : decode prog_1_method_5_code 42 = .ok (.dup, 1) := by decide +kernel
theorem d_Store_init_43 : decode prog_1_method_5_code 43 = .ok (.aload_n 0, 1) := by decide +kernel
theorem d_Store_init_44 : decode prog_1_method_5_code 44 = .ok (.getfield 57, 3) := by decide +kernel
theorem d_Store_init_47 : decode prog_1_method_5_code 47 = .ok (.invokespecial 51, 3) := by decide +kernel
theorem d_Store_init_50 : decode prog_1_method_5_code 50 = .ok (.putfield 39, 3) := by decide +kernel
theorem d_Store_init_53 : decode prog_1_method_5_code 53 = .ok (.aload_n 0, 1) := by decide +kernel
theorem d_Store_init_54 : decode prog_1_method_5_code 54 = .ok (.new 49, 3) := by decide +kernel
theorem d_Store_init_57 : decode prog_1_method_5_code 57 = .ok (.dup, 1) := by decide +kernel
theorem d_Store_init_58 : decode prog_1_method_5_code 58 = .ok (.aload_n 0, 1) := by decide +kernel
theorem d_Store_init_59 : decode prog_1_method_5_code 59 = .ok (.getfield 57, 3) := by decide +kernel
theorem d_Store_init_62 : decode prog_1_method_5_code 62 = .ok (.invokespecial 51, 3) := by decide +kernel
theorem d_Store_init_65 : decode prog_1_method_5_code 65 = .ok (.putfield 61, 3) := by decide +kernel
theorem d_Store_init_68 : decode prog_1_method_5_code 68 = .ok (.aload_n 0, 1) := by decide +kernel
theorem d_Store_init_69 : decode prog_1_method_5_code 69 = .ok (.new 49, 3) := by decide +kernel
theorem d_Store_init_72 : decode prog_1_method_5_code 72 = .ok (.dup, 1) := by decide +kernel
theorem d_Store_init_73 : decode prog_1_method_5_code 73 = .ok (.aload_n 0, 1) := by decide +kernel
theorem d_Store_init_74 : decode prog_1_method_5_code 74 = .ok (.getfield 57, 3) := by decide +kernel
theorem d_Store_init_77 : decode prog_1_method_5_code 77 = .ok (.invokespecial 51, 3) := by decide +kernel
theorem d_Store_init_80 : decode prog_1_method_5_code 80 = .ok (.putfield 23, 3) := by decide +kernel
theorem d_Store_init_83 : decode prog_1_method_5_code 83 = .ok (.return_, 1) := by decide +kernel
theorem d_Store_number_0 : decode prog_1_method_6_code 0 = .ok (.aload_n 0, 1) := by decide +kernel
theorem d_Store_number_1 : decode prog_1_method_6_code 1 = .ok (.getfield 57, 3) := by decide +kernel
theorem d_Store_number_4 : decode prog_1_method_6_code 4 = .ok (.ifCond .eq 11, 3) := by decide +kernel
theorem d_Store_number_7 : decode prog_1_method_6_code 7 = .ok (.new 64, 3) := by decide +kernel
theorem d_Store_number_10 : decode prog_1_method_6_code 10 = .ok (.dup, 1) := by decide +kernel
theorem d_Store_number_11 : decode prog_1_method_6_code 11 = .ok (.invokespecial 66, 3) := by decide +kernel
theorem d_Store_number_14 : decode prog_1_method_6_code 14 = .ok (.athrow, 1) := by decide +kernel
theorem d_Store_number_15 : decode prog_1_method_6_code 15 = .ok (.aload_n 0, 1) := by decide +kernel
theorem d_Store_number_16 : decode prog_1_method_6_code 16 = .ok (.getfield 39, 3) := by decide +kernel
theorem d_Store_number_19 : decode prog_1_method_6_code 19 = .ok (.invokevirtual 67, 3) := by decide +kernel
theorem d_Store_number_22 : decode prog_1_method_6_code 22 = .ok (.aload_n 0, 1) := by decide +kernel
theorem d_Store_number_23 : decode prog_1_method_6_code 23 = .ok (.getfield 39, 3) := by decide +kernel
theorem d_Store_number_26 : decode prog_1_method_6_code 26 = .ok (.lload_n 1, 1) := by decide +kernel
theorem d_Store_number_27 : decode prog_1_method_6_code 27 = .ok (.invokevirtual 70, 3) := by decide +kernel
theorem d_Store_number_30 : decode prog_1_method_6_code 30 = .ok (.return_, 1) := by decide +kernel
theorem d_Store_pair_0 : decode prog_1_method_7_code 0 = .ok (.aload_n 0, 1) := by decide +kernel
theorem d_Store_pair_1 : decode prog_1_method_7_code 1 = .ok (.getfield 57, 3) := by decide +kernel
theorem d_Store_pair_4 : decode prog_1_method_7_code 4 = .ok (.iconst 1, 1) := by decide +kernel
theorem d_Store_pair_5 : decode prog_1_method_7_code 5 = .ok (.if_icmp .eq 11, 3) := by decide +kernel
theorem d_Store_pair_8 : decode prog_1_method_7_code 8 = .ok (.new 64, 3) := by decide +kernel
theorem d_Store_pair_11 : decode prog_1_method_7_code 11 = .ok (.dup, 1) := by decide +kernel
theorem d_Store_pair_12 : decode prog_1_method_7_code 12 = .ok (.invokespecial 66, 3) := by decide +kernel
theorem d_Store_pair_15 : decode prog_1_method_7_code 15 = .ok (.athrow, 1) := by decide +kernel
theorem d_Store_pair_16 : decode prog_1_method_7_code 16 = .ok (.aload_n 0, 1) := by decide +kernel
theorem d_Store_pair_17 : decode prog_1_method_7_code 17 = .ok (.getfield 39, 3) := by decide +kernel
theorem d_Store_pair_20 : decode prog_1_method_7_code 20 = .ok (.invokevirtual 67, 3) := by decide +kernel
theorem d_Store_pair_23 : decode prog_1_method_7_code 23 = .ok (.aload_n 0, 1) := by decide +kernel
theorem d_Store_pair_24 : decode prog_1_method_7_code 24 = .ok (.getfield 39, 3) := by decide +kernel
theorem d_Store_pair_27 : decode prog_1_method_7_code 27 = .ok (.lload_n 1, 1) := by decide +kernel
theorem d_Store_pair_28 : decode prog_1_method_7_code 28 = .ok (.invokevirtual 70, 3) := by decide +kernel
theorem d_Store_pair_31 : decode prog_1_method_7_code 31 = .ok (.aload_n 0, 1) := by decide +kernel
theorem d_Store_pair_32 : decode prog_1_method_7_code 32 = .ok (.getfield 39, 3) := by decide +kernel
theorem d_Store_pair_35 : decode prog_1_method_7_code 35 = .ok (.lload_n 3, 1) := by decide +kernel
theorem d_Store_pair_36 : decode prog_1_method_7_code 36 = .ok (.invokevirtual 70, 3) := by decide +kernel
theorem d_Store_pair_39 : decode prog_1_method_7_code 39 = .ok (.return_, 1) := by decide +kernel
theorem d_Store_letter_0 : decode prog_1_method_8_code 0 = .ok (.aload_n 0, 1) := by decide +kernel
theorem d_Store_letter_1 : decode prog_1_method_8_code 1 = .ok (.getfield 57, 3) := by decide +kernel
theorem d_Store_letter_4 : decode prog_1_method_8_code 4 = .ok (.iconst 2, 1) := by decide +kernel
theorem d_Store_letter_5 : decode prog_1_method_8_code 5 = .ok (.if_icmp .eq 11, 3) := by decide +kernel
theorem d_Store_letter_8 : decode prog_1_method_8_code 8 = .ok (.new 64, 3) := by decide +kernel
theorem d_Store_letter_11 : decode prog_1_method_8_code 11 = .ok (.dup, 1) := by decide +kernel
theorem d_Store_letter_12 : decode prog_1_method_8_code 12 = .ok (.invokespecial 66, 3) := by decide +kernel
theorem d_Store_letter_15 : decode prog_1_method_8_code 15 = .ok (.athrow, 1) := by decide +kernel
theorem d_Store_letter_16 : decode prog_1_method_8_code 16 = .ok (.iload_n 1, 1) := by decide +kernel
theorem d_Store_letter_17 : decode prog_1_method_8_code 17 = .ok (.ifCond .lt 10, 3) := by decide +kernel
theorem d_Store_letter_20 : decode prog_1_method_8_code 20 = .ok (.iload_n 1, 1) := by decide +kernel
theorem d_Store_letter_21 : decode prog_1_method_8_code 21 = .ok (.sipush 255, 3) := by decide +kernel
theorem d_Store_letter_24 : decode prog_1_method_8_code 24 = .ok (.if_icmp .le 11, 3) := by decide +kernel
theorem d_Store_letter_27 : decode prog_1_method_8_code 27 = .ok (.new 74, 3) := by decide +kernel
theorem d_Store_letter_30 : decode prog_1_method_8_code 30 = .ok (.dup, 1) := by decide +kernel
theorem d_Store_letter_31 : decode prog_1_method_8_code 31 = .ok (.invokespecial 76, 3) := by decide +kernel
theorem d_Store_letter_34 : decode prog_1_method_8_code 34 = .ok (.athrow, 1) := by decide +kernel
theorem d_Store_letter_35 : decode prog_1_method_8_code 35 = .ok (.aload_n 0, 1) := by decide +kernel
theorem d_Store_letter_36 : decode prog_1_method_8_code 36 = .ok (.getfield 39, 3) := by decide +kernel
theorem d_Store_letter_39 : decode prog_1_method_8_code 39 = .ok (.getfield 77, 3) := by decide +kernel
theorem d_Store_letter_42 : decode prog_1_method_8_code 42 = .ok (.bipush 24, 2) := by decide +kernel
theorem d_Store_letter_44 : decode prog_1_method_8_code 44 = .ok (.if_icmp .ne 11, 3) := by decide +kernel
theorem d_Store_letter_47 : decode prog_1_method_8_code 47 = .ok (.new 80, 3) := by decide +kernel
theorem d_Store_letter_50 : decode prog_1_method_8_code 50 = .ok (.dup, 1) := by decide +kernel
theorem d_Store_letter_51 : decode prog_1_method_8_code 51 = .ok (.invokespecial 82, 3) := by decide +kernel
theorem d_Store_letter_54 : decode prog_1_method_8_code 54 = .ok (.athrow, 1) := by decide +kernel
theorem d_Store_letter_55 : decode prog_1_method_8_code 55 = .ok (.aload_n 0, 1) := by decide +kernel
theorem d_Store_letter_56 : decode prog_1_method_8_code 56 = .ok (.getfield 39, 3) := by decide +kernel
theorem d_Store_letter_59 : decode prog_1_method_8_code 59 = .ok (.iload_n 1, 1) := by decide +kernel
theorem d_Store_letter_60 : decode prog_1_method_8_code 60 = .ok (.invokevirtual 83, 3) := by decide +kernel
theorem d_Store_letter_63 : decode prog_1_method_8_code 63 = .ok (.aload_n 0, 1) := by decide +kernel
theorem d_Store_letter_64 : decode prog_1_method_8_code 64 = .ok (.getfield 39, 3) := by decide +kernel
theorem d_Store_letter_67 : decode prog_1_method_8_code 67 = .ok (.getfield 77, 3) := by decide +kernel
theorem d_Store_letter_70 : decode prog_1_method_8_code 70 = .ok (.ireturn, 1) := by decide +kernel
theorem d_Store_erase_0 : decode prog_1_method_9_code 0 = .ok (.aload_n 0, 1) := by decide +kernel
theorem d_Store_erase_1 : decode prog_1_method_9_code 1 = .ok (.getfield 39, 3) := by decide +kernel
theorem d_Store_erase_4 : decode prog_1_method_9_code 4 = .ok (.aload_n 0, 1) := by decide +kernel
theorem d_Store_erase_5 : decode prog_1_method_9_code 5 = .ok (.getfield 57, 3) := by decide +kernel
theorem d_Store_erase_8 : decode prog_1_method_9_code 8 = .ok (.invokevirtual 86, 3) := by decide +kernel
theorem d_Store_erase_11 : decode prog_1_method_9_code 11 = .ok (.return_, 1) := by decide +kernel
theorem d_Store_keep_0 : decode prog_1_method_10_code 0 = .ok (.aload_n 0, 1) := by decide +kernel
theorem d_Store_keep_1 : decode prog_1_method_10_code 1 = .ok (.getfield 61, 3) := by decide +kernel
theorem d_Store_keep_4 : decode prog_1_method_10_code 4 = .ok (.aload_n 0, 1) := by decide +kernel
theorem d_Store_keep_5 : decode prog_1_method_10_code 5 = .ok (.getfield 39, 3) := by decide +kernel
theorem d_Store_keep_8 : decode prog_1_method_10_code 8 = .ok (.invokevirtual 89, 3) := by decide +kernel
theorem d_Store_keep_11 : decode prog_1_method_10_code 11 = .ok (.return_, 1) := by decide +kernel
theorem d_Store_take_0 : decode prog_1_method_11_code 0 = .ok (.aload_n 0, 1) := by decide +kernel
theorem d_Store_take_1 : decode prog_1_method_11_code 1 = .ok (.getfield 19, 3) := by decide +kernel
theorem d_Store_take_4 : decode prog_1_method_11_code 4 = .ok (.ifCond .ne 11, 3) := by decide +kernel
theorem d_Store_take_7 : decode prog_1_method_11_code 7 = .ok (.new 13, 3) := by decide +kernel
theorem d_Store_take_10 : decode prog_1_method_11_code 10 = .ok (.dup, 1) := by decide +kernel
theorem d_Store_take_11 : decode prog_1_method_11_code 11 = .ok (.invokespecial 15, 3) := by decide +kernel
theorem d_Store_take_14 : decode prog_1_method_11_code 14 = .ok (.athrow, 1) := by decide +kernel
theorem d_Store_take_15 : decode prog_1_method_11_code 15 = .ok (.aload_n 0, 1) := by decide +kernel
theorem d_Store_take_16 : decode prog_1_method_11_code 16 = .ok (.getfield 39, 3) := by decide +kernel
theorem d_Store_take_19 : decode prog_1_method_11_code 19 = .ok (.aload_n 0, 1) := by decide +kernel
theorem d_Store_take_20 : decode prog_1_method_11_code 20 = .ok (.getfield 23, 3) := by decide +kernel
theorem d_Store_take_23 : decode prog_1_method_11_code 23 = .ok (.invokevirtual 89, 3) := by decide +kernel
theorem d_Store_take_26 : decode prog_1_method_11_code 26 = .ok (.return_, 1) := by decide +kernel
theorem d_Store_put_0 : decode prog_1_method_12_code 0 = .ok (.aload_n 0, 1) := by decide +kernel
theorem d_Store_put_1 : decode prog_1_method_12_code 1 = .ok (.getfield 1, 3) := by decide +kernel
theorem d_Store_put_4 : decode prog_1_method_12_code 4 = .ok (.aload_n 0, 1) := by decide +kernel
theorem d_Store_put_5 : decode prog_1_method_12_code 5 = .ok (.getfield 39, 3) := by decide +kernel
theorem d_Store_put_8 : decode prog_1_method_12_code 8 = .ok (.invokevirtual 7, 3) := by decide +kernel
theorem d_Store_put_11 : decode prog_1_method_12_code 11 = .ok (.istore_n 3, 1) := by decide +kernel
theorem d_Store_put_12 : decode prog_1_method_12_code 12 = .ok (.iload_n 3, 1) := by decide +kernel
theorem d_Store_put_13 : decode prog_1_method_12_code 13 = .ok (.ifCond .ne 24, 3) := by decide +kernel
theorem d_Store_put_16 : decode prog_1_method_12_code 16 = .ok (.aload_n 0, 1) := by decide +kernel
theorem d_Store_put_17 : decode prog_1_method_12_code 17 = .ok (.getfield 1, 3) := by decide +kernel
theorem d_Store_put_20 : decode prog_1_method_12_code 20 = .ok (.invokevirtual 27, 3) := by decide +kernel
theorem d_Store_put_23 : decode prog_1_method_12_code 23 = .ok (.sipush 1500, 3) := by decide +kernel
theorem d_Store_put_26 : decode prog_1_method_12_code 26 = .ok (.if_icmp .ne 11, 3) := by decide +kernel
theorem d_Store_put_29 : decode prog_1_method_12_code 29 = .ok (.new 80, 3) := by decide +kernel
theorem d_Store_put_32 : decode prog_1_method_12_code 32 = .ok (.dup, 1) := by decide +kernel
theorem d_Store_put_33 : decode prog_1_method_12_code 33 = .ok (.invokespecial 82, 3) := by decide +kernel
theorem d_Store_put_36 : decode prog_1_method_12_code 36 = .ok (.athrow, 1) := by decide +kernel
theorem d_Store_put_37 : decode prog_1_method_12_code 37 = .ok (.iload_n 3, 1) := by decide +kernel
theorem d_Store_put_38 : decode prog_1_method_12_code 38 = .ok (.ifCond .eq 15, 3) := by decide +kernel
theorem d_Store_put_41 : decode prog_1_method_12_code 41 = .ok (.aload_n 0, 1) := by decide +kernel
theorem d_Store_put_42 : decode prog_1_method_12_code 42 = .ok (.getfield 1, 3) := by decide +kernel
theorem d_Store_put_45 : decode prog_1_method_12_code 45 = .ok (.iload_n 3, 1) := by decide +kernel
theorem d_Store_put_46 : decode prog_1_method_12_code 46 = .ok (.lload_n 1, 1) := by decide +kernel
theorem d_Store_put_47 : decode prog_1_method_12_code 47 = .ok (.invokevirtual 93, 3) := by decide +kernel
theorem d_Store_put_50 : decode prog_1_method_12_code 50 = .ok (.goto 15, 3) := by decide +kernel
theorem d_Store_put_53 : decode prog_1_method_12_code 53 = .ok (.aload_n 0, 1) := by decide +kernel
theorem d_Store_put_54 : decode prog_1_method_12_code 54 = .ok (.getfield 1, 3) := by decide +kernel
theorem d_Store_put_57 : decode prog_1_method_12_code 57 = .ok (.aload_n 0, 1) := by decide +kernel
theorem d_Store_put_58 : decode prog_1_method_12_code 58 = .ok (.getfield 39, 3) := by decide +kernel
theorem d_Store_put_61 : decode prog_1_method_12_code 61 = .ok (.lload_n 1, 1) := by decide +kernel
theorem d_Store_put_62 : decode prog_1_method_12_code 62 = .ok (.invokevirtual 97, 3) := by decide +kernel
theorem d_Store_put_65 : decode prog_1_method_12_code 65 = .ok (.iload_n 3, 1) := by decide +kernel
theorem d_Store_put_66 : decode prog_1_method_12_code 66 = .ok (.ifCond .ne 7, 3) := by decide +kernel
theorem d_Store_put_69 : decode prog_1_method_12_code 69 = .ok (.iconst 1, 1) := by decide +kernel
theorem d_Store_put_70 : decode prog_1_method_12_code 70 = .ok (.goto 4, 3) := by decide +kernel
theorem d_Store_put_73 : decode prog_1_method_12_code 73 = .ok (.iconst 0, 1) := by decide +kernel
theorem d_Store_put_74 : decode prog_1_method_12_code 74 = .ok (.ireturn, 1) := by decide +kernel
theorem d_Store_get_0 : decode prog_1_method_13_code 0 = .ok (.aload_n 0, 1) := by decide +kernel
theorem d_Store_get_1 : decode prog_1_method_13_code 1 = .ok (.getfield 1, 3) := by decide +kernel
theorem d_Store_get_4 : decode prog_1_method_13_code 4 = .ok (.aload_n 0, 1) := by decide +kernel
theorem d_Store_get_5 : decode prog_1_method_13_code 5 = .ok (.aload_n 0, 1) := by decide +kernel
theorem d_Store_get_6 : decode prog_1_method_13_code 6 = .ok (.getfield 39, 3) := by decide +kernel
theorem d_Store_get_9 : decode prog_1_method_13_code 9 = .ok (.invokevirtual 101, 3) := by decide +kernel
theorem d_Store_get_12 : decode prog_1_method_13_code 12 = .ok (.invokevirtual 104, 3) := by decide +kernel
theorem d_Store_get_15 : decode prog_1_method_13_code 15 = .ok (.lreturn, 1) := by decide +kernel
theorem d_Store_remove_0 : decode prog_1_method_14_code 0 = .ok (.aload_n 0, 1) := by decide +kernel
theorem d_Store_remove_1 : decode prog_1_method_14_code 1 = .ok (.getfield 1, 3) := by decide +kernel
theorem d_Store_remove_4 : decode prog_1_method_14_code 4 = .ok (.aload_n 0, 1) := by decide +kernel
theorem d_Store_remove_5 : decode prog_1_method_14_code 5 = .ok (.aload_n 0, 1) := by decide +kernel
theorem d_Store_remove_6 : decode prog_1_method_14_code 6 = .ok (.getfield 39, 3) := by decide +kernel
theorem d_Store_remove_9 : decode prog_1_method_14_code 9 = .ok (.invokevirtual 101, 3) := by decide +kernel
theorem d_Store_remove_12 : decode prog_1_method_14_code 12 = .ok (.invokevirtual 104, 3) := by decide +kernel
theorem d_Store_remove_15 : decode prog_1_method_14_code 15 = .ok (.lstore_n 1, 1) := by decide +kernel
theorem d_Store_remove_16 : decode prog_1_method_14_code 16 = .ok (.aload_n 0, 1) := by decide +kernel
theorem d_Store_remove_17 : decode prog_1_method_14_code 17 = .ok (.getfield 1, 3) := by decide +kernel
theorem d_Store_remove_20 : decode prog_1_method_14_code 20 = .ok (.aload_n 0, 1) := by decide +kernel
theorem d_Store_remove_21 : decode prog_1_method_14_code 21 = .ok (.getfield 39, 3) := by decide +kernel
theorem d_Store_remove_24 : decode prog_1_method_14_code 24 = .ok (.invokevirtual 108, 3) := by decide +kernel
theorem d_Store_remove_27 : decode prog_1_method_14_code 27 = .ok (.lload_n 1, 1) := by decide +kernel
theorem d_Store_remove_28 : decode prog_1_method_14_code 28 = .ok (.lreturn, 1) := by decide +kernel
theorem d_Store_seek_0 : decode prog_1_method_15_code 0 = .ok (.iload_n 1, 1) := by decide +kernel
theorem d_Store_seek_1 : decode prog_1_method_15_code 1 = .ok (.ifCond .lt 8, 3) := by decide +kernel
theorem d_Store_seek_4 : decode prog_1_method_15_code 4 = .ok (.iload_n 1, 1) := by decide +kernel
theorem d_Store_seek_5 : decode prog_1_method_15_code 5 = .ok (.iconst 5, 1) := by decide +kernel
theorem d_Store_seek_6 : decode prog_1_method_15_code 6 = .ok (.if_icmp .le 11, 3) := by decide +kernel
theorem d_Store_seek_9 : decode prog_1_method_15_code 9 = .ok (.new 74, 3) := by decide +kernel
theorem d_Store_seek_12 : decode prog_1_method_15_code 12 = .ok (.dup, 1) := by decide +kernel
theorem d_Store_seek_13 : decode prog_1_method_15_code 13 = .ok (.invokespecial 76, 3) := by decide +kernel
theorem d_Store_seek_16 : decode prog_1_method_15_code 16 = .ok (.athrow, 1) := by decide +kernel
theorem d_Store_seek_17 : decode prog_1_method_15_code 17 = .ok (.aload_n 0, 1) := by decide +kernel
theorem d_Store_seek_18 : decode prog_1_method_15_code 18 = .ok (.getfield 1, 3) := by decide +kernel
theorem d_Store_seek_21 : decode prog_1_method_15_code 21 = .ok (.aload_n 0, 1) := by decide +kernel
theorem d_Store_seek_22 : decode prog_1_method_15_code 22 = .ok (.getfield 39, 3) := by decide +kernel
theorem d_Store_seek_25 : decode prog_1_method_15_code 25 = .ok (.invokevirtual 42, 3) := by decide +kernel
theorem d_Store_seek_28 : decode prog_1_method_15_code 28 = .ok (.istore_n 2, 1) := by decide +kernel
theorem d_Store_seek_29 : decode prog_1_method_15_code 29 = .ok (.iload_n 1, 1) := by decide +kernel
theorem d_Store_seek_30 : decode prog_1_method_15_code 30 = .ok (.iconst 4, 1) := by decide +kernel
theorem d_Store_seek_31 : decode prog_1_method_15_code 31 = .ok (.if_icmp .ge 21, 3) := by decide +kernel
theorem d_Store_seek_34 : decode prog_1_method_15_code 34 = .ok (.aload_n 0, 1) := by decide +kernel
theorem d_Store_seek_35 : decode prog_1_method_15_code 35 = .ok (.getfield 1, 3) := by decide +kernel
theorem d_Store_seek_38 : decode prog_1_method_15_code 38 = .ok (.aload_n 0, 1) := by decide +kernel
theorem d_Store_seek_39 : decode prog_1_method_15_code 39 = .ok (.getfield 39, 3) := by decide +kernel
theorem d_Store_seek_42 : decode prog_1_method_15_code 42 = .ok (.invokevirtual 7, 3) := by decide +kernel
theorem d_Store_seek_45 : decode prog_1_method_15_code 45 = .ok (.ifCond .eq 7, 3) := by decide +kernel
theorem d_Store_seek_48 : decode prog_1_method_15_code 48 = .ok (.iconst 1, 1) := by decide +kernel
theorem d_Store_seek_49 : decode prog_1_method_15_code 49 = .ok (.goto 4, 3) := by decide +kernel
theorem d_Store_seek_52 : decode prog_1_method_15_code 52 = .ok (.iconst 0, 1) := by decide +kernel
theorem d_Store_seek_53 : decode prog_1_method_15_code 53 = .ok (.istore_n 3, 1) := by decide +kernel
theorem d_Store_seek_54 : decode prog_1_method_15_code 54 = .ok (.iload_n 1, 1) := by decide +kernel
theorem d_Store_seek_55 : decode prog_1_method_15_code 55 = .ok (.tableswitch 71 0 4 #[33, 43, 49, 57, 65], 33) := by decide +kernel
theorem d_Store_seek_88 : decode prog_1_method_15_code 88 = .ok (.aload_n 0, 1) := by decide +kernel
theorem d_Store_seek_89 : decode prog_1_method_15_code 89 = .ok (.iload_n 2, 1) := by decide +kernel
theorem d_Store_seek_90 : decode prog_1_method_15_code 90 = .ok (.iload_n 3, 1) := by decide +kernel
theorem d_Store_seek_91 : decode prog_1_method_15_code 91 = .ok (.iadd, 1) := by decide +kernel
theorem d_Store_seek_92 : decode prog_1_method_15_code 92 = .ok (.iconst 1, 1) := by decide +kernel
theorem d_Store_seek_93 : decode prog_1_method_15_code 93 = .ok (.isub, 1) := by decide +kernel
theorem d_Store_seek_94 : decode prog_1_method_15_code 94 = .ok (.invokevirtual 111, 3) := by decide +kernel
theorem d_Store_seek_97 : decode prog_1_method_15_code 97 = .ok (.ireturn, 1) := by decide +kernel
theorem d_Store_seek_98 : decode prog_1_method_15_code 98 = .ok (.aload_n 0, 1) := by decide +kernel
theorem d_Store_seek_99 : decode prog_1_method_15_code 99 = .ok (.iload_n 2, 1) := by decide +kernel
theorem d_Store_seek_100 : decode prog_1_method_15_code 100 = .ok (.invokevirtual 111, 3) := by decide +kernel
theorem d_Store_seek_103 : decode prog_1_method_15_code 103 = .ok (.ireturn, 1) := by decide +kernel
theorem d_Store_seek_104 : decode prog_1_method_15_code 104 = .ok (.aload_n 0, 1) := by decide +kernel
theorem d_Store_seek_105 : decode prog_1_method_15_code 105 = .ok (.iload_n 2, 1) := by decide +kernel
theorem d_Store_seek_106 : decode prog_1_method_15_code 106 = .ok (.iconst 1, 1) := by decide +kernel
theorem d_Store_seek_107 : decode prog_1_method_15_code 107 = .ok (.isub, 1) := by decide +kernel
theorem d_Store_seek_108 : decode prog_1_method_15_code 108 = .ok (.invokevirtual 111, 3) := by decide +kernel
theorem d_Store_seek_111 : decode prog_1_method_15_code 111 = .ok (.ireturn, 1) := by decide +kernel
theorem d_Store_seek_112 : decode prog_1_method_15_code 112 = .ok (.aload_n 0, 1) := by decide +kernel
theorem d_Store_seek_113 : decode prog_1_method_15_code 113 = .ok (.iload_n 2, 1) := by decide +kernel
theorem d_Store_seek_114 : decode prog_1_method_15_code 114 = .ok (.iload_n 3, 1) := by decide +kernel
theorem d_Store_seek_115 : decode prog_1_method_15_code 115 = .ok (.iadd, 1) := by decide +kernel
theorem d_Store_seek_116 : decode prog_1_method_15_code 116 = .ok (.invokevirtual 111, 3) := by decide +kernel
theorem d_Store_seek_119 : decode prog_1_method_15_code 119 = .ok (.ireturn, 1) := by decide +kernel
theorem d_Store_seek_120 : decode prog_1_method_15_code 120 = .ok (.aload_n 0, 1) := by decide +kernel
theorem d_Store_seek_121 : decode prog_1_method_15_code 121 = .ok (.iconst 0, 1) := by decide +kernel
theorem d_Store_seek_122 : decode prog_1_method_15_code 122 = .ok (.invokevirtual 111, 3) := by decide +kernel
theorem d_Store_seek_125 : decode prog_1_method_15_code 125 = .ok (.ireturn, 1) := by decide +kernel
theorem d_Store_seek_126 : decode prog_1_method_15_code 126 = .ok (.aload_n 0, 1) := by decide +kernel
theorem d_Store_seek_127 : decode prog_1_method_15_code 127 = .ok (.aload_n 0, 1) := by decide +kernel
theorem d_Store_seek_128 : decode prog_1_method_15_code 128 = .ok (.getfield 1, 3) := by decide +kernel
theorem d_Store_seek_131 : decode prog_1_method_15_code 131 = .ok (.invokevirtual 27, 3) := by decide +kernel
theorem d_Store_seek_134 : decode prog_1_method_15_code 134 = .ok (.iconst 1, 1) := by decide +kernel
theorem d_Store_seek_135 : decode prog_1_method_15_code 135 = .ok (.isub, 1) := by decide +kernel
theorem d_Store_seek_136 : decode prog_1_method_15_code 136 = .ok (.invokevirtual 111, 3) := by decide +kernel
theorem d_Store_seek_139 : decode prog_1_method_15_code 139 = .ok (.ireturn, 1) := by decide +kernel
theorem d_Store_move_0 : decode prog_1_method_16_code 0 = .ok (.aload_n 0, 1) := by decide +kernel
theorem d_Store_move_1 : decode prog_1_method_16_code 1 = .ok (.getfield 1, 3) := by decide +kernel
theorem d_Store_move_4 : decode prog_1_method_16_code 4 = .ok (.aload_n 0, 1) := by decide +kernel
theorem d_Store_move_5 : decode prog_1_method_16_code 5 = .ok (.invokevirtual 115, 3) := by decide +kernel
theorem d_Store_move_8 : decode prog_1_method_16_code 8 = .ok (.invokevirtual 42, 3) := by decide +kernel
theorem d_Store_move_11 : decode prog_1_method_16_code 11 = .ok (.istore_n 2, 1) := by decide +kernel
theorem d_Store_move_12 : decode prog_1_method_16_code 12 = .ok (.aload_n 0, 1) := by decide +kernel
theorem d_Store_move_13 : decode prog_1_method_16_code 13 = .ok (.iload_n 1, 1) := by decide +kernel
theorem d_Store_move_14 : decode prog_1_method_16_code 14 = .ok (.ifCond .eq 27, 3) := by decide +kernel
theorem d_Store_move_17 : decode prog_1_method_16_code 17 = .ok (.aload_n 0, 1) := by decide +kernel
theorem d_Store_move_18 : decode prog_1_method_16_code 18 = .ok (.getfield 1, 3) := by decide +kernel
theorem d_Store_move_21 : decode prog_1_method_16_code 21 = .ok (.aload_n 0, 1) := by decide +kernel
theorem d_Store_move_22 : decode prog_1_method_16_code 22 = .ok (.getfield 23, 3) := by decide +kernel
theorem d_Store_move_25 : decode prog_1_method_16_code 25 = .ok (.invokevirtual 7, 3) := by decide +kernel
theorem d_Store_move_28 : decode prog_1_method_16_code 28 = .ok (.ifCond .eq 9, 3) := by decide +kernel
theorem d_Store_move_31 : decode prog_1_method_16_code 31 = .ok (.iload_n 2, 1) := by decide +kernel
theorem d_Store_move_32 : decode prog_1_method_16_code 32 = .ok (.iconst 1, 1) := by decide +kernel
theorem d_Store_move_33 : decode prog_1_method_16_code 33 = .ok (.iadd, 1) := by decide +kernel
theorem d_Store_move_34 : decode prog_1_method_16_code 34 = .ok (.goto 10, 3) := by decide +kernel
theorem d_Store_move_37 : decode prog_1_method_16_code 37 = .ok (.iload_n 2, 1) := by decide +kernel
theorem d_Store_move_38 : decode prog_1_method_16_code 38 = .ok (.goto 6, 3) := by decide +kernel
theorem d_Store_move_41 : decode prog_1_method_16_code 41 = .ok (.iload_n 2, 1) := by decide +kernel
theorem d_Store_move_42 : decode prog_1_method_16_code 42 = .ok (.iconst 1, 1) := by decide +kernel
theorem d_Store_move_43 : decode prog_1_method_16_code 43 = .ok (.isub, 1) := by decide +kernel
theorem d_Store_move_44 : decode prog_1_method_16_code 44 = .ok (.invokevirtual 111, 3) := by decide +kernel
theorem d_Store_move_47 : decode prog_1_method_16_code 47 = .ok (.ireturn, 1) := by decide +kernel
theorem d_Store_there_0 : decode prog_1_method_17_code 0 = .ok (.aload_n 0, 1) := by decide +kernel
theorem d_Store_there_1 : decode prog_1_method_17_code 1 = .ok (.getfield 19, 3) := by decide +kernel
theorem d_Store_there_4 : decode prog_1_method_17_code 4 = .ok (.ifCond .eq 21, 3) := by decide +kernel
theorem d_Store_there_7 : decode prog_1_method_17_code 7 = .ok (.aload_n 0, 1) := by decide +kernel
theorem d_Store_there_8 : decode prog_1_method_17_code 8 = .ok (.getfield 1, 3) := by decide +kernel
theorem d_Store_there_11 : decode prog_1_method_17_code 11 = .ok (.aload_n 0, 1) := by decide +kernel
theorem d_Store_there_12 : decode prog_1_method_17_code 12 = .ok (.getfield 23, 3) := by decide +kernel
theorem d_Store_there_15 : decode prog_1_method_17_code 15 = .ok (.invokevirtual 7, 3) := by decide +kernel
theorem d_Store_there_18 : decode prog_1_method_17_code 18 = .ok (.ifCond .eq 7, 3) := by decide +kernel
theorem d_Store_there_21 : decode prog_1_method_17_code 21 = .ok (.iconst 1, 1) := by decide +kernel
theorem d_Store_there_22 : decode prog_1_method_17_code 22 = .ok (.goto 4, 3) := by decide +kernel
theorem d_Store_there_25 : decode prog_1_method_17_code 25 = .ok (.iconst 0, 1) := by decide +kernel
theorem d_Store_there_26 : decode prog_1_method_17_code 26 = .ok (.ireturn, 1) := by decide +kernel
theorem d_Store_length_0 : decode prog_1_method_18_code 0 = .ok (.aload_n 0, 1) := by decide +kernel
theorem d_Store_length_1 : decode prog_1_method_18_code 1 = .ok (.invokevirtual 115, 3) := by decide +kernel
theorem d_Store_length_4 : decode prog_1_method_18_code 4 = .ok (.astore_n 1, 1) := by decide +kernel
theorem d_Store_length_5 : decode prog_1_method_18_code 5 = .ok (.aload_n 0, 1) := by decide +kernel
theorem d_Store_length_6 : decode prog_1_method_18_code 6 = .ok (.getfield 57, 3) := by decide +kernel
theorem d_Store_length_9 : decode prog_1_method_18_code 9 = .ok (.iconst 2, 1) := by decide +kernel
theorem d_Store_length_10 : decode prog_1_method_18_code 10 = .ok (.if_icmp .ge 12, 3) := by decide +kernel
theorem d_Store_length_13 : decode prog_1_method_18_code 13 = .ok (.aload_n 0, 1) := by decide +kernel
theorem d_Store_length_14 : decode prog_1_method_18_code 14 = .ok (.getfield 57, 3) := by decide +kernel
theorem d_Store_length_17 : decode prog_1_method_18_code 17 = .ok (.iconst 1, 1) := by decide +kernel
theorem d_Store_length_18 : decode prog_1_method_18_code 18 = .ok (.iadd, 1) := by decide +kernel
theorem d_Store_length_19 : decode prog_1_method_18_code 19 = .ok (.goto 7, 3) := by decide +kernel
theorem d_Store_length_22 : decode prog_1_method_18_code 22 = .ok (.aload_n 1, 1) := by decide +kernel
theorem d_Store_length_23 : decode prog_1_method_18_code 23 = .ok (.getfield 77, 3) := by decide +kernel
theorem d_Store_length_26 : decode prog_1_method_18_code 26 = .ok (.ireturn, 1) := by decide +kernel
theorem d_Store_part_0 : decode prog_1_method_19_code 0 = .ok (.aload_n 0, 1) := by decide +kernel
theorem d_Store_part_1 : decode prog_1_method_19_code 1 = .ok (.invokevirtual 115, 3) := by decide +kernel
theorem d_Store_part_4 : decode prog_1_method_19_code 4 = .ok (.astore_n 2, 1) := by decide +kernel
theorem d_Store_part_5 : decode prog_1_method_19_code 5 = .ok (.iload_n 1, 1) := by decide +kernel
theorem d_Store_part_6 : decode prog_1_method_19_code 6 = .ok (.ifCond .lt 28, 3) := by decide +kernel
theorem d_Store_part_9 : decode prog_1_method_19_code 9 = .ok (.iload_n 1, 1) := by decide +kernel
theorem d_Store_part_10 : decode prog_1_method_19_code 10 = .ok (.aload_n 0, 1) := by decide +kernel
theorem d_Store_part_11 : decode prog_1_method_19_code 11 = .ok (.getfield 57, 3) := by decide +kernel
theorem d_Store_part_14 : decode prog_1_method_19_code 14 = .ok (.iconst 2, 1) := by decide +kernel
theorem d_Store_part_15 : decode prog_1_method_19_code 15 = .ok (.if_icmp .ge 12, 3) := by decide +kernel
theorem d_Store_part_18 : decode prog_1_method_19_code 18 = .ok (.aload_n 0, 1) := by decide +kernel
theorem d_Store_part_19 : decode prog_1_method_19_code 19 = .ok (.getfield 57, 3) := by decide +kernel
theorem d_Store_part_22 : decode prog_1_method_19_code 22 = .ok (.iconst 1, 1) := by decide +kernel
theorem d_Store_part_23 : decode prog_1_method_19_code 23 = .ok (.iadd, 1) := by decide +kernel
theorem d_Store_part_24 : decode prog_1_method_19_code 24 = .ok (.goto 7, 3) := by decide +kernel
theorem d_Store_part_27 : decode prog_1_method_19_code 27 = .ok (.aload_n 2, 1) := by decide +kernel
theorem d_Store_part_28 : decode prog_1_method_19_code 28 = .ok (.getfield 77, 3) := by decide +kernel
theorem d_Store_part_31 : decode prog_1_method_19_code 31 = .ok (.if_icmp .lt 11, 3) := by decide +kernel
theorem d_Store_part_34 : decode prog_1_method_19_code 34 = .ok (.new 119, 3) := by decide +kernel
theorem d_Store_part_37 : decode prog_1_method_19_code 37 = .ok (.dup, 1) := by decide +kernel
theorem d_Store_part_38 : decode prog_1_method_19_code 38 = .ok (.invokespecial 121, 3) := by decide +kernel
theorem d_Store_part_41 : decode prog_1_method_19_code 41 = .ok (.athrow, 1) := by decide +kernel
theorem d_Store_part_42 : decode prog_1_method_19_code 42 = .ok (.aload_n 0, 1) := by decide +kernel
theorem d_Store_part_43 : decode prog_1_method_19_code 43 = .ok (.getfield 57, 3) := by decide +kernel
theorem d_Store_part_46 : decode prog_1_method_19_code 46 = .ok (.iconst 2, 1) := by decide +kernel
theorem d_Store_part_47 : decode prog_1_method_19_code 47 = .ok (.if_icmp .ge 11, 3) := by decide +kernel
theorem d_Store_part_50 : decode prog_1_method_19_code 50 = .ok (.aload_n 2, 1) := by decide +kernel
theorem d_Store_part_51 : decode prog_1_method_19_code 51 = .ok (.iload_n 1, 1) := by decide +kernel
theorem d_Store_part_52 : decode prog_1_method_19_code 52 = .ok (.invokevirtual 122, 3) := by decide +kernel
theorem d_Store_part_55 : decode prog_1_method_19_code 55 = .ok (.goto 9, 3) := by decide +kernel
theorem d_Store_part_58 : decode prog_1_method_19_code 58 = .ok (.aload_n 2, 1) := by decide +kernel
theorem d_Store_part_59 : decode prog_1_method_19_code 59 = .ok (.iload_n 1, 1) := by decide +kernel
theorem d_Store_part_60 : decode prog_1_method_19_code 60 = .ok (.invokevirtual 125, 3) := by decide +kernel
theorem d_Store_part_63 : decode prog_1_method_19_code 63 = .ok (.i2l, 1) := by decide +kernel
theorem d_Store_part_64 : decode prog_1_method_19_code 64 = .ok (.lreturn, 1) := by decide +kernel
theorem d_Store_value_0 : decode prog_1_method_20_code 0 = .ok (.aload_n 0, 1) := by decide +kernel
theorem d_Store_value_1 : decode prog_1_method_20_code 1 = .ok (.getfield 1, 3) := by decide +kernel
theorem d_Store_value_4 : decode prog_1_method_20_code 4 = .ok (.aload_n 0, 1) := by decide +kernel
theorem d_Store_value_5 : decode prog_1_method_20_code 5 = .ok (.aload_n 0, 1) := by decide +kernel
theorem d_Store_value_6 : decode prog_1_method_20_code 6 = .ok (.invokevirtual 115, 3) := by decide +kernel
theorem d_Store_value_9 : decode prog_1_method_20_code 9 = .ok (.invokevirtual 101, 3) := by decide +kernel
theorem d_Store_value_12 : decode prog_1_method_20_code 12 = .ok (.invokevirtual 104, 3) := by decide +kernel
theorem d_Store_value_15 : decode prog_1_method_20_code 15 = .ok (.lreturn, 1) := by decide +kernel
theorem d_Store_rank_0 : decode prog_1_method_21_code 0 = .ok (.aload_n 0, 1) := by decide +kernel
theorem d_Store_rank_1 : decode prog_1_method_21_code 1 = .ok (.getfield 1, 3) := by decide +kernel
theorem d_Store_rank_4 : decode prog_1_method_21_code 4 = .ok (.aload_n 0, 1) := by decide +kernel
theorem d_Store_rank_5 : decode prog_1_method_21_code 5 = .ok (.getfield 39, 3) := by decide +kernel
theorem d_Store_rank_8 : decode prog_1_method_21_code 8 = .ok (.invokevirtual 42, 3) := by decide +kernel
theorem d_Store_rank_11 : decode prog_1_method_21_code 11 = .ok (.ireturn, 1) := by decide +kernel
theorem d_Store_select_0 : decode prog_1_method_22_code 0 = .ok (.iload_n 1, 1) := by decide +kernel
theorem d_Store_select_1 : decode prog_1_method_22_code 1 = .ok (.ifCond .lt 14, 3) := by decide +kernel
theorem d_Store_select_4 : decode prog_1_method_22_code 4 = .ok (.iload_n 1, 1) := by decide +kernel
theorem d_Store_select_5 : decode prog_1_method_22_code 5 = .ok (.aload_n 0, 1) := by decide +kernel
theorem d_Store_select_6 : decode prog_1_method_22_code 6 = .ok (.getfield 1, 3) := by decide +kernel
theorem d_Store_select_9 : decode prog_1_method_22_code 9 = .ok (.invokevirtual 27, 3) := by decide +kernel
theorem d_Store_select_12 : decode prog_1_method_22_code 12 = .ok (.if_icmp .lt 11, 3) := by decide +kernel
theorem d_Store_select_15 : decode prog_1_method_22_code 15 = .ok (.new 119, 3) := by decide +kernel
theorem d_Store_select_18 : decode prog_1_method_22_code 18 = .ok (.dup, 1) := by decide +kernel
theorem d_Store_select_19 : decode prog_1_method_22_code 19 = .ok (.invokespecial 121, 3) := by decide +kernel
theorem d_Store_select_22 : decode prog_1_method_22_code 22 = .ok (.athrow, 1) := by decide +kernel
theorem d_Store_select_23 : decode prog_1_method_22_code 23 = .ok (.aload_n 0, 1) := by decide +kernel
theorem d_Store_select_24 : decode prog_1_method_22_code 24 = .ok (.iload_n 1, 1) := by decide +kernel
theorem d_Store_select_25 : decode prog_1_method_22_code 25 = .ok (.invokevirtual 111, 3) := by decide +kernel
theorem d_Store_select_28 : decode prog_1_method_22_code 28 = .ok (.pop, 1) := by decide +kernel
theorem d_Store_select_29 : decode prog_1_method_22_code 29 = .ok (.return_, 1) := by decide +kernel
theorem d_Store_range_0 : decode prog_1_method_23_code 0 = .ok (.iconst 0, 1) := by decide +kernel
theorem d_Store_range_1 : decode prog_1_method_23_code 1 = .ok (.aload_n 0, 1) := by decide +kernel
theorem d_Store_range_2 : decode prog_1_method_23_code 2 = .ok (.invokevirtual 128, 3) := by decide +kernel
theorem d_Store_range_5 : decode prog_1_method_23_code 5 = .ok (.aload_n 0, 1) := by decide +kernel
theorem d_Store_range_6 : decode prog_1_method_23_code 6 = .ok (.getfield 1, 3) := by decide +kernel
theorem d_Store_range_9 : decode prog_1_method_23_code 9 = .ok (.aload_n 0, 1) := by decide +kernel
theorem d_Store_range_10 : decode prog_1_method_23_code 10 = .ok (.getfield 61, 3) := by decide +kernel
theorem d_Store_range_13 : decode prog_1_method_23_code 13 = .ok (.invokevirtual 42, 3) := by decide +kernel
theorem d_Store_range_16 : decode prog_1_method_23_code 16 = .ok (.isub, 1) := by decide +kernel
theorem d_Store_range_17 : decode prog_1_method_23_code 17 = .ok (.invokestatic 131, 3) := by decide +kernel
theorem d_Store_range_20 : decode prog_1_method_23_code 20 = .ok (.ireturn, 1) := by decide +kernel
theorem d_Store_cut_0 : decode prog_1_method_24_code 0 = .ok (.aload_n 0, 1) := by decide +kernel
theorem d_Store_cut_1 : decode prog_1_method_24_code 1 = .ok (.getfield 1, 3) := by decide +kernel
theorem d_Store_cut_4 : decode prog_1_method_24_code 4 = .ok (.aload_n 0, 1) := by decide +kernel
theorem d_Store_cut_5 : decode prog_1_method_24_code 5 = .ok (.getfield 61, 3) := by decide +kernel
theorem d_Store_cut_8 : decode prog_1_method_24_code 8 = .ok (.invokevirtual 42, 3) := by decide +kernel
theorem d_Store_cut_11 : decode prog_1_method_24_code 11 = .ok (.istore_n 1, 1) := by decide +kernel
theorem d_Store_cut_12 : decode prog_1_method_24_code 12 = .ok (.iconst 0, 1) := by decide +kernel
theorem d_Store_cut_13 : decode prog_1_method_24_code 13 = .ok (.aload_n 0, 1) := by decide +kernel
theorem d_Store_cut_14 : decode prog_1_method_24_code 14 = .ok (.invokevirtual 128, 3) := by decide +kernel
theorem d_Store_cut_17 : decode prog_1_method_24_code 17 = .ok (.iload_n 1, 1) := by decide +kernel
theorem d_Store_cut_18 : decode prog_1_method_24_code 18 = .ok (.isub, 1) := by decide +kernel
theorem d_Store_cut_19 : decode prog_1_method_24_code 19 = .ok (.invokestatic 131, 3) := by decide +kernel
theorem d_Store_cut_22 : decode prog_1_method_24_code 22 = .ok (.istore_n 2, 1) := by decide +kernel
theorem d_Store_cut_23 : decode prog_1_method_24_code 23 = .ok (.iconst 0, 1) := by decide +kernel
theorem d_Store_cut_24 : decode prog_1_method_24_code 24 = .ok (.istore_n 3, 1) := by decide +kernel
theorem d_Store_cut_25 : decode prog_1_method_24_code 25 = .ok (.iload_n 3, 1) := by decide +kernel
theorem d_Store_cut_26 : decode prog_1_method_24_code 26 = .ok (.iload_n 2, 1) := by decide +kernel
theorem d_Store_cut_27 : decode prog_1_method_24_code 27 = .ok (.if_icmp .ge 39, 3) := by decide +kernel
theorem d_Store_cut_30 : decode prog_1_method_24_code 30 = .ok (.aload_n 0, 1) := by decide +kernel
theorem d_Store_cut_31 : decode prog_1_method_24_code 31 = .ok (.getfield 1, 3) := by decide +kernel
theorem d_Store_cut_34 : decode prog_1_method_24_code 34 = .ok (.aload_n 0, 1) := by decide +kernel
theorem d_Store_cut_35 : decode prog_1_method_24_code 35 = .ok (.getfield 1, 3) := by decide +kernel
theorem d_Store_cut_38 : decode prog_1_method_24_code 38 = .ok (.iload_n 1, 1) := by decide +kernel
theorem d_Store_cut_39 : decode prog_1_method_24_code 39 = .ok (.invokevirtual 31, 3) := by decide +kernel
theorem d_Store_cut_42 : decode prog_1_method_24_code 42 = .ok (.aload_n 0, 1) := by decide +kernel
theorem d_Store_cut_43 : decode prog_1_method_24_code 43 = .ok (.getfield 54, 3) := by decide +kernel
theorem d_Store_cut_46 : decode prog_1_method_24_code 46 = .ok (.invokevirtual 35, 3) := by decide +kernel
theorem d_Store_cut_49 : decode prog_1_method_24_code 49 = .ok (.aload_n 0, 1) := by decide +kernel
theorem d_Store_cut_50 : decode prog_1_method_24_code 50 = .ok (.getfield 1, 3) := by decide +kernel
theorem d_Store_cut_53 : decode prog_1_method_24_code 53 = .ok (.aload_n 0, 1) := by decide +kernel
theorem d_Store_cut_54 : decode prog_1_method_24_code 54 = .ok (.getfield 54, 3) := by decide +kernel
theorem d_Store_cut_57 : decode prog_1_method_24_code 57 = .ok (.invokevirtual 108, 3) := by decide +kernel
theorem d_Store_cut_60 : decode prog_1_method_24_code 60 = .ok (.iinc 3 1, 3) := by decide +kernel
theorem d_Store_cut_63 : decode prog_1_method_24_code 63 = .ok (.goto (-38), 3) := by decide +kernel
theorem d_Store_cut_66 : decode prog_1_method_24_code 66 = .ok (.iload_n 2, 1) := by decide +kernel
theorem d_Store_cut_67 : decode prog_1_method_24_code 67 = .ok (.ireturn, 1) := by decide +kernel
theorem d_Store_begins_0 : decode prog_1_method_25_code 0 = .ok (.aload_n 0, 1) := by decide +kernel
theorem d_Store_begins_1 : decode prog_1_method_25_code 1 = .ok (.getfield 57, 3) := by decide +kernel
theorem d_Store_begins_4 : decode prog_1_method_25_code 4 = .ok (.iconst 2, 1) := by decide +kernel
theorem d_Store_begins_5 : decode prog_1_method_25_code 5 = .ok (.if_icmp .eq 11, 3) := by decide +kernel
theorem d_Store_begins_8 : decode prog_1_method_25_code 8 = .ok (.new 64, 3) := by decide +kernel
theorem d_Store_begins_11 : decode prog_1_method_25_code 11 = .ok (.dup, 1) := by decide +kernel
theorem d_Store_begins_12 : decode prog_1_method_25_code 12 = .ok (.invokespecial 66, 3) := by decide +kernel
theorem d_Store_begins_15 : decode prog_1_method_25_code 15 = .ok (.athrow, 1) := by decide +kernel
theorem d_Store_begins_16 : decode prog_1_method_25_code 16 = .ok (.aload_n 0, 1) := by decide +kernel
theorem d_Store_begins_17 : decode prog_1_method_25_code 17 = .ok (.getfield 1, 3) := by decide +kernel
theorem d_Store_begins_20 : decode prog_1_method_25_code 20 = .ok (.aload_n 0, 1) := by decide +kernel
theorem d_Store_begins_21 : decode prog_1_method_25_code 21 = .ok (.getfield 39, 3) := by decide +kernel
theorem d_Store_begins_24 : decode prog_1_method_25_code 24 = .ok (.aload_n 0, 1) := by decide +kernel
theorem d_Store_begins_25 : decode prog_1_method_25_code 25 = .ok (.getfield 39, 3) := by decide +kernel
theorem d_Store_begins_28 : decode prog_1_method_25_code 28 = .ok (.getfield 137, 3) := by decide +kernel
theorem d_Store_begins_31 : decode prog_1_method_25_code 31 = .ok (.iconst 2, 1) := by decide +kernel
theorem d_Store_begins_32 : decode prog_1_method_25_code 32 = .ok (.isub, 1) := by decide +kernel
theorem d_Store_begins_33 : decode prog_1_method_25_code 33 = .ok (.invokevirtual 140, 3) := by decide +kernel
theorem d_Store_begins_36 : decode prog_1_method_25_code 36 = .ok (.ireturn, 1) := by decide +kernel
theorem d_Store_load_0 : decode prog_1_method_26_code 0 = .ok (.aload_n 0, 1) := by decide +kernel
theorem d_Store_load_1 : decode prog_1_method_26_code 1 = .ok (.getfield 57, 3) := by decide +kernel
theorem d_Store_load_4 : decode prog_1_method_26_code 4 = .ok (.ifCond .ne 13, 3) := by decide +kernel
theorem d_Store_load_7 : decode prog_1_method_26_code 7 = .ok (.aload_n 0, 1) := by decide +kernel
theorem d_Store_load_8 : decode prog_1_method_26_code 8 = .ok (.getfield 1, 3) := by decide +kernel
theorem d_Store_load_11 : decode prog_1_method_26_code 11 = .ok (.invokevirtual 27, 3) := by decide +kernel
theorem d_Store_load_14 : decode prog_1_method_26_code 14 = .ok (.ifCond .le 11, 3) := by decide +kernel
theorem d_Store_load_17 : decode prog_1_method_26_code 17 = .ok (.new 64, 3) := by decide +kernel
theorem d_Store_load_20 : decode prog_1_method_26_code 20 = .ok (.dup, 1) := by decide +kernel
theorem d_Store_load_21 : decode prog_1_method_26_code 21 = .ok (.invokespecial 66, 3) := by decide +kernel
theorem d_Store_load_24 : decode prog_1_method_26_code 24 = .ok (.athrow, 1) := by decide +kernel
theorem d_Store_load_25 : decode prog_1_method_26_code 25 = .ok (.aload_n 0, 1) := by decide +kernel
theorem d_Store_load_26 : decode prog_1_method_26_code 26 = .ok (.getfield 39, 3) := by decide +kernel
theorem d_Store_load_29 : decode prog_1_method_26_code 29 = .ok (.iconst 0, 1) := by decide +kernel
theorem d_Store_load_30 : decode prog_1_method_26_code 30 = .ok (.invokevirtual 122, 3) := by decide +kernel
theorem d_Store_load_33 : decode prog_1_method_26_code 33 = .ok (.lstore 6, 2) := by decide +kernel
theorem d_Store_load_35 : decode prog_1_method_26_code 35 = .ok (.lload_n 1, 1) := by decide +kernel
theorem d_Store_load_36 : decode prog_1_method_26_code 36 = .ok (.lconst 1, 1) := by decide +kernel
theorem d_Store_load_37 : decode prog_1_method_26_code 37 = .ok (.lcmp, 1) := by decide +kernel
theorem d_Store_load_38 : decode prog_1_method_26_code 38 = .ok (.ifCond .lt 32, 3) := by decide +kernel
theorem d_Store_load_41 : decode prog_1_method_26_code 41 = .ok (.iload_n 3, 1) := by decide +kernel
theorem d_Store_load_42 : decode prog_1_method_26_code 42 = .ok (.ifCond .lt 28, 3) := by decide +kernel
theorem d_Store_load_45 : decode prog_1_method_26_code 45 = .ok (.iload_n 3, 1) := by decide +kernel
theorem d_Store_load_46 : decode prog_1_method_26_code 46 = .ok (.iconst 1, 1) := by decide +kernel
theorem d_Store_load_47 : decode prog_1_method_26_code 47 = .ok (.if_icmp .le 31, 3) := by decide +kernel
theorem d_Store_load_50 : decode prog_1_method_26_code 50 = .ok (.ldc2_w 146, 3) := by decide +kernel
theorem d_Store_load_53 : decode prog_1_method_26_code 53 = .ok (.lload 6, 2) := by decide +kernel
theorem d_Store_load_55 : decode prog_1_method_26_code 55 = .ok (.lsub, 1) := by decide +kernel
theorem d_Store_load_56 : decode prog_1_method_26_code 56 = .ok (.lload_n 1, 1) := by decide +kernel
theorem d_Store_load_57 : decode prog_1_method_26_code 57 = .ok (.invokestatic 148, 3) := by decide +kernel
theorem d_Store_load_60 : decode prog_1_method_26_code 60 = .ok (.iload_n 3, 1) := by decide +kernel
theorem d_Store_load_61 : decode prog_1_method_26_code 61 = .ok (.i2l, 1) := by decide +kernel
theorem d_Store_load_62 : decode prog_1_method_26_code 62 = .ok (.lconst 1, 1) := by decide +kernel
theorem d_Store_load_63 : decode prog_1_method_26_code 63 = .ok (.lsub, 1) := by decide +kernel
theorem d_Store_load_64 : decode prog_1_method_26_code 64 = .ok (.invokestatic 152, 3) := by decide +kernel
theorem d_Store_load_67 : decode prog_1_method_26_code 67 = .ok (.ifCond .ge 11, 3) := by decide +kernel
theorem d_Store_load_70 : decode prog_1_method_26_code 70 = .ok (.new 74, 3) := by decide +kernel
theorem d_Store_load_73 : decode prog_1_method_26_code 73 = .ok (.dup, 1) := by decide +kernel
theorem d_Store_load_74 : decode prog_1_method_26_code 74 = .ok (.invokespecial 76, 3) := by decide +kernel
theorem d_Store_load_77 : decode prog_1_method_26_code 77 = .ok (.athrow, 1) := by decide +kernel
theorem d_Store_load_78 : decode prog_1_method_26_code 78 = .ok (.iload_n 3, 1) := by decide +kernel
theorem d_Store_load_79 : decode prog_1_method_26_code 79 = .ok (.sipush 1500, 3) := by decide +kernel
theorem d_Store_load_82 : decode prog_1_method_26_code 82 = .ok (.if_icmp .le 11, 3) := by decide +kernel
theorem d_Store_load_85 : decode prog_1_method_26_code 85 = .ok (.new 80, 3) := by decide +kernel
theorem d_Store_load_88 : decode prog_1_method_26_code 88 = .ok (.dup, 1) := by decide +kernel
theorem d_Store_load_89 : decode prog_1_method_26_code 89 = .ok (.invokespecial 82, 3) := by decide +kernel
theorem d_Store_load_92 : decode prog_1_method_26_code 92 = .ok (.athrow, 1) := by decide +kernel
theorem d_Store_load_93 : decode prog_1_method_26_code 93 = .ok (.iload_n 3, 1) := by decide +kernel
theorem d_Store_load_94 : decode prog_1_method_26_code 94 = .ok (.ifCond .le 16, 3) := by decide +kernel
theorem d_Store_load_97 : decode prog_1_method_26_code 97 = .ok (.aload_n 0, 1) := by decide +kernel
theorem d_Store_load_98 : decode prog_1_method_26_code 98 = .ok (.getfield 1, 3) := by decide +kernel
theorem d_Store_load_101 : decode prog_1_method_26_code 101 = .ok (.lload 6, 2) := by decide +kernel
theorem d_Store_load_103 : decode prog_1_method_26_code 103 = .ok (.lload_n 1, 1) := by decide +kernel
theorem d_Store_load_104 : decode prog_1_method_26_code 104 = .ok (.iload_n 3, 1) := by decide +kernel
theorem d_Store_load_105 : decode prog_1_method_26_code 105 = .ok (.lload 4, 2) := by decide +kernel
theorem d_Store_load_107 : decode prog_1_method_26_code 107 = .ok (.invokevirtual 156, 3) := by decide +kernel
theorem d_Store_load_110 : decode prog_1_method_26_code 110 = .ok (.return_, 1) := by decide +kernel
theorem d_Store_compact_0 : decode prog_1_method_27_code 0 = .ok (.aload_n 0, 1) := by decide +kernel
theorem d_Store_compact_1 : decode prog_1_method_27_code 1 = .ok (.getfield 1, 3) := by decide +kernel
theorem d_Store_compact_4 : decode prog_1_method_27_code 4 = .ok (.invokevirtual 160, 3) := by decide +kernel
theorem d_Store_compact_7 : decode prog_1_method_27_code 7 = .ok (.ireturn, 1) := by decide +kernel
theorem d_Store_about_0 : decode prog_1_method_28_code 0 = .ok (.iload_n 1, 1) := by decide +kernel
theorem d_Store_about_1 : decode prog_1_method_28_code 1 = .ok (.tableswitch 95 0 7 #[47, 55, 55, 55, 55, 67, 75, 87], 47) := by decide +kernel
theorem d_Store_about_48 : decode prog_1_method_28_code 48 = .ok (.aload_n 0, 1) := by decide +kernel
theorem d_Store_about_49 : decode prog_1_method_28_code 49 = .ok (.getfield 1, 3) := by decide +kernel
theorem d_Store_about_52 : decode prog_1_method_28_code 52 = .ok (.invokevirtual 27, 3) := by decide +kernel
theorem d_Store_about_55 : decode prog_1_method_28_code 55 = .ok (.ireturn, 1) := by decide +kernel
theorem d_Store_about_56 : decode prog_1_method_28_code 56 = .ok (.aload_n 0, 1) := by decide +kernel
theorem d_Store_about_57 : decode prog_1_method_28_code 57 = .ok (.getfield 1, 3) := by decide +kernel
theorem d_Store_about_60 : decode prog_1_method_28_code 60 = .ok (.getfield 163, 3) := by decide +kernel
theorem d_Store_about_63 : decode prog_1_method_28_code 63 = .ok (.iload_n 1, 1) := by decide +kernel
theorem d_Store_about_64 : decode prog_1_method_28_code 64 = .ok (.iconst 1, 1) := by decide +kernel
theorem d_Store_about_65 : decode prog_1_method_28_code 65 = .ok (.isub, 1) := by decide +kernel
theorem d_Store_about_66 : decode prog_1_method_28_code 66 = .ok (.iaload, 1) := by decide +kernel
theorem d_Store_about_67 : decode prog_1_method_28_code 67 = .ok (.ireturn, 1) := by decide +kernel
theorem d_Store_about_68 : decode prog_1_method_28_code 68 = .ok (.aload_n 0, 1) := by decide +kernel
theorem d_Store_about_69 : decode prog_1_method_28_code 69 = .ok (.getfield 1, 3) := by decide +kernel
theorem d_Store_about_72 : decode prog_1_method_28_code 72 = .ok (.invokevirtual 167, 3) := by decide +kernel
theorem d_Store_about_75 : decode prog_1_method_28_code 75 = .ok (.ireturn, 1) := by decide +kernel
theorem d_Store_about_76 : decode prog_1_method_28_code 76 = .ok (.aload_n 0, 1) := by decide +kernel
theorem d_Store_about_77 : decode prog_1_method_28_code 77 = .ok (.getfield 1, 3) := by decide +kernel
theorem d_Store_about_80 : decode prog_1_method_28_code 80 = .ok (.aload_n 0, 1) := by decide +kernel
theorem d_Store_about_81 : decode prog_1_method_28_code 81 = .ok (.getfield 39, 3) := by decide +kernel
theorem d_Store_about_84 : decode prog_1_method_28_code 84 = .ok (.invokevirtual 170, 3) := by decide +kernel
theorem d_Store_about_87 : decode prog_1_method_28_code 87 = .ok (.ireturn, 1) := by decide +kernel
theorem d_Store_about_88 : decode prog_1_method_28_code 88 = .ok (.aload_n 0, 1) := by decide +kernel
theorem d_Store_about_89 : decode prog_1_method_28_code 89 = .ok (.getfield 1, 3) := by decide +kernel
theorem d_Store_about_92 : decode prog_1_method_28_code 92 = .ok (.invokevirtual 173, 3) := by decide +kernel
theorem d_Store_about_95 : decode prog_1_method_28_code 95 = .ok (.ireturn, 1) := by decide +kernel
theorem d_Store_about_96 : decode prog_1_method_28_code 96 = .ok (.new 74, 3) := by decide +kernel
theorem d_Store_about_99 : decode prog_1_method_28_code 99 = .ok (.dup, 1) := by decide +kernel
theorem d_Store_about_100 : decode prog_1_method_28_code 100 = .ok (.invokespecial 76, 3) := by decide +kernel
theorem d_Store_about_103 : decode prog_1_method_28_code 103 = .ok (.athrow, 1) := by decide +kernel
theorem d_Store_clear_0 : decode prog_1_method_29_code 0 = .ok (.aload_n 0, 1) := by decide +kernel
theorem d_Store_clear_1 : decode prog_1_method_29_code 1 = .ok (.getfield 1, 3) := by decide +kernel
theorem d_Store_clear_4 : decode prog_1_method_29_code 4 = .ok (.invokevirtual 27, 3) := by decide +kernel
theorem d_Store_clear_7 : decode prog_1_method_29_code 7 = .ok (.istore_n 1, 1) := by decide +kernel
theorem d_Store_clear_8 : decode prog_1_method_29_code 8 = .ok (.aload_n 0, 1) := by decide +kernel
theorem d_Store_clear_9 : decode prog_1_method_29_code 9 = .ok (.getfield 1, 3) := by decide +kernel
theorem d_Store_clear_12 : decode prog_1_method_29_code 12 = .ok (.invokevirtual 175, 3) := by decide +kernel
theorem d_Store_clear_15 : decode prog_1_method_29_code 15 = .ok (.iload_n 1, 1) := by decide +kernel
theorem d_Store_clear_16 : decode prog_1_method_29_code 16 = .ok (.ireturn, 1) := by decide +kernel
