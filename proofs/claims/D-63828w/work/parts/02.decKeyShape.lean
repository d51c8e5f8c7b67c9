theorem d_Key_init_0 : decode prog_4_method_1_code 0 = .ok (.aload_n 0, 1) := by decide +kernel
theorem d_Key_init_1 : decode prog_4_method_1_code 1 = .ok (.invokespecial 1, 3) := by decide +kernel
theorem d_Key_init_4 : decode prog_4_method_1_code 4 = .ok (.aload_n 0, 1) := by decide +kernel
theorem d_Key_init_5 : decode prog_4_method_1_code 5 = .ok (.bipush 50, 2) := by decide +kernel
theorem d_Key_init_7 : decode prog_4_method_1_code 7 = .ok (.newarray .byte, 2) := by decide +kernel
theorem d_Key_init_9 : decode prog_4_method_1_code 9 = .ok (.putfield 7, 3) := by decide +kernel
theorem d_Key_init_12 : decode prog_4_method_1_code 12 = .ok (.aload_n 0, 1) := by decide +kernel
theorem d_Key_init_13 : decode prog_4_method_1_code 13 = .ok (.iload_n 1, 1) := by decide +kernel
theorem d_Key_init_14 : decode prog_4_method_1_code 14 = .ok (.invokevirtual 13, 3) := by decide +kernel
theorem d_Key_init_17 : decode prog_4_method_1_code 17 = .ok (.return_, 1) := by decide +kernel
theorem d_Key_begin_0 : decode prog_4_method_2_code 0 = .ok (.aload_n 0, 1) := by decide +kernel
theorem d_Key_begin_1 : decode prog_4_method_2_code 1 = .ok (.iconst 0, 1) := by decide +kernel
theorem d_Key_begin_2 : decode prog_4_method_2_code 2 = .ok (.putfield 17, 3) := by decide +kernel
theorem d_Key_begin_5 : decode prog_4_method_2_code 5 = .ok (.aload_n 0, 1) := by decide +kernel
theorem d_Key_begin_6 : decode prog_4_method_2_code 6 = .ok (.iconst 0, 1) := by decide +kernel
theorem d_Key_begin_7 : decode prog_4_method_2_code 7 = .ok (.putfield 21, 3) := by decide +kernel
theorem d_Key_begin_10 : decode prog_4_method_2_code 10 = .ok (.return_, 1) := by decide +kernel
theorem d_Key_first_0 : decode prog_4_method_3_code 0 = .ok (.aload_n 0, 1) := by decide +kernel
theorem d_Key_first_1 : decode prog_4_method_3_code 1 = .ok (.invokevirtual 24, 3) := by decide +kernel
theorem d_Key_first_4 : decode prog_4_method_3_code 4 = .ok (.iload_n 1, 1) := by decide +kernel
theorem d_Key_first_5 : decode prog_4_method_3_code 5 = .ok (.iconst 2, 1) := by decide +kernel
theorem d_Key_first_6 : decode prog_4_method_3_code 6 = .ok (.if_icmp .ne 8, 3) := by decide +kernel
theorem d_Key_first_9 : decode prog_4_method_3_code 9 = .ok (.aload_n 0, 1) := by decide +kernel
theorem d_Key_first_10 : decode prog_4_method_3_code 10 = .ok (.invokevirtual 27, 3) := by decide +kernel
theorem d_Key_first_13 : decode prog_4_method_3_code 13 = .ok (.return_, 1) := by decide +kernel
theorem d_Key_first_14 : decode prog_4_method_3_code 14 = .ok (.iconst 0, 1) := by decide +kernel
theorem d_Key_first_15 : decode prog_4_method_3_code 15 = .ok (.istore_n 2, 1) := by decide +kernel
theorem d_Key_first_16 : decode prog_4_method_3_code 16 = .ok (.iload_n 2, 1) := by decide +kernel
theorem d_Key_first_17 : decode prog_4_method_3_code 17 = .ok (.iload_n 1, 1) := by decide +kernel
theorem d_Key_first_18 : decode prog_4_method_3_code 18 = .ok (.if_icmp .gt 14, 3) := by decide +kernel
theorem d_Key_first_21 : decode prog_4_method_3_code 21 = .ok (.aload_n 0, 1) := by decide +kernel
theorem d_Key_first_22 : decode prog_4_method_3_code 22 = .ok (.lconst 0, 1) := by decide +kernel
theorem d_Key_first_23 : decode prog_4_method_3_code 23 = .ok (.invokevirtual 30, 3) := by decide +kernel
theorem d_Key_first_26 : decode prog_4_method_3_code 26 = .ok (.iinc 2 1, 3) := by decide +kernel
theorem d_Key_first_29 : decode prog_4_method_3_code 29 = .ok (.goto (-13), 3) := by decide +kernel
theorem d_Key_first_32 : decode prog_4_method_3_code 32 = .ok (.return_, 1) := by decide +kernel
theorem d_Key_put_0 : decode prog_4_method_4_code 0 = .ok (.aload_n 0, 1) := by decide +kernel
theorem d_Key_put_1 : decode prog_4_method_4_code 1 = .ok (.getfield 7, 3) := by decide +kernel
theorem d_Key_put_4 : decode prog_4_method_4_code 4 = .ok (.aload_n 0, 1) := by decide +kernel
theorem d_Key_put_5 : decode prog_4_method_4_code 5 = .ok (.getfield 17, 3) := by decide +kernel
theorem d_Key_put_8 : decode prog_4_method_4_code 8 = .ok (.iload_n 1, 1) := by decide +kernel
theorem d_Key_put_9 : decode prog_4_method_4_code 9 = .ok (.i2b, 1) := by decide +kernel
theorem d_Key_put_10 : decode prog_4_method_4_code 10 = .ok (.bastore, 1) := by decide +kernel
theorem d_Key_put_11 : decode prog_4_method_4_code 11 = .ok (.aload_n 0, 1) := by decide +kernel
theorem d_Key_put_12 : decode prog_4_method_4_code 12 = .ok (.dup, 1) := by decide +kernel
theorem d_Key_put_13 : decode prog_4_method_4_code 13 = .ok (.getfield 17, 3) := by decide +kernel
theorem d_Key_put_16 : decode prog_4_method_4_code 16 = .ok (.iconst 1, 1) := by decide +kernel
theorem d_Key_put_17 : decode prog_4_method_4_code 17 = .ok (.iadd, 1) := by decide +kernel
theorem d_Key_put_18 : decode prog_4_method_4_code 18 = .ok (.putfield 17, 3) := by decide +kernel
theorem d_Key_put_21 : decode prog_4_method_4_code 21 = .ok (.return_, 1) := by decide +kernel
theorem d_Key_number_0 : decode prog_4_method_5_code 0 = .ok (.lload_n 1, 1) := by decide +kernel
theorem d_Key_number_1 : decode prog_4_method_5_code 1 = .ok (.ldc2_w 36, 3) := by decide +kernel
theorem d_Key_number_4 : decode prog_4_method_5_code 4 = .ok (.lxor, 1) := by decide +kernel
theorem d_Key_number_5 : decode prog_4_method_5_code 5 = .ok (.lstore_n 3, 1) := by decide +kernel
theorem d_Key_number_6 : decode prog_4_method_5_code 6 = .ok (.bipush 56, 2) := by decide +kernel
theorem d_Key_number_8 : decode prog_4_method_5_code 8 = .ok (.istore 5, 2) := by decide +kernel
theorem d_Key_number_10 : decode prog_4_method_5_code 10 = .ok (.iload 5, 2) := by decide +kernel
theorem d_Key_number_12 : decode prog_4_method_5_code 12 = .ok (.ifCond .lt 18, 3) := by decide +kernel
theorem d_Key_number_15 : decode prog_4_method_5_code 15 = .ok (.aload_n 0, 1) := by decide +kernel
theorem d_Key_number_16 : decode prog_4_method_5_code 16 = .ok (.lload_n 3, 1) := by decide +kernel
theorem d_Key_number_17 : decode prog_4_method_5_code 17 = .ok (.iload 5, 2) := by decide +kernel
theorem d_Key_number_19 : decode prog_4_method_5_code 19 = .ok (.lushr, 1) := by decide +kernel
theorem d_Key_number_20 : decode prog_4_method_5_code 20 = .ok (.l2i, 1) := by decide +kernel
theorem d_Key_number_21 : decode prog_4_method_5_code 21 = .ok (.invokevirtual 38, 3) := by decide +kernel
theorem d_Key_number_24 : decode prog_4_method_5_code 24 = .ok (.iinc 5 (-8), 3) := by decide +kernel
theorem d_Key_number_27 : decode prog_4_method_5_code 27 = .ok (.goto (-17), 3) := by decide +kernel
theorem d_Key_number_30 : decode prog_4_method_5_code 30 = .ok (.return_, 1) := by decide +kernel
theorem d_Key_end_0 : decode prog_4_method_6_code 0 = .ok (.aload_n 0, 1) := by decide +kernel
theorem d_Key_end_1 : decode prog_4_method_6_code 1 = .ok (.iconst 0, 1) := by decide +kernel
theorem d_Key_end_2 : decode prog_4_method_6_code 2 = .ok (.invokevirtual 38, 3) := by decide +kernel
theorem d_Key_end_5 : decode prog_4_method_6_code 5 = .ok (.aload_n 0, 1) := by decide +kernel
theorem d_Key_end_6 : decode prog_4_method_6_code 6 = .ok (.iconst 0, 1) := by decide +kernel
theorem d_Key_end_7 : decode prog_4_method_6_code 7 = .ok (.invokevirtual 38, 3) := by decide +kernel
theorem d_Key_end_10 : decode prog_4_method_6_code 10 = .ok (.return_, 1) := by decide +kernel
theorem d_Key_letter_0 : decode prog_4_method_7_code 0 = .ok (.aload_n 0, 1) := by decide +kernel
theorem d_Key_letter_1 : decode prog_4_method_7_code 1 = .ok (.dup, 1) := by decide +kernel
theorem d_Key_letter_2 : decode prog_4_method_7_code 2 = .ok (.getfield 17, 3) := by decide +kernel
theorem d_Key_letter_5 : decode prog_4_method_7_code 5 = .ok (.iconst 2, 1) := by decide +kernel
theorem d_Key_letter_6 : decode prog_4_method_7_code 6 = .ok (.isub, 1) := by decide +kernel
theorem d_Key_letter_7 : decode prog_4_method_7_code 7 = .ok (.putfield 17, 3) := by decide +kernel
theorem d_Key_letter_10 : decode prog_4_method_7_code 10 = .ok (.aload_n 0, 1) := by decide +kernel
theorem d_Key_letter_11 : decode prog_4_method_7_code 11 = .ok (.iload_n 1, 1) := by decide +kernel
theorem d_Key_letter_12 : decode prog_4_method_7_code 12 = .ok (.invokevirtual 38, 3) := by decide +kernel
theorem d_Key_letter_15 : decode prog_4_method_7_code 15 = .ok (.iload_n 1, 1) := by decide +kernel
theorem d_Key_letter_16 : decode prog_4_method_7_code 16 = .ok (.ifCond .ne 10, 3) := by decide +kernel
theorem d_Key_letter_19 : decode prog_4_method_7_code 19 = .ok (.aload_n 0, 1) := by decide +kernel
theorem d_Key_letter_20 : decode prog_4_method_7_code 20 = .ok (.sipush 255, 3) := by decide +kernel
theorem d_Key_letter_23 : decode prog_4_method_7_code 23 = .ok (.invokevirtual 38, 3) := by decide +kernel
theorem d_Key_letter_26 : decode prog_4_method_7_code 26 = .ok (.aload_n 0, 1) := by decide +kernel
theorem d_Key_letter_27 : decode prog_4_method_7_code 27 = .ok (.invokevirtual 27, 3) := by decide +kernel
theorem d_Key_letter_30 : decode prog_4_method_7_code 30 = .ok (.aload_n 0, 1) := by decide +kernel
theorem d_Key_letter_31 : decode prog_4_method_7_code 31 = .ok (.dup, 1) := by decide +kernel
theorem d_Key_letter_32 : decode prog_4_method_7_code 32 = .ok (.getfield 21, 3) := by decide +kernel
theorem d_Key_letter_35 : decode prog_4_method_7_code 35 = .ok (.iconst 1, 1) := by decide +kernel
theorem d_Key_letter_36 : decode prog_4_method_7_code 36 = .ok (.iadd, 1) := by decide +kernel
theorem d_Key_letter_37 : decode prog_4_method_7_code 37 = .ok (.putfield 21, 3) := by decide +kernel
theorem d_Key_letter_40 : decode prog_4_method_7_code 40 = .ok (.return_, 1) := by decide +kernel
theorem d_Key_become_0 : decode prog_4_method_8_code 0 = .ok (.aload_n 0, 1) := by decide +kernel
theorem d_Key_become_1 : decode prog_4_method_8_code 1 = .ok (.aload_n 1, 1) := by decide +kernel
theorem d_Key_become_2 : decode prog_4_method_8_code 2 = .ok (.getfield 17, 3) := by decide +kernel
theorem d_Key_become_5 : decode prog_4_method_8_code 5 = .ok (.putfield 17, 3) := by decide +kernel
theorem d_Key_become_8 : decode prog_4_method_8_code 8 = .ok (.aload_n 0, 1) := by decide +kernel
theorem d_Key_become_9 : decode prog_4_method_8_code 9 = .ok (.aload_n 1, 1) := by decide +kernel
theorem d_Key_become_10 : decode prog_4_method_8_code 10 = .ok (.getfield 21, 3) := by decide +kernel
theorem d_Key_become_13 : decode prog_4_method_8_code 13 = .ok (.putfield 21, 3) := by decide +kernel
theorem d_Key_become_16 : decode prog_4_method_8_code 16 = .ok (.iconst 0, 1) := by decide +kernel
theorem d_Key_become_17 : decode prog_4_method_8_code 17 = .ok (.istore_n 2, 1) := by decide +kernel
theorem d_Key_become_18 : decode prog_4_method_8_code 18 = .ok (.iload_n 2, 1) := by decide +kernel
theorem d_Key_become_19 : decode prog_4_method_8_code 19 = .ok (.aload_n 0, 1) := by decide +kernel
theorem d_Key_become_20 : decode prog_4_method_8_code 20 = .ok (.getfield 17, 3) := by decide +kernel
theorem d_Key_become_23 : decode prog_4_method_8_code 23 = .ok (.if_icmp .ge 21, 3) := by decide +kernel
theorem d_Key_become_26 : decode prog_4_method_8_code 26 = .ok (.aload_n 0, 1) := by decide +kernel
theorem d_Key_become_27 : decode prog_4_method_8_code 27 = .ok (.getfield 7, 3) := by decide +kernel
theorem d_Key_become_30 : decode prog_4_method_8_code 30 = .ok (.iload_n 2, 1) := by decide +kernel
theorem d_Key_become_31 : decode prog_4_method_8_code 31 = .ok (.aload_n 1, 1) := by decide +kernel
theorem d_Key_become_32 : decode prog_4_method_8_code 32 = .ok (.getfield 7, 3) := by decide +kernel
theorem d_Key_become_35 : decode prog_4_method_8_code 35 = .ok (.iload_n 2, 1) := by decide +kernel
theorem d_Key_become_36 : decode prog_4_method_8_code 36 = .ok (.baload, 1) := by decide +kernel
theorem d_Key_become_37 : decode prog_4_method_8_code 37 = .ok (.bastore, 1) := by decide +kernel
theorem d_Key_become_38 : decode prog_4_method_8_code 38 = .ok (.iinc 2 1, 3) := by decide +kernel
theorem d_Key_become_41 : decode prog_4_method_8_code 41 = .ok (.goto (-23), 3) := by decide +kernel
theorem d_Key_become_44 : decode prog_4_method_8_code 44 = .ok (.return_, 1) := by decide +kernel
theorem d_Key_at_0 : decode prog_4_method_9_code 0 = .ok (.aload_n 0, 1) := by decide +kernel
theorem d_Key_at_1 : decode prog_4_method_9_code 1 = .ok (.getfield 7, 3) := by decide +kernel
theorem d_Key_at_4 : decode prog_4_method_9_code 4 = .ok (.iload_n 1, 1) := by decide +kernel
theorem d_Key_at_5 : decode prog_4_method_9_code 5 = .ok (.baload, 1) := by decide +kernel
theorem d_Key_at_6 : decode prog_4_method_9_code 6 = .ok (.sipush 255, 3) := by decide +kernel
theorem d_Key_at_9 : decode prog_4_method_9_code 9 = .ok (.iand, 1) := by decide +kernel
theorem d_Key_at_10 : decode prog_4_method_9_code 10 = .ok (.ireturn, 1) := by decide +kernel
theorem d_Key_part_0 : decode prog_4_method_10_code 0 = .ok (.lconst 0, 1) := by decide +kernel
theorem d_Key_part_1 : decode prog_4_method_10_code 1 = .ok (.lstore_n 2, 1) := by decide +kernel
theorem d_Key_part_2 : decode prog_4_method_10_code 2 = .ok (.iconst 0, 1) := by decide +kernel
theorem d_Key_part_3 : decode prog_4_method_10_code 3 = .ok (.istore 4, 2) := by decide +kernel
theorem d_Key_part_5 : decode prog_4_method_10_code 5 = .ok (.iload 4, 2) := by decide +kernel
theorem d_Key_part_7 : decode prog_4_method_10_code 7 = .ok (.bipush 8, 2) := by decide +kernel
theorem d_Key_part_9 : decode prog_4_method_10_code 9 = .ok (.if_icmp .ge 27, 3) := by decide +kernel
theorem d_Key_part_12 : decode prog_4_method_10_code 12 = .ok (.lload_n 2, 1) := by decide +kernel
theorem d_Key_part_13 : decode prog_4_method_10_code 13 = .ok (.bipush 8, 2) := by decide +kernel
theorem d_Key_part_15 : decode prog_4_method_10_code 15 = .ok (.lshl, 1) := by decide +kernel
theorem d_Key_part_16 : decode prog_4_method_10_code 16 = .ok (.aload_n 0, 1) := by decide +kernel
theorem d_Key_part_17 : decode prog_4_method_10_code 17 = .ok (.bipush 8, 2) := by decide +kernel
theorem d_Key_part_19 : decode prog_4_method_10_code 19 = .ok (.iload_n 1, 1) := by decide +kernel
theorem d_Key_part_20 : decode prog_4_method_10_code 20 = .ok (.imul, 1) := by decide +kernel
theorem d_Key_part_21 : decode prog_4_method_10_code 21 = .ok (.iload 4, 2) := by decide +kernel
theorem d_Key_part_23 : decode prog_4_method_10_code 23 = .ok (.iadd, 1) := by decide +kernel
theorem d_Key_part_24 : decode prog_4_method_10_code 24 = .ok (.invokevirtual 41, 3) := by decide +kernel
theorem d_Key_part_27 : decode prog_4_method_10_code 27 = .ok (.i2l, 1) := by decide +kernel
theorem d_Key_part_28 : decode prog_4_method_10_code 28 = .ok (.lor, 1) := by decide +kernel
theorem d_Key_part_29 : decode prog_4_method_10_code 29 = .ok (.lstore_n 2, 1) := by decide +kernel
theorem d_Key_part_30 : decode prog_4_method_10_code 30 = .ok (.iinc 4 1, 3) := by decide +kernel
theorem d_Key_part_33 : decode prog_4_method_10_code 33 = .ok (.goto (-28), 3) := by decide +kernel
theorem d_Key_part_36 : decode prog_4_method_10_code 36 = .ok (.lload_n 2, 1) := by decide +kernel
theorem d_Key_part_37 : decode prog_4_method_10_code 37 = .ok (.ldc2_w 36, 3) := by decide +kernel
theorem d_Key_part_40 : decode prog_4_method_10_code 40 = .ok (.lxor, 1) := by decide +kernel
theorem d_Key_part_41 : decode prog_4_method_10_code 41 = .ok (.lreturn, 1) := by decide +kernel
theorem d_Key_byteOf_0 : decode prog_4_method_11_code 0 = .ok (.iconst 0, 1) := by decide +kernel
theorem d_Key_byteOf_1 : decode prog_4_method_11_code 1 = .ok (.istore_n 2, 1) := by decide +kernel
theorem d_Key_byteOf_2 : decode prog_4_method_11_code 2 = .ok (.iconst 0, 1) := by decide +kernel
theorem d_Key_byteOf_3 : decode prog_4_method_11_code 3 = .ok (.istore_n 3, 1) := by decide +kernel
theorem d_Key_byteOf_4 : decode prog_4_method_11_code 4 = .ok (.iload_n 3, 1) := by decide +kernel
theorem d_Key_byteOf_5 : decode prog_4_method_11_code 5 = .ok (.iload_n 1, 1) := by decide +kernel
theorem d_Key_byteOf_6 : decode prog_4_method_11_code 6 = .ok (.if_icmp .ge 25, 3) := by decide +kernel
theorem d_Key_byteOf_9 : decode prog_4_method_11_code 9 = .ok (.iload_n 2, 1) := by decide +kernel
theorem d_Key_byteOf_10 : decode prog_4_method_11_code 10 = .ok (.aload_n 0, 1) := by decide +kernel
theorem d_Key_byteOf_11 : decode prog_4_method_11_code 11 = .ok (.iload_n 2, 1) := by decide +kernel
theorem d_Key_byteOf_12 : decode prog_4_method_11_code 12 = .ok (.invokevirtual 41, 3) := by decide +kernel
theorem d_Key_byteOf_15 : decode prog_4_method_11_code 15 = .ok (.ifCond .ne 7, 3) := by decide +kernel
theorem d_Key_byteOf_18 : decode prog_4_method_11_code 18 = .ok (.iconst 2, 1) := by decide +kernel
theorem d_Key_byteOf_19 : decode prog_4_method_11_code 19 = .ok (.goto 4, 3) := by decide +kernel
theorem d_Key_byteOf_22 : decode prog_4_method_11_code 22 = .ok (.iconst 1, 1) := by decide +kernel
theorem d_Key_byteOf_23 : decode prog_4_method_11_code 23 = .ok (.iadd, 1) := by decide +kernel
theorem d_Key_byteOf_24 : decode prog_4_method_11_code 24 = .ok (.istore_n 2, 1) := by decide +kernel
theorem d_Key_byteOf_25 : decode prog_4_method_11_code 25 = .ok (.iinc 3 1, 3) := by decide +kernel
theorem d_Key_byteOf_28 : decode prog_4_method_11_code 28 = .ok (.goto (-24), 3) := by decide +kernel
theorem d_Key_byteOf_31 : decode prog_4_method_11_code 31 = .ok (.aload_n 0, 1) := by decide +kernel
theorem d_Key_byteOf_32 : decode prog_4_method_11_code 32 = .ok (.iload_n 2, 1) := by decide +kernel
theorem d_Key_byteOf_33 : decode prog_4_method_11_code 33 = .ok (.invokevirtual 41, 3) := by decide +kernel
theorem d_Key_byteOf_36 : decode prog_4_method_11_code 36 = .ok (.ireturn, 1) := by decide +kernel
theorem d_Key_counted_0 : decode prog_4_method_12_code 0 = .ok (.aload_n 0, 1) := by decide +kernel
theorem d_Key_counted_1 : decode prog_4_method_12_code 1 = .ok (.iconst 0, 1) := by decide +kernel
theorem d_Key_counted_2 : decode prog_4_method_12_code 2 = .ok (.putfield 21, 3) := by decide +kernel
theorem d_Key_counted_5 : decode prog_4_method_12_code 5 = .ok (.iconst 0, 1) := by decide +kernel
theorem d_Key_counted_6 : decode prog_4_method_12_code 6 = .ok (.istore_n 2, 1) := by decide +kernel
theorem d_Key_counted_7 : decode prog_4_method_12_code 7 = .ok (.iload_n 1, 1) := by decide +kernel
theorem d_Key_counted_8 : decode prog_4_method_12_code 8 = .ok (.ifCond .eq 42, 3) := by decide +kernel
theorem d_Key_counted_11 : decode prog_4_method_12_code 11 = .ok (.iload_n 2, 1) := by decide +kernel
theorem d_Key_counted_12 : decode prog_4_method_12_code 12 = .ok (.aload_n 0, 1) := by decide +kernel
theorem d_Key_counted_13 : decode prog_4_method_12_code 13 = .ok (.getfield 17, 3) := by decide +kernel
theorem d_Key_counted_16 : decode prog_4_method_12_code 16 = .ok (.iconst 2, 1) := by decide +kernel
theorem d_Key_counted_17 : decode prog_4_method_12_code 17 = .ok (.isub, 1) := by decide +kernel
theorem d_Key_counted_18 : decode prog_4_method_12_code 18 = .ok (.if_icmp .ge 32, 3) := by decide +kernel
theorem d_Key_counted_21 : decode prog_4_method_12_code 21 = .ok (.aload_n 0, 1) := by decide +kernel
theorem d_Key_counted_22 : decode prog_4_method_12_code 22 = .ok (.dup, 1) := by decide +kernel
theorem d_Key_counted_23 : decode prog_4_method_12_code 23 = .ok (.getfield 21, 3) := by decide +kernel
theorem d_Key_counted_26 : decode prog_4_method_12_code 26 = .ok (.iconst 1, 1) := by decide +kernel
theorem d_Key_counted_27 : decode prog_4_method_12_code 27 = .ok (.iadd, 1) := by decide +kernel
theorem d_Key_counted_28 : decode prog_4_method_12_code 28 = .ok (.putfield 21, 3) := by decide +kernel
theorem d_Key_counted_31 : decode prog_4_method_12_code 31 = .ok (.iload_n 2, 1) := by decide +kernel
theorem d_Key_counted_32 : decode prog_4_method_12_code 32 = .ok (.aload_n 0, 1) := by decide +kernel
theorem d_Key_counted_33 : decode prog_4_method_12_code 33 = .ok (.iload_n 2, 1) := by decide +kernel
theorem d_Key_counted_34 : decode prog_4_method_12_code 34 = .ok (.invokevirtual 41, 3) := by decide +kernel
theorem d_Key_counted_37 : decode prog_4_method_12_code 37 = .ok (.ifCond .ne 7, 3) := by decide +kernel
theorem d_Key_counted_40 : decode prog_4_method_12_code 40 = .ok (.iconst 2, 1) := by decide +kernel
theorem d_Key_counted_41 : decode prog_4_method_12_code 41 = .ok (.goto 4, 3) := by decide +kernel
theorem d_Key_counted_44 : decode prog_4_method_12_code 44 = .ok (.iconst 1, 1) := by decide +kernel
theorem d_Key_counted_45 : decode prog_4_method_12_code 45 = .ok (.iadd, 1) := by decide +kernel
theorem d_Key_counted_46 : decode prog_4_method_12_code 46 = .ok (.istore_n 2, 1) := by decide +kernel
theorem d_Key_counted_47 : decode prog_4_method_12_code 47 = .ok (.goto (-40), 3) := by decide +kernel
theorem d_Key_counted_50 : decode prog_4_method_12_code 50 = .ok (.return_, 1) := by decide +kernel
theorem d_Shape_init_0 : decode prog_5_method_1_code 0 = .ok (.aload_n 0, 1) := by decide +kernel
theorem d_Shape_init_1 : decode prog_5_method_1_code 1 = .ok (.invokespecial 1, 3) := by decide +kernel
theorem d_Shape_init_4 : decode prog_5_method_1_code 4 = .ok (.aload_n 0, 1) := by decide +kernel
theorem d_Shape_init_5 : decode prog_5_method_1_code 5 = .ok (.iload_n 1, 1) := by decide +kernel
theorem d_Shape_init_6 : decode prog_5_method_1_code 6 = .ok (.putfield 7, 3) := by decide +kernel
theorem d_Shape_init_9 : decode prog_5_method_1_code 9 = .ok (.aload_n 0, 1) := by decide +kernel
theorem d_Shape_init_10 : decode prog_5_method_1_code 10 = .ok (.iload_n 2, 1) := by decide +kernel
theorem d_Shape_init_11 : decode prog_5_method_1_code 11 = .ok (.putfield 13, 3) := by decide +kernel
theorem d_Shape_init_14 : decode prog_5_method_1_code 14 = .ok (.aload_n 0, 1) := by decide +kernel
theorem d_Shape_init_15 : decode prog_5_method_1_code 15 = .ok (.iload_n 3, 1) := by decide +kernel
theorem d_Shape_init_16 : decode prog_5_method_1_code 16 = .ok (.putfield 16, 3) := by decide +kernel
theorem d_Shape_init_19 : decode prog_5_method_1_code 19 = .ok (.return_, 1) := by decide +kernel
theorem d_All_init_0 : decode prog_2_method_1_code 0 = .ok (.aload_n 0, 1) := by decide +kernel
theorem d_All_init_1 : decode prog_2_method_1_code 1 = .ok (.iconst 3, 1) := by decide +kernel
theorem d_All_init_2 : decode prog_2_method_1_code 2 = .ok (.sipush 260, 3) := by decide +kernel
theorem d_All_init_5 : decode prog_2_method_1_code 5 = .ok (.sipush 256, 3) := by decide +kernel
theorem d_All_init_8 : decode prog_2_method_1_code 8 = .ok (.invokespecial 5, 3) := by decide +kernel
theorem d_All_init_11 : decode prog_2_method_1_code 11 = .ok (.return_, 1) := by decide +kernel
theorem d_All_place_0 : decode prog_2_method_2_code 0 = .ok (.aload_n 1, 1) := by decide +kernel
theorem d_All_place_1 : decode prog_2_method_2_code 1 = .ok (.iload_n 2, 1) := by decide +kernel
theorem d_All_place_2 : decode prog_2_method_2_code 2 = .ok (.iconst 4, 1) := by decide +kernel
theorem d_All_place_3 : decode prog_2_method_2_code 3 = .ok (.iadd, 1) := by decide +kernel
theorem d_All_place_4 : decode prog_2_method_2_code 4 = .ok (.iload_n 3, 1) := by decide +kernel
theorem d_All_place_5 : decode prog_2_method_2_code 5 = .ok (.iadd, 1) := by decide +kernel
theorem d_All_place_6 : decode prog_2_method_2_code 6 = .ok (.iaload, 1) := by decide +kernel
theorem d_All_place_7 : decode prog_2_method_2_code 7 = .ok (.ifCond .ne 7, 3) := by decide +kernel
theorem d_All_place_10 : decode prog_2_method_2_code 10 = .ok (.iconst 0, 1) := by decide +kernel
theorem d_All_place_11 : decode prog_2_method_2_code 11 = .ok (.goto 8, 3) := by decide +kernel
theorem d_All_place_14 : decode prog_2_method_2_code 14 = .ok (.iload_n 2, 1) := by decide +kernel
theorem d_All_place_15 : decode prog_2_method_2_code 15 = .ok (.iconst 4, 1) := by decide +kernel
theorem d_All_place_16 : decode prog_2_method_2_code 16 = .ok (.iadd, 1) := by decide +kernel
theorem d_All_place_17 : decode prog_2_method_2_code 17 = .ok (.iload_n 3, 1) := by decide +kernel
theorem d_All_place_18 : decode prog_2_method_2_code 18 = .ok (.iadd, 1) := by decide +kernel
theorem d_All_place_19 : decode prog_2_method_2_code 19 = .ok (.ireturn, 1) := by decide +kernel
theorem d_All_add_0 : decode prog_2_method_3_code 0 = .ok (.aload_n 1, 1) := by decide +kernel
theorem d_All_add_1 : decode prog_2_method_3_code 1 = .ok (.iload_n 2, 1) := by decide +kernel
theorem d_All_add_2 : decode prog_2_method_3_code 2 = .ok (.iconst 4, 1) := by decide +kernel
theorem d_All_add_3 : decode prog_2_method_3_code 3 = .ok (.iadd, 1) := by decide +kernel
theorem d_All_add_4 : decode prog_2_method_3_code 4 = .ok (.iload_n 3, 1) := by decide +kernel
theorem d_All_add_5 : decode prog_2_method_3_code 5 = .ok (.iadd, 1) := by decide +kernel
theorem d_All_add_6 : decode prog_2_method_3_code 6 = .ok (.iload 4, 2) := by decide +kernel
theorem d_All_add_8 : decode prog_2_method_3_code 8 = .ok (.iastore, 1) := by decide +kernel
theorem d_All_add_9 : decode prog_2_method_3_code 9 = .ok (.aload_n 1, 1) := by decide +kernel
theorem d_All_add_10 : decode prog_2_method_3_code 10 = .ok (.iload_n 2, 1) := by decide +kernel
theorem d_All_add_11 : decode prog_2_method_3_code 11 = .ok (.iconst 1, 1) := by decide +kernel
theorem d_All_add_12 : decode prog_2_method_3_code 12 = .ok (.iadd, 1) := by decide +kernel
theorem d_All_add_13 : decode prog_2_method_3_code 13 = .ok (.dup2, 1) := by decide +kernel
theorem d_All_add_14 : decode prog_2_method_3_code 14 = .ok (.iaload, 1) := by decide +kernel
theorem d_All_add_15 : decode prog_2_method_3_code 15 = .ok (.iconst 1, 1) := by decide +kernel
theorem d_All_add_16 : decode prog_2_method_3_code 16 = .ok (.iadd, 1) := by decide +kernel
theorem d_All_add_17 : decode prog_2_method_3_code 17 = .ok (.iastore, 1) := by decide +kernel
theorem d_All_add_18 : decode prog_2_method_3_code 18 = .ok (.return_, 1) := by decide +kernel
theorem d_All_drop_0 : decode prog_2_method_4_code 0 = .ok (.aload_n 1, 1) := by decide +kernel
theorem d_All_drop_1 : decode prog_2_method_4_code 1 = .ok (.iload_n 2, 1) := by decide +kernel
theorem d_All_drop_2 : decode prog_2_method_4_code 2 = .ok (.iconst 4, 1) := by decide +kernel
theorem d_All_drop_3 : decode prog_2_method_4_code 3 = .ok (.iadd, 1) := by decide +kernel
theorem d_All_drop_4 : decode prog_2_method_4_code 4 = .ok (.iload_n 3, 1) := by decide +kernel
theorem d_All_drop_5 : decode prog_2_method_4_code 5 = .ok (.iadd, 1) := by decide +kernel
theorem d_All_drop_6 : decode prog_2_method_4_code 6 = .ok (.iconst 0, 1) := by decide +kernel
theorem d_All_drop_7 : decode prog_2_method_4_code 7 = .ok (.iastore, 1) := by decide +kernel
theorem d_All_drop_8 : decode prog_2_method_4_code 8 = .ok (.aload_n 1, 1) := by decide +kernel
theorem d_All_drop_9 : decode prog_2_method_4_code 9 = .ok (.iload_n 2, 1) := by decide +kernel
theorem d_All_drop_10 : decode prog_2_method_4_code 10 = .ok (.iconst 1, 1) := by decide +kernel
theorem d_All_drop_11 : decode prog_2_method_4_code 11 = .ok (.iadd, 1) := by decide +kernel
theorem d_All_drop_12 : decode prog_2_method_4_code 12 = .ok (.dup2, 1) := by decide +kernel
theorem d_All_drop_13 : decode prog_2_method_4_code 13 = .ok (.iaload, 1) := by decide +kernel
theorem d_All_drop_14 : decode prog_2_method_4_code 14 = .ok (.iconst 1, 1) := by decide +kernel
theorem d_All_drop_15 : decode prog_2_method_4_code 15 = .ok (.isub, 1) := by decide +kernel
theorem d_All_drop_16 : decode prog_2_method_4_code 16 = .ok (.iastore, 1) := by decide +kernel
theorem d_All_drop_17 : decode prog_2_method_4_code 17 = .ok (.return_, 1) := by decide +kernel
theorem d_All_from_0 : decode prog_2_method_5_code 0 = .ok (.iload_n 3, 1) := by decide +kernel
theorem d_All_from_1 : decode prog_2_method_5_code 1 = .ok (.istore 4, 2) := by decide +kernel
theorem d_All_from_3 : decode prog_2_method_5_code 3 = .ok (.iload 4, 2) := by decide +kernel
theorem d_All_from_5 : decode prog_2_method_5_code 5 = .ok (.sipush 256, 3) := by decide +kernel
theorem d_All_from_8 : decode prog_2_method_5_code 8 = .ok (.if_icmp .ge 20, 3) := by decide +kernel
theorem d_All_from_11 : decode prog_2_method_5_code 11 = .ok (.aload_n 1, 1) := by decide +kernel
theorem d_All_from_12 : decode prog_2_method_5_code 12 = .ok (.iload_n 2, 1) := by decide +kernel
theorem d_All_from_13 : decode prog_2_method_5_code 13 = .ok (.iconst 4, 1) := by decide +kernel
theorem d_All_from_14 : decode prog_2_method_5_code 14 = .ok (.iadd, 1) := by decide +kernel
theorem d_All_from_15 : decode prog_2_method_5_code 15 = .ok (.iload 4, 2) := by decide +kernel
theorem d_All_from_17 : decode prog_2_method_5_code 17 = .ok (.iadd, 1) := by decide +kernel
theorem d_All_from_18 : decode prog_2_method_5_code 18 = .ok (.iaload, 1) := by decide +kernel
theorem d_All_from_19 : decode prog_2_method_5_code 19 = .ok (.ifCond .ne 9, 3) := by decide +kernel
theorem d_All_from_22 : decode prog_2_method_5_code 22 = .ok (.iinc 4 1, 3) := by decide +kernel
theorem d_All_from_25 : decode prog_2_method_5_code 25 = .ok (.goto (-22), 3) := by decide +kernel
theorem d_All_from_28 : decode prog_2_method_5_code 28 = .ok (.iload 4, 2) := by decide +kernel
theorem d_All_from_30 : decode prog_2_method_5_code 30 = .ok (.sipush 256, 3) := by decide +kernel
theorem d_All_from_33 : decode prog_2_method_5_code 33 = .ok (.if_icmp .ge 8, 3) := by decide +kernel
theorem d_All_from_36 : decode prog_2_method_5_code 36 = .ok (.iload 4, 2) := by decide +kernel
theorem d_All_from_38 : decode prog_2_method_5_code 38 = .ok (.goto 4, 3) := by decide +kernel
theorem d_All_from_41 : decode prog_2_method_5_code 41 = .ok (.iconst (-1), 1) := by decide +kernel
theorem d_All_from_42 : decode prog_2_method_5_code 42 = .ok (.ireturn, 1) := by decide +kernel
theorem d_Few_init_0 : decode prog_3_method_1_code 0 = .ok (.aload_n 0, 1) := by decide +kernel
theorem d_Few_init_1 : decode prog_3_method_1_code 1 = .ok (.iload_n 1, 1) := by decide +kernel
theorem d_Few_init_2 : decode prog_3_method_1_code 2 = .ok (.iconst 4, 1) := by decide +kernel
theorem d_Few_init_3 : decode prog_3_method_1_code 3 = .ok (.iload_n 2, 1) := by decide +kernel
theorem d_Few_init_4 : decode prog_3_method_1_code 4 = .ok (.iconst 4, 1) := by decide +kernel
theorem d_Few_init_5 : decode prog_3_method_1_code 5 = .ok (.idiv, 1) := by decide +kernel
theorem d_Few_init_6 : decode prog_3_method_1_code 6 = .ok (.iadd, 1) := by decide +kernel
theorem d_Few_init_7 : decode prog_3_method_1_code 7 = .ok (.iload_n 2, 1) := by decide +kernel
theorem d_Few_init_8 : decode prog_3_method_1_code 8 = .ok (.iadd, 1) := by decide +kernel
theorem d_Few_init_9 : decode prog_3_method_1_code 9 = .ok (.iload_n 2, 1) := by decide +kernel
theorem d_Few_init_10 : decode prog_3_method_1_code 10 = .ok (.invokespecial 5, 3) := by decide +kernel
theorem d_Few_init_13 : decode prog_3_method_1_code 13 = .ok (.aload_n 0, 1) := by decide +kernel
theorem d_Few_init_14 : decode prog_3_method_1_code 14 = .ok (.iconst 4, 1) := by decide +kernel
theorem d_Few_init_15 : decode prog_3_method_1_code 15 = .ok (.iload_n 2, 1) := by decide +kernel
theorem d_Few_init_16 : decode prog_3_method_1_code 16 = .ok (.iconst 4, 1) := by decide +kernel
theorem d_Few_init_17 : decode prog_3_method_1_code 17 = .ok (.idiv, 1) := by decide +kernel
theorem d_Few_init_18 : decode prog_3_method_1_code 18 = .ok (.iadd, 1) := by decide +kernel
theorem d_Few_init_19 : decode prog_3_method_1_code 19 = .ok (.putfield 9, 3) := by decide +kernel
theorem d_Few_init_22 : decode prog_3_method_1_code 22 = .ok (.return_, 1) := by decide +kernel
theorem d_Few_byteAt_0 : decode prog_3_method_2_code 0 = .ok (.aload_n 0, 1) := by decide +kernel
theorem d_Few_byteAt_1 : decode prog_3_method_2_code 1 = .ok (.iload_n 1, 1) := by decide +kernel
theorem d_Few_byteAt_2 : decode prog_3_method_2_code 2 = .ok (.iconst 4, 1) := by decide +kernel
theorem d_Few_byteAt_3 : decode prog_3_method_2_code 3 = .ok (.iadd, 1) := by decide +kernel
theorem d_Few_byteAt_4 : decode prog_3_method_2_code 4 = .ok (.iload_n 2, 1) := by decide +kernel
theorem d_Few_byteAt_5 : decode prog_3_method_2_code 5 = .ok (.iconst 4, 1) := by decide +kernel
theorem d_Few_byteAt_6 : decode prog_3_method_2_code 6 = .ok (.idiv, 1) := by decide +kernel
theorem d_Few_byteAt_7 : decode prog_3_method_2_code 7 = .ok (.iadd, 1) := by decide +kernel
theorem d_Few_byteAt_8 : decode prog_3_method_2_code 8 = .ok (.iaload, 1) := by decide +kernel
theorem d_Few_byteAt_9 : decode prog_3_method_2_code 9 = .ok (.bipush 24, 2) := by decide +kernel
theorem d_Few_byteAt_11 : decode prog_3_method_2_code 11 = .ok (.bipush 8, 2) := by decide +kernel
theorem d_Few_byteAt_13 : decode prog_3_method_2_code 13 = .ok (.iload_n 2, 1) := by decide +kernel
theorem d_Few_byteAt_14 : decode prog_3_method_2_code 14 = .ok (.iconst 4, 1) := by decide +kernel
theorem d_Few_byteAt_15 : decode prog_3_method_2_code 15 = .ok (.irem, 1) := by decide +kernel
theorem d_Few_byteAt_16 : decode prog_3_method_2_code 16 = .ok (.imul, 1) := by decide +kernel
theorem d_Few_byteAt_17 : decode prog_3_method_2_code 17 = .ok (.isub, 1) := by decide +kernel
theorem d_Few_byteAt_18 : decode prog_3_method_2_code 18 = .ok (.iushr, 1) := by decide +kernel
theorem d_Few_byteAt_19 : decode prog_3_method_2_code 19 = .ok (.sipush 255, 3) := by decide +kernel
theorem d_Few_byteAt_22 : decode prog_3_method_2_code 22 = .ok (.iand, 1) := by decide +kernel
theorem d_Few_byteAt_23 : decode prog_3_method_2_code 23 = .ok (.ireturn, 1) := by decide +kernel
theorem d_Few_setByte_0 : decode prog_3_method_3_code 0 = .ok (.iload_n 1, 1) := by decide +kernel
theorem d_Few_setByte_1 : decode prog_3_method_3_code 1 = .ok (.iconst 4, 1) := by decide +kernel
theorem d_Few_setByte_2 : decode prog_3_method_3_code 2 = .ok (.iadd, 1) := by decide +kernel
theorem d_Few_setByte_3 : decode prog_3_method_3_code 3 = .ok (.iload_n 2, 1) := by decide +kernel
theorem d_Few_setByte_4 : decode prog_3_method_3_code 4 = .ok (.iconst 4, 1) := by decide +kernel
theorem d_Few_setByte_5 : decode prog_3_method_3_code 5 = .ok (.idiv, 1) := by decide +kernel
theorem d_Few_setByte_6 : decode prog_3_method_3_code 6 = .ok (.iadd, 1) := by decide +kernel
theorem d_Few_setByte_7 : decode prog_3_method_3_code 7 = .ok (.istore 4, 2) := by decide +kernel
theorem d_Few_setByte_9 : decode prog_3_method_3_code 9 = .ok (.bipush 24, 2) := by decide +kernel
theorem d_Few_setByte_11 : decode prog_3_method_3_code 11 = .ok (.bipush 8, 2) := by decide +kernel
theorem d_Few_setByte_13 : decode prog_3_method_3_code 13 = .ok (.iload_n 2, 1) := by decide +kernel
theorem d_Few_setByte_14 : decode prog_3_method_3_code 14 = .ok (.iconst 4, 1) := by decide +kernel
theorem d_Few_setByte_15 : decode prog_3_method_3_code 15 = .ok (.irem, 1) := by decide +kernel
theorem d_Few_setByte_16 : decode prog_3_method_3_code 16 = .ok (.imul, 1) := by decide +kernel
theorem d_Few_setByte_17 : decode prog_3_method_3_code 17 = .ok (.isub, 1) := by decide +kernel
theorem d_Few_setByte_18 : decode prog_3_method_3_code 18 = .ok (.istore 5, 2) := by decide +kernel
theorem d_Few_setByte_20 : decode prog_3_method_3_code 20 = .ok (.aload_n 0, 1) := by decide +kernel
theorem d_Few_setByte_21 : decode prog_3_method_3_code 21 = .ok (.iload 4, 2) := by decide +kernel
theorem d_Few_setByte_23 : decode prog_3_method_3_code 23 = .ok (.aload_n 0, 1) := by decide +kernel
theorem d_Few_setByte_24 : decode prog_3_method_3_code 24 = .ok (.iload 4, 2) := by decide +kernel
theorem d_Few_setByte_26 : decode prog_3_method_3_code 26 = .ok (.iaload, 1) := by decide +kernel
theorem d_Few_setByte_27 : decode prog_3_method_3_code 27 = .ok (.sipush 255, 3) := by decide +kernel
theorem d_Few_setByte_30 : decode prog_3_method_3_code 30 = .ok (.iload 5, 2) := by decide +kernel
theorem d_Few_setByte_32 : decode prog_3_method_3_code 32 = .ok (.ishl, 1) := by decide +kernel
theorem d_Few_setByte_33 : decode prog_3_method_3_code 33 = .ok (.iconst (-1), 1) := by decide +kernel
theorem d_Few_setByte_34 : decode prog_3_method_3_code 34 = .ok (.ixor, 1) := by decide +kernel
theorem d_Few_setByte_35 : decode prog_3_method_3_code 35 = .ok (.iand, 1) := by decide +kernel
theorem d_Few_setByte_36 : decode prog_3_method_3_code 36 = .ok (.iload_n 3, 1) := by decide +kernel
theorem d_Few_setByte_37 : decode prog_3_method_3_code 37 = .ok (.iload 5, 2) := by decide +kernel
theorem d_Few_setByte_39 : decode prog_3_method_3_code 39 = .ok (.ishl, 1) := by decide +kernel
theorem d_Few_setByte_40 : decode prog_3_method_3_code 40 = .ok (.ior, 1) := by decide +kernel
theorem d_Few_setByte_41 : decode prog_3_method_3_code 41 = .ok (.iastore, 1) := by decide +kernel
theorem d_Few_setByte_42 : decode prog_3_method_3_code 42 = .ok (.return_, 1) := by decide +kernel
theorem d_Few_index_0 : decode prog_3_method_4_code 0 = .ok (.iconst 0, 1) := by decide +kernel
theorem d_Few_index_1 : decode prog_3_method_4_code 1 = .ok (.istore_n 3, 1) := by decide +kernel
theorem d_Few_index_2 : decode prog_3_method_4_code 2 = .ok (.aload_n 0, 1) := by decide +kernel
theorem d_Few_index_3 : decode prog_3_method_4_code 3 = .ok (.iload_n 1, 1) := by decide +kernel
theorem d_Few_index_4 : decode prog_3_method_4_code 4 = .ok (.iconst 1, 1) := by decide +kernel
theorem d_Few_index_5 : decode prog_3_method_4_code 5 = .ok (.iadd, 1) := by decide +kernel
theorem d_Few_index_6 : decode prog_3_method_4_code 6 = .ok (.iaload, 1) := by decide +kernel
theorem d_Few_index_7 : decode prog_3_method_4_code 7 = .ok (.istore 4, 2) := by decide +kernel
theorem d_Few_index_9 : decode prog_3_method_4_code 9 = .ok (.iload_n 3, 1) := by decide +kernel
theorem d_Few_index_10 : decode prog_3_method_4_code 10 = .ok (.iload 4, 2) := by decide +kernel
theorem d_Few_index_12 : decode prog_3_method_4_code 12 = .ok (.if_icmp .ge 37, 3) := by decide +kernel
theorem d_Few_index_15 : decode prog_3_method_4_code 15 = .ok (.iload_n 3, 1) := by decide +kernel
theorem d_Few_index_16 : decode prog_3_method_4_code 16 = .ok (.iload 4, 2) := by decide +kernel
theorem d_Few_index_18 : decode prog_3_method_4_code 18 = .ok (.iadd, 1) := by decide +kernel
theorem d_Few_index_19 : decode prog_3_method_4_code 19 = .ok (.iconst 1, 1) := by decide +kernel
theorem d_Few_index_20 : decode prog_3_method_4_code 20 = .ok (.iushr, 1) := by decide +kernel
theorem d_Few_index_21 : decode prog_3_method_4_code 21 = .ok (.istore 5, 2) := by decide +kernel
theorem d_Few_index_23 : decode prog_3_method_4_code 23 = .ok (.aload_n 0, 1) := by decide +kernel
theorem d_Few_index_24 : decode prog_3_method_4_code 24 = .ok (.iload_n 1, 1) := by decide +kernel
theorem d_Few_index_25 : decode prog_3_method_4_code 25 = .ok (.iload 5, 2) := by decide +kernel
theorem d_Few_index_27 : decode prog_3_method_4_code 27 = .ok (.invokestatic 15, 3) := by decide +kernel
theorem d_Few_index_30 : decode prog_3_method_4_code 30 = .ok (.iload_n 2, 1) := by decide +kernel
theorem d_Few_index_31 : decode prog_3_method_4_code 31 = .ok (.if_icmp .ge 11, 3) := by decide +kernel
theorem d_Few_index_34 : decode prog_3_method_4_code 34 = .ok (.iload 5, 2) := by decide +kernel
theorem d_Few_index_36 : decode prog_3_method_4_code 36 = .ok (.iconst 1, 1) := by decide +kernel
theorem d_Few_index_37 : decode prog_3_method_4_code 37 = .ok (.iadd, 1) := by decide +kernel
theorem d_Few_index_38 : decode prog_3_method_4_code 38 = .ok (.istore_n 3, 1) := by decide +kernel
theorem d_Few_index_39 : decode prog_3_method_4_code 39 = .ok (.goto 7, 3) := by decide +kernel
theorem d_Few_index_42 : decode prog_3_method_4_code 42 = .ok (.iload 5, 2) := by decide +kernel
theorem d_Few_index_44 : decode prog_3_method_4_code 44 = .ok (.istore 4, 2) := by decide +kernel
theorem d_Few_index_46 : decode prog_3_method_4_code 46 = .ok (.goto (-37), 3) := by decide +kernel
theorem d_Few_index_49 : decode prog_3_method_4_code 49 = .ok (.iload_n 3, 1) := by decide +kernel
theorem d_Few_index_50 : decode prog_3_method_4_code 50 = .ok (.ireturn, 1) := by decide +kernel
theorem d_Few_place_0 : decode prog_3_method_5_code 0 = .ok (.aload_n 1, 1) := by decide +kernel
theorem d_Few_place_1 : decode prog_3_method_5_code 1 = .ok (.iload_n 2, 1) := by decide +kernel
theorem d_Few_place_2 : decode prog_3_method_5_code 2 = .ok (.iload_n 3, 1) := by decide +kernel
theorem d_Few_place_3 : decode prog_3_method_5_code 3 = .ok (.invokestatic 19, 3) := by decide +kernel
theorem d_Few_place_6 : decode prog_3_method_5_code 6 = .ok (.istore 4, 2) := by decide +kernel
theorem d_Few_place_8 : decode prog_3_method_5_code 8 = .ok (.iload 4, 2) := by decide +kernel
theorem d_Few_place_10 : decode prog_3_method_5_code 10 = .ok (.aload_n 1, 1) := by decide +kernel
theorem d_Few_place_11 : decode prog_3_method_5_code 11 = .ok (.iload_n 2, 1) := by decide +kernel
theorem d_Few_place_12 : decode prog_3_method_5_code 12 = .ok (.iconst 1, 1) := by decide +kernel
theorem d_Few_place_13 : decode prog_3_method_5_code 13 = .ok (.iadd, 1) := by decide +kernel
theorem d_Few_place_14 : decode prog_3_method_5_code 14 = .ok (.iaload, 1) := by decide +kernel
theorem d_Few_place_15 : decode prog_3_method_5_code 15 = .ok (.if_icmp .ge 26, 3) := by decide +kernel
theorem d_Few_place_18 : decode prog_3_method_5_code 18 = .ok (.aload_n 1, 1) := by decide +kernel
theorem d_Few_place_19 : decode prog_3_method_5_code 19 = .ok (.iload_n 2, 1) := by decide +kernel
theorem d_Few_place_20 : decode prog_3_method_5_code 20 = .ok (.iload 4, 2) := by decide +kernel
theorem d_Few_place_22 : decode prog_3_method_5_code 22 = .ok (.invokestatic 15, 3) := by decide +kernel
theorem d_Few_place_25 : decode prog_3_method_5_code 25 = .ok (.iload_n 3, 1) := by decide +kernel
theorem d_Few_place_26 : decode prog_3_method_5_code 26 = .ok (.if_icmp .ne 15, 3) := by decide +kernel
theorem d_Few_place_29 : decode prog_3_method_5_code 29 = .ok (.iload_n 2, 1) := by decide +kernel
theorem d_Few_place_30 : decode prog_3_method_5_code 30 = .ok (.aload_n 0, 1) := by decide +kernel
theorem d_Few_place_31 : decode prog_3_method_5_code 31 = .ok (.getfield 9, 3) := by decide +kernel
theorem d_Few_place_34 : decode prog_3_method_5_code 34 = .ok (.iadd, 1) := by decide +kernel
theorem d_Few_place_35 : decode prog_3_method_5_code 35 = .ok (.iload 4, 2) := by decide +kernel
theorem d_Few_place_37 : decode prog_3_method_5_code 37 = .ok (.iadd, 1) := by decide +kernel
theorem d_Few_place_38 : decode prog_3_method_5_code 38 = .ok (.goto 4, 3) := by decide +kernel
theorem d_Few_place_41 : decode prog_3_method_5_code 41 = .ok (.iconst 0, 1) := by decide +kernel
theorem d_Few_place_42 : decode prog_3_method_5_code 42 = .ok (.ireturn, 1) := by decide +kernel
theorem d_Few_add_0 : decode prog_3_method_6_code 0 = .ok (.aload_n 1, 1) := by decide +kernel
theorem d_Few_add_1 : decode prog_3_method_6_code 1 = .ok (.iload_n 2, 1) := by decide +kernel
theorem d_Few_add_2 : decode prog_3_method_6_code 2 = .ok (.iload_n 3, 1) := by decide +kernel
theorem d_Few_add_3 : decode prog_3_method_6_code 3 = .ok (.invokestatic 19, 3) := by decide +kernel
theorem d_Few_add_6 : decode prog_3_method_6_code 6 = .ok (.istore 5, 2) := by decide +kernel
theorem d_Few_add_8 : decode prog_3_method_6_code 8 = .ok (.aload_n 1, 1) := by decide +kernel
theorem d_Few_add_9 : decode prog_3_method_6_code 9 = .ok (.iload_n 2, 1) := by decide +kernel
theorem d_Few_add_10 : decode prog_3_method_6_code 10 = .ok (.iconst 1, 1) := by decide +kernel
theorem d_Few_add_11 : decode prog_3_method_6_code 11 = .ok (.iadd, 1) := by decide +kernel
theorem d_Few_add_12 : decode prog_3_method_6_code 12 = .ok (.iaload, 1) := by decide +kernel
theorem d_Few_add_13 : decode prog_3_method_6_code 13 = .ok (.istore 6, 2) := by decide +kernel
theorem d_Few_add_15 : decode prog_3_method_6_code 15 = .ok (.iload 6, 2) := by decide +kernel
theorem d_Few_add_17 : decode prog_3_method_6_code 17 = .ok (.iload 5, 2) := by decide +kernel
theorem d_Few_add_19 : decode prog_3_method_6_code 19 = .ok (.if_icmp .le 49, 3) := by decide +kernel
theorem d_Few_add_22 : decode prog_3_method_6_code 22 = .ok (.aload_n 1, 1) := by decide +kernel
theorem d_Few_add_23 : decode prog_3_method_6_code 23 = .ok (.iload_n 2, 1) := by decide +kernel
theorem d_Few_add_24 : decode prog_3_method_6_code 24 = .ok (.iload 6, 2) := by decide +kernel
theorem d_Few_add_26 : decode prog_3_method_6_code 26 = .ok (.aload_n 1, 1) := by decide +kernel
theorem d_Few_add_27 : decode prog_3_method_6_code 27 = .ok (.iload_n 2, 1) := by decide +kernel
theorem d_Few_add_28 : decode prog_3_method_6_code 28 = .ok (.iload 6, 2) := by decide +kernel
theorem d_Few_add_30 : decode prog_3_method_6_code 30 = .ok (.iconst 1, 1) := by decide +kernel
theorem d_Few_add_31 : decode prog_3_method_6_code 31 = .ok (.isub, 1) := by decide +kernel
theorem d_Few_add_32 : decode prog_3_method_6_code 32 = .ok (.invokestatic 15, 3) := by decide +kernel
theorem d_Few_add_35 : decode prog_3_method_6_code 35 = .ok (.invokestatic 22, 3) := by decide +kernel
theorem d_Few_add_38 : decode prog_3_method_6_code 38 = .ok (.aload_n 1, 1) := by decide +kernel
theorem d_Few_add_39 : decode prog_3_method_6_code 39 = .ok (.iload_n 2, 1) := by decide +kernel
theorem d_Few_add_40 : decode prog_3_method_6_code 40 = .ok (.aload_n 0, 1) := by decide +kernel
theorem d_Few_add_41 : decode prog_3_method_6_code 41 = .ok (.getfield 9, 3) := by decide +kernel
theorem d_Few_add_44 : decode prog_3_method_6_code 44 = .ok (.iadd, 1) := by decide +kernel
theorem d_Few_add_45 : decode prog_3_method_6_code 45 = .ok (.iload 6, 2) := by decide +kernel
theorem d_Few_add_47 : decode prog_3_method_6_code 47 = .ok (.iadd, 1) := by decide +kernel
theorem d_Few_add_48 : decode prog_3_method_6_code 48 = .ok (.aload_n 1, 1) := by decide +kernel
theorem d_Few_add_49 : decode prog_3_method_6_code 49 = .ok (.iload_n 2, 1) := by decide +kernel
theorem d_Few_add_50 : decode prog_3_method_6_code 50 = .ok (.aload_n 0, 1) := by decide +kernel
theorem d_Few_add_51 : decode prog_3_method_6_code 51 = .ok (.getfield 9, 3) := by decide +kernel
theorem d_Few_add_54 : decode prog_3_method_6_code 54 = .ok (.iadd, 1) := by decide +kernel
theorem d_Few_add_55 : decode prog_3_method_6_code 55 = .ok (.iload 6, 2) := by decide +kernel
theorem d_Few_add_57 : decode prog_3_method_6_code 57 = .ok (.iadd, 1) := by decide +kernel
theorem d_Few_add_58 : decode prog_3_method_6_code 58 = .ok (.iconst 1, 1) := by decide +kernel
theorem d_Few_add_59 : decode prog_3_method_6_code 59 = .ok (.isub, 1) := by decide +kernel
theorem d_Few_add_60 : decode prog_3_method_6_code 60 = .ok (.iaload, 1) := by decide +kernel
theorem d_Few_add_61 : decode prog_3_method_6_code 61 = .ok (.iastore, 1) := by decide +kernel
theorem d_Few_add_62 : decode prog_3_method_6_code 62 = .ok (.iinc 6 (-1), 3) := by decide +kernel
theorem d_Few_add_65 : decode prog_3_method_6_code 65 = .ok (.goto (-50), 3) := by decide +kernel
theorem d_Few_add_68 : decode prog_3_method_6_code 68 = .ok (.aload_n 1, 1) := by decide +kernel
theorem d_Few_add_69 : decode prog_3_method_6_code 69 = .ok (.iload_n 2, 1) := by decide +kernel
theorem d_Few_add_70 : decode prog_3_method_6_code 70 = .ok (.iload 5, 2) := by decide +kernel
theorem d_Few_add_72 : decode prog_3_method_6_code 72 = .ok (.iload_n 3, 1) := by decide +kernel
theorem d_Few_add_73 : decode prog_3_method_6_code 73 = .ok (.invokestatic 22, 3) := by decide +kernel
theorem d_Few_add_76 : decode prog_3_method_6_code 76 = .ok (.aload_n 1, 1) := by decide +kernel
theorem d_Few_add_77 : decode prog_3_method_6_code 77 = .ok (.iload_n 2, 1) := by decide +kernel
theorem d_Few_add_78 : decode prog_3_method_6_code 78 = .ok (.aload_n 0, 1) := by decide +kernel
theorem d_Few_add_79 : decode prog_3_method_6_code 79 = .ok (.getfield 9, 3) := by decide +kernel
theorem d_Few_add_82 : decode prog_3_method_6_code 82 = .ok (.iadd, 1) := by decide +kernel
theorem d_Few_add_83 : decode prog_3_method_6_code 83 = .ok (.iload 5, 2) := by decide +kernel
theorem d_Few_add_85 : decode prog_3_method_6_code 85 = .ok (.iadd, 1) := by decide +kernel
theorem d_Few_add_86 : decode prog_3_method_6_code 86 = .ok (.iload 4, 2) := by decide +kernel
theorem d_Few_add_88 : decode prog_3_method_6_code 88 = .ok (.iastore, 1) := by decide +kernel
theorem d_Few_add_89 : decode prog_3_method_6_code 89 = .ok (.aload_n 1, 1) := by decide +kernel
theorem d_Few_add_90 : decode prog_3_method_6_code 90 = .ok (.iload_n 2, 1) := by decide +kernel
theorem d_Few_add_91 : decode prog_3_method_6_code 91 = .ok (.iconst 1, 1) := by decide +kernel
theorem d_Few_add_92 : decode prog_3_method_6_code 92 = .ok (.iadd, 1) := by decide +kernel
theorem d_Few_add_93 : decode prog_3_method_6_code 93 = .ok (.dup2, 1) := by decide +kernel
theorem d_Few_add_94 : decode prog_3_method_6_code 94 = .ok (.iaload, 1) := by decide +kernel
theorem d_Few_add_95 : decode prog_3_method_6_code 95 = .ok (.iconst 1, 1) := by decide +kernel
theorem d_Few_add_96 : decode prog_3_method_6_code 96 = .ok (.iadd, 1) := by decide +kernel
theorem d_Few_add_97 : decode prog_3_method_6_code 97 = .ok (.iastore, 1) := by decide +kernel
theorem d_Few_add_98 : decode prog_3_method_6_code 98 = .ok (.return_, 1) := by decide +kernel
theorem d_Few_drop_0 : decode prog_3_method_7_code 0 = .ok (.aload_n 1, 1) := by decide +kernel
theorem d_Few_drop_1 : decode prog_3_method_7_code 1 = .ok (.iload_n 2, 1) := by decide +kernel
theorem d_Few_drop_2 : decode prog_3_method_7_code 2 = .ok (.iconst 1, 1) := by decide +kernel
theorem d_Few_drop_3 : decode prog_3_method_7_code 3 = .ok (.iadd, 1) := by decide +kernel
theorem d_Few_drop_4 : decode prog_3_method_7_code 4 = .ok (.dup2, 1) := by decide +kernel
theorem d_Few_drop_5 : decode prog_3_method_7_code 5 = .ok (.iaload, 1) := by decide +kernel
theorem d_Few_drop_6 : decode prog_3_method_7_code 6 = .ok (.iconst 1, 1) := by decide +kernel
theorem d_Few_drop_7 : decode prog_3_method_7_code 7 = .ok (.isub, 1) := by decide +kernel
theorem d_Few_drop_8 : decode prog_3_method_7_code 8 = .ok (.iastore, 1) := by decide +kernel
theorem d_Few_drop_9 : decode prog_3_method_7_code 9 = .ok (.aload_n 1, 1) := by decide +kernel
theorem d_Few_drop_10 : decode prog_3_method_7_code 10 = .ok (.iload_n 2, 1) := by decide +kernel
theorem d_Few_drop_11 : decode prog_3_method_7_code 11 = .ok (.iload_n 3, 1) := by decide +kernel
theorem d_Few_drop_12 : decode prog_3_method_7_code 12 = .ok (.invokestatic 19, 3) := by decide +kernel
theorem d_Few_drop_15 : decode prog_3_method_7_code 15 = .ok (.istore 4, 2) := by decide +kernel
theorem d_Few_drop_17 : decode prog_3_method_7_code 17 = .ok (.iload 4, 2) := by decide +kernel
theorem d_Few_drop_19 : decode prog_3_method_7_code 19 = .ok (.aload_n 1, 1) := by decide +kernel
theorem d_Few_drop_20 : decode prog_3_method_7_code 20 = .ok (.iload_n 2, 1) := by decide +kernel
theorem d_Few_drop_21 : decode prog_3_method_7_code 21 = .ok (.iconst 1, 1) := by decide +kernel
theorem d_Few_drop_22 : decode prog_3_method_7_code 22 = .ok (.iadd, 1) := by decide +kernel
theorem d_Few_drop_23 : decode prog_3_method_7_code 23 = .ok (.iaload, 1) := by decide +kernel
theorem d_Few_drop_24 : decode prog_3_method_7_code 24 = .ok (.if_icmp .ge 49, 3) := by decide +kernel
theorem d_Few_drop_27 : decode prog_3_method_7_code 27 = .ok (.aload_n 1, 1) := by decide +kernel
theorem d_Few_drop_28 : decode prog_3_method_7_code 28 = .ok (.iload_n 2, 1) := by decide +kernel
theorem d_Few_drop_29 : decode prog_3_method_7_code 29 = .ok (.iload 4, 2) := by decide +kernel
theorem d_Few_drop_31 : decode prog_3_method_7_code 31 = .ok (.aload_n 1, 1) := by decide +kernel
theorem d_Few_drop_32 : decode prog_3_method_7_code 32 = .ok (.iload_n 2, 1) := by decide +kernel
theorem d_Few_drop_33 : decode prog_3_method_7_code 33 = .ok (.iload 4, 2) := by decide +kernel
theorem d_Few_drop_35 : decode prog_3_method_7_code 35 = .ok (.iconst 1, 1) := by decide +kernel
theorem d_Few_drop_36 : decode prog_3_method_7_code 36 = .ok (.iadd, 1) := by decide +kernel
theorem d_Few_drop_37 : decode prog_3_method_7_code 37 = .ok (.invokestatic 15, 3) := by decide +kernel
theorem d_Few_drop_40 : decode prog_3_method_7_code 40 = .ok (.invokestatic 22, 3) := by decide +kernel
theorem d_Few_drop_43 : decode prog_3_method_7_code 43 = .ok (.aload_n 1, 1) := by decide +kernel
theorem d_Few_drop_44 : decode prog_3_method_7_code 44 = .ok (.iload_n 2, 1) := by decide +kernel
theorem d_Few_drop_45 : decode prog_3_method_7_code 45 = .ok (.aload_n 0, 1) := by decide +kernel
theorem d_Few_drop_46 : decode prog_3_method_7_code 46 = .ok (.getfield 9, 3) := by decide +kernel
theorem d_Few_drop_49 : decode prog_3_method_7_code 49 = .ok (.iadd, 1) := by decide +kernel
theorem d_Few_drop_50 : decode prog_3_method_7_code 50 = .ok (.iload 4, 2) := by decide +kernel
theorem d_Few_drop_52 : decode prog_3_method_7_code 52 = .ok (.iadd, 1) := by decide +kernel
theorem d_Few_drop_53 : decode prog_3_method_7_code 53 = .ok (.aload_n 1, 1) := by decide +kernel
theorem d_Few_drop_54 : decode prog_3_method_7_code 54 = .ok (.iload_n 2, 1) := by decide +kernel
theorem d_Few_drop_55 : decode prog_3_method_7_code 55 = .ok (.aload_n 0, 1) := by decide +kernel
theorem d_Few_drop_56 : decode prog_3_method_7_code 56 = .ok (.getfield 9, 3) := by decide +kernel
theorem d_Few_drop_59 : decode prog_3_method_7_code 59 = .ok (.iadd, 1) := by decide +kernel
theorem d_Few_drop_60 : decode prog_3_method_7_code 60 = .ok (.iload 4, 2) := by decide +kernel
theorem d_Few_drop_62 : decode prog_3_method_7_code 62 = .ok (.iadd, 1) := by decide +kernel
theorem d_Few_drop_63 : decode prog_3_method_7_code 63 = .ok (.iconst 1, 1) := by decide +kernel
theorem d_Few_drop_64 : decode prog_3_method_7_code 64 = .ok (.iadd, 1) := by decide +kernel
theorem d_Few_drop_65 : decode prog_3_method_7_code 65 = .ok (.iaload, 1) := by decide +kernel
theorem d_Few_drop_66 : decode prog_3_method_7_code 66 = .ok (.iastore, 1) := by decide +kernel
theorem d_Few_drop_67 : decode prog_3_method_7_code 67 = .ok (.iinc 4 1, 3) := by decide +kernel
theorem d_Few_drop_70 : decode prog_3_method_7_code 70 = .ok (.goto (-53), 3) := by decide +kernel
theorem d_Few_drop_73 : decode prog_3_method_7_code 73 = .ok (.return_, 1) := by decide +kernel
theorem d_Few_from_0 : decode prog_3_method_8_code 0 = .ok (.aload_n 1, 1) := by decide +kernel
theorem d_Few_from_1 : decode prog_3_method_8_code 1 = .ok (.iload_n 2, 1) := by decide +kernel
theorem d_Few_from_2 : decode prog_3_method_8_code 2 = .ok (.iload_n 3, 1) := by decide +kernel
theorem d_Few_from_3 : decode prog_3_method_8_code 3 = .ok (.invokestatic 19, 3) := by decide +kernel
theorem d_Few_from_6 : decode prog_3_method_8_code 6 = .ok (.istore 4, 2) := by decide +kernel
theorem d_Few_from_8 : decode prog_3_method_8_code 8 = .ok (.iload 4, 2) := by decide +kernel
theorem d_Few_from_10 : decode prog_3_method_8_code 10 = .ok (.aload_n 1, 1) := by decide +kernel
theorem d_Few_from_11 : decode prog_3_method_8_code 11 = .ok (.iload_n 2, 1) := by decide +kernel
theorem d_Few_from_12 : decode prog_3_method_8_code 12 = .ok (.iconst 1, 1) := by decide +kernel
theorem d_Few_from_13 : decode prog_3_method_8_code 13 = .ok (.iadd, 1) := by decide +kernel
theorem d_Few_from_14 : decode prog_3_method_8_code 14 = .ok (.iaload, 1) := by decide +kernel
theorem d_Few_from_15 : decode prog_3_method_8_code 15 = .ok (.if_icmp .ge 13, 3) := by decide +kernel
theorem d_Few_from_18 : decode prog_3_method_8_code 18 = .ok (.aload_n 1, 1) := by decide +kernel
theorem d_Few_from_19 : decode prog_3_method_8_code 19 = .ok (.iload_n 2, 1) := by decide +kernel
theorem d_Few_from_20 : decode prog_3_method_8_code 20 = .ok (.iload 4, 2) := by decide +kernel
theorem d_Few_from_22 : decode prog_3_method_8_code 22 = .ok (.invokestatic 15, 3) := by decide +kernel
theorem d_Few_from_25 : decode prog_3_method_8_code 25 = .ok (.goto 4, 3) := by decide +kernel
theorem d_Few_from_28 : decode prog_3_method_8_code 28 = .ok (.iconst (-1), 1) := by decide +kernel
theorem d_Few_from_29 : decode prog_3_method_8_code 29 = .ok (.ireturn, 1) := by decide +kernel
theorem d_Some_init_0 : decode prog_6_method_1_code 0 = .ok (.aload_n 0, 1) := by decide +kernel
theorem d_Some_init_1 : decode prog_6_method_1_code 1 = .ok (.iconst 2, 1) := by decide +kernel
theorem d_Some_init_2 : decode prog_6_method_1_code 2 = .ok (.bipush 116, 2) := by decide +kernel
theorem d_Some_init_4 : decode prog_6_method_1_code 4 = .ok (.bipush 48, 2) := by decide +kernel
theorem d_Some_init_6 : decode prog_6_method_1_code 6 = .ok (.invokespecial 7, 3) := by decide +kernel
theorem d_Some_init_9 : decode prog_6_method_1_code 9 = .ok (.return_, 1) := by decide +kernel
theorem d_Some_numberAt_0 : decode prog_6_method_2_code 0 = .ok (.aload_n 0, 1) := by decide +kernel
theorem d_Some_numberAt_1 : decode prog_6_method_2_code 1 = .ok (.iload_n 1, 1) := by decide +kernel
theorem d_Some_numberAt_2 : decode prog_6_method_2_code 2 = .ok (.iconst 4, 1) := by decide +kernel
theorem d_Some_numberAt_3 : decode prog_6_method_2_code 3 = .ok (.iadd, 1) := by decide +kernel
theorem d_Some_numberAt_4 : decode prog_6_method_2_code 4 = .ok (.iload_n 2, 1) := by decide +kernel
theorem d_Some_numberAt_5 : decode prog_6_method_2_code 5 = .ok (.iconst 4, 1) := by decide +kernel
theorem d_Some_numberAt_6 : decode prog_6_method_2_code 6 = .ok (.idiv, 1) := by decide +kernel
theorem d_Some_numberAt_7 : decode prog_6_method_2_code 7 = .ok (.iadd, 1) := by decide +kernel
theorem d_Some_numberAt_8 : decode prog_6_method_2_code 8 = .ok (.iaload, 1) := by decide +kernel
theorem d_Some_numberAt_9 : decode prog_6_method_2_code 9 = .ok (.bipush 24, 2) := by decide +kernel
theorem d_Some_numberAt_11 : decode prog_6_method_2_code 11 = .ok (.bipush 8, 2) := by decide +kernel
theorem d_Some_numberAt_13 : decode prog_6_method_2_code 13 = .ok (.iload_n 2, 1) := by decide +kernel
theorem d_Some_numberAt_14 : decode prog_6_method_2_code 14 = .ok (.iconst 4, 1) := by decide +kernel
theorem d_Some_numberAt_15 : decode prog_6_method_2_code 15 = .ok (.irem, 1) := by decide +kernel
theorem d_Some_numberAt_16 : decode prog_6_method_2_code 16 = .ok (.imul, 1) := by decide +kernel
theorem d_Some_numberAt_17 : decode prog_6_method_2_code 17 = .ok (.isub, 1) := by decide +kernel
theorem d_Some_numberAt_18 : decode prog_6_method_2_code 18 = .ok (.iushr, 1) := by decide +kernel
theorem d_Some_numberAt_19 : decode prog_6_method_2_code 19 = .ok (.sipush 255, 3) := by decide +kernel
theorem d_Some_numberAt_22 : decode prog_6_method_2_code 22 = .ok (.iand, 1) := by decide +kernel
theorem d_Some_numberAt_23 : decode prog_6_method_2_code 23 = .ok (.ireturn, 1) := by decide +kernel
theorem d_Some_setNumber_0 : decode prog_6_method_3_code 0 = .ok (.iload_n 1, 1) := by decide +kernel
theorem d_Some_setNumber_1 : decode prog_6_method_3_code 1 = .ok (.iconst 4, 1) := by decide +kernel
theorem d_Some_setNumber_2 : decode prog_6_method_3_code 2 = .ok (.iadd, 1) := by decide +kernel
theorem d_Some_setNumber_3 : decode prog_6_method_3_code 3 = .ok (.iload_n 2, 1) := by decide +kernel
theorem d_Some_setNumber_4 : decode prog_6_method_3_code 4 = .ok (.iconst 4, 1) := by decide +kernel
theorem d_Some_setNumber_5 : decode prog_6_method_3_code 5 = .ok (.idiv, 1) := by decide +kernel
theorem d_Some_setNumber_6 : decode prog_6_method_3_code 6 = .ok (.iadd, 1) := by decide +kernel
theorem d_Some_setNumber_7 : decode prog_6_method_3_code 7 = .ok (.istore 4, 2) := by decide +kernel
theorem d_Some_setNumber_9 : decode prog_6_method_3_code 9 = .ok (.bipush 24, 2) := by decide +kernel
theorem d_Some_setNumber_11 : decode prog_6_method_3_code 11 = .ok (.bipush 8, 2) := by decide +kernel
theorem d_Some_setNumber_13 : decode prog_6_method_3_code 13 = .ok (.iload_n 2, 1) := by decide +kernel
theorem d_Some_setNumber_14 : decode prog_6_method_3_code 14 = .ok (.iconst 4, 1) := by decide +kernel
theorem d_Some_setNumber_15 : decode prog_6_method_3_code 15 = .ok (.irem, 1) := by decide +kernel
theorem d_Some_setNumber_16 : decode prog_6_method_3_code 16 = .ok (.imul, 1) := by decide +kernel
theorem d_Some_setNumber_17 : decode prog_6_method_3_code 17 = .ok (.isub, 1) := by decide +kernel
theorem d_Some_setNumber_18 : decode prog_6_method_3_code 18 = .ok (.istore 5, 2) := by decide +kernel
theorem d_Some_setNumber_20 : decode prog_6_method_3_code 20 = .ok (.aload_n 0, 1) := by decide +kernel
theorem d_Some_setNumber_21 : decode prog_6_method_3_code 21 = .ok (.iload 4, 2) := by decide +kernel
theorem d_Some_setNumber_23 : decode prog_6_method_3_code 23 = .ok (.aload_n 0, 1) := by decide +kernel
theorem d_Some_setNumber_24 : decode prog_6_method_3_code 24 = .ok (.iload 4, 2) := by decide +kernel
theorem d_Some_setNumber_26 : decode prog_6_method_3_code 26 = .ok (.iaload, 1) := by decide +kernel
theorem d_Some_setNumber_27 : decode prog_6_method_3_code 27 = .ok (.sipush 255, 3) := by decide +kernel
theorem d_Some_setNumber_30 : decode prog_6_method_3_code 30 = .ok (.iload 5, 2) := by decide +kernel
theorem d_Some_setNumber_32 : decode prog_6_method_3_code 32 = .ok (.ishl, 1) := by decide +kernel
theorem d_Some_setNumber_33 : decode prog_6_method_3_code 33 = .ok (.iconst (-1), 1) := by decide +kernel
theorem d_Some_setNumber_34 : decode prog_6_method_3_code 34 = .ok (.ixor, 1) := by decide +kernel
theorem d_Some_setNumber_35 : decode prog_6_method_3_code 35 = .ok (.iand, 1) := by decide +kernel
theorem d_Some_setNumber_36 : decode prog_6_method_3_code 36 = .ok (.iload_n 3, 1) := by decide +kernel
theorem d_Some_setNumber_37 : decode prog_6_method_3_code 37 = .ok (.iload 5, 2) := by decide +kernel
theorem d_Some_setNumber_39 : decode prog_6_method_3_code 39 = .ok (.ishl, 1) := by decide +kernel
theorem d_Some_setNumber_40 : decode prog_6_method_3_code 40 = .ok (.ior, 1) := by decide +kernel
theorem d_Some_setNumber_41 : decode prog_6_method_3_code 41 = .ok (.iastore, 1) := by decide +kernel
theorem d_Some_setNumber_42 : decode prog_6_method_3_code 42 = .ok (.return_, 1) := by decide +kernel
theorem d_Some_place_0 : decode prog_6_method_4_code 0 = .ok (.aload_n 1, 1) := by decide +kernel
theorem d_Some_place_1 : decode prog_6_method_4_code 1 = .ok (.iload_n 2, 1) := by decide +kernel
theorem d_Some_place_2 : decode prog_6_method_4_code 2 = .ok (.iload_n 3, 1) := by decide +kernel
theorem d_Some_place_3 : decode prog_6_method_4_code 3 = .ok (.invokestatic 11, 3) := by decide +kernel
theorem d_Some_place_6 : decode prog_6_method_4_code 6 = .ok (.istore 4, 2) := by decide +kernel
theorem d_Some_place_8 : decode prog_6_method_4_code 8 = .ok (.iload 4, 2) := by decide +kernel
theorem d_Some_place_10 : decode prog_6_method_4_code 10 = .ok (.ifCond .ne 7, 3) := by decide +kernel
theorem d_Some_place_13 : decode prog_6_method_4_code 13 = .ok (.iconst 0, 1) := by decide +kernel
theorem d_Some_place_14 : decode prog_6_method_4_code 14 = .ok (.goto 12, 3) := by decide +kernel
theorem d_Some_place_17 : decode prog_6_method_4_code 17 = .ok (.iload_n 2, 1) := by decide +kernel
theorem d_Some_place_18 : decode prog_6_method_4_code 18 = .ok (.bipush 68, 2) := by decide +kernel
theorem d_Some_place_20 : decode prog_6_method_4_code 20 = .ok (.iadd, 1) := by decide +kernel
theorem d_Some_place_21 : decode prog_6_method_4_code 21 = .ok (.iload 4, 2) := by decide +kernel
theorem d_Some_place_23 : decode prog_6_method_4_code 23 = .ok (.iadd, 1) := by decide +kernel
theorem d_Some_place_24 : decode prog_6_method_4_code 24 = .ok (.iconst 1, 1) := by decide +kernel
theorem d_Some_place_25 : decode prog_6_method_4_code 25 = .ok (.isub, 1) := by decide +kernel
theorem d_Some_place_26 : decode prog_6_method_4_code 26 = .ok (.ireturn, 1) := by decide +kernel
theorem d_Some_add_0 : decode prog_6_method_5_code 0 = .ok (.aload_n 1, 1) := by decide +kernel
theorem d_Some_add_1 : decode prog_6_method_5_code 1 = .ok (.iload_n 2, 1) := by decide +kernel
theorem d_Some_add_2 : decode prog_6_method_5_code 2 = .ok (.bipush 68, 2) := by decide +kernel
theorem d_Some_add_4 : decode prog_6_method_5_code 4 = .ok (.iadd, 1) := by decide +kernel
theorem d_Some_add_5 : decode prog_6_method_5_code 5 = .ok (.aload_n 1, 1) := by decide +kernel
theorem d_Some_add_6 : decode prog_6_method_5_code 6 = .ok (.iload_n 2, 1) := by decide +kernel
theorem d_Some_add_7 : decode prog_6_method_5_code 7 = .ok (.iconst 1, 1) := by decide +kernel
theorem d_Some_add_8 : decode prog_6_method_5_code 8 = .ok (.iadd, 1) := by decide +kernel
theorem d_Some_add_9 : decode prog_6_method_5_code 9 = .ok (.iaload, 1) := by decide +kernel
theorem d_Some_add_10 : decode prog_6_method_5_code 10 = .ok (.iadd, 1) := by decide +kernel
theorem d_Some_add_11 : decode prog_6_method_5_code 11 = .ok (.iload 4, 2) := by decide +kernel
theorem d_Some_add_13 : decode prog_6_method_5_code 13 = .ok (.iastore, 1) := by decide +kernel
theorem d_Some_add_14 : decode prog_6_method_5_code 14 = .ok (.aload_n 1, 1) := by decide +kernel
theorem d_Some_add_15 : decode prog_6_method_5_code 15 = .ok (.iload_n 2, 1) := by decide +kernel
theorem d_Some_add_16 : decode prog_6_method_5_code 16 = .ok (.iconst 1, 1) := by decide +kernel
theorem d_Some_add_17 : decode prog_6_method_5_code 17 = .ok (.iadd, 1) := by decide +kernel
theorem d_Some_add_18 : decode prog_6_method_5_code 18 = .ok (.dup2, 1) := by decide +kernel
theorem d_Some_add_19 : decode prog_6_method_5_code 19 = .ok (.iaload, 1) := by decide +kernel
theorem d_Some_add_20 : decode prog_6_method_5_code 20 = .ok (.iconst 1, 1) := by decide +kernel
theorem d_Some_add_21 : decode prog_6_method_5_code 21 = .ok (.iadd, 1) := by decide +kernel
theorem d_Some_add_22 : decode prog_6_method_5_code 22 = .ok (.iastore, 1) := by decide +kernel
theorem d_Some_add_23 : decode prog_6_method_5_code 23 = .ok (.aload_n 1, 1) := by decide +kernel
theorem d_Some_add_24 : decode prog_6_method_5_code 24 = .ok (.iload_n 2, 1) := by decide +kernel
theorem d_Some_add_25 : decode prog_6_method_5_code 25 = .ok (.iload_n 3, 1) := by decide +kernel
theorem d_Some_add_26 : decode prog_6_method_5_code 26 = .ok (.aload_n 1, 1) := by decide +kernel
theorem d_Some_add_27 : decode prog_6_method_5_code 27 = .ok (.iload_n 2, 1) := by decide +kernel
theorem d_Some_add_28 : decode prog_6_method_5_code 28 = .ok (.iconst 1, 1) := by decide +kernel
theorem d_Some_add_29 : decode prog_6_method_5_code 29 = .ok (.iadd, 1) := by decide +kernel
theorem d_Some_add_30 : decode prog_6_method_5_code 30 = .ok (.iaload, 1) := by decide +kernel
theorem d_Some_add_31 : decode prog_6_method_5_code 31 = .ok (.invokestatic 15, 3) := by decide +kernel
theorem d_Some_add_34 : decode prog_6_method_5_code 34 = .ok (.return_, 1) := by decide +kernel
theorem d_Some_drop_0 : decode prog_6_method_6_code 0 = .ok (.aload_n 1, 1) := by decide +kernel
theorem d_Some_drop_1 : decode prog_6_method_6_code 1 = .ok (.iload_n 2, 1) := by decide +kernel
theorem d_Some_drop_2 : decode prog_6_method_6_code 2 = .ok (.iload_n 3, 1) := by decide +kernel
theorem d_Some_drop_3 : decode prog_6_method_6_code 3 = .ok (.invokestatic 11, 3) := by decide +kernel
theorem d_Some_drop_6 : decode prog_6_method_6_code 6 = .ok (.istore 4, 2) := by decide +kernel
theorem d_Some_drop_8 : decode prog_6_method_6_code 8 = .ok (.aload_n 1, 1) := by decide +kernel
theorem d_Some_drop_9 : decode prog_6_method_6_code 9 = .ok (.iload_n 2, 1) := by decide +kernel
theorem d_Some_drop_10 : decode prog_6_method_6_code 10 = .ok (.iconst 1, 1) := by decide +kernel
theorem d_Some_drop_11 : decode prog_6_method_6_code 11 = .ok (.iadd, 1) := by decide +kernel
theorem d_Some_drop_12 : decode prog_6_method_6_code 12 = .ok (.iaload, 1) := by decide +kernel
theorem d_Some_drop_13 : decode prog_6_method_6_code 13 = .ok (.istore 5, 2) := by decide +kernel
theorem d_Some_drop_15 : decode prog_6_method_6_code 15 = .ok (.aload_n 1, 1) := by decide +kernel
theorem d_Some_drop_16 : decode prog_6_method_6_code 16 = .ok (.iload_n 2, 1) := by decide +kernel
theorem d_Some_drop_17 : decode prog_6_method_6_code 17 = .ok (.iload_n 3, 1) := by decide +kernel
theorem d_Some_drop_18 : decode prog_6_method_6_code 18 = .ok (.iconst 0, 1) := by decide +kernel
theorem d_Some_drop_19 : decode prog_6_method_6_code 19 = .ok (.invokestatic 15, 3) := by decide +kernel
theorem d_Some_drop_22 : decode prog_6_method_6_code 22 = .ok (.iconst 0, 1) := by decide +kernel
theorem d_Some_drop_23 : decode prog_6_method_6_code 23 = .ok (.istore 6, 2) := by decide +kernel
theorem d_Some_drop_25 : decode prog_6_method_6_code 25 = .ok (.iload 6, 2) := by decide +kernel
theorem d_Some_drop_27 : decode prog_6_method_6_code 27 = .ok (.sipush 256, 3) := by decide +kernel
theorem d_Some_drop_30 : decode prog_6_method_6_code 30 = .ok (.if_icmp .ge 62, 3) := by decide +kernel
theorem d_Some_drop_33 : decode prog_6_method_6_code 33 = .ok (.iload 4, 2) := by decide +kernel
theorem d_Some_drop_35 : decode prog_6_method_6_code 35 = .ok (.iload 5, 2) := by decide +kernel
theorem d_Some_drop_37 : decode prog_6_method_6_code 37 = .ok (.if_icmp .ge 55, 3) := by decide +kernel
theorem d_Some_drop_40 : decode prog_6_method_6_code 40 = .ok (.aload_n 1, 1) := by decide +kernel
theorem d_Some_drop_41 : decode prog_6_method_6_code 41 = .ok (.iload_n 2, 1) := by decide +kernel
theorem d_Some_drop_42 : decode prog_6_method_6_code 42 = .ok (.iload 6, 2) := by decide +kernel
theorem d_Some_drop_44 : decode prog_6_method_6_code 44 = .ok (.invokestatic 11, 3) := by decide +kernel
theorem d_Some_drop_47 : decode prog_6_method_6_code 47 = .ok (.iload 5, 2) := by decide +kernel
theorem d_Some_drop_49 : decode prog_6_method_6_code 49 = .ok (.if_icmp .ne 37, 3) := by decide +kernel
theorem d_Some_drop_52 : decode prog_6_method_6_code 52 = .ok (.aload_n 1, 1) := by decide +kernel
theorem d_Some_drop_53 : decode prog_6_method_6_code 53 = .ok (.iload_n 2, 1) := by decide +kernel
theorem d_Some_drop_54 : decode prog_6_method_6_code 54 = .ok (.iload 6, 2) := by decide +kernel
theorem d_Some_drop_56 : decode prog_6_method_6_code 56 = .ok (.iload 4, 2) := by decide +kernel
theorem d_Some_drop_58 : decode prog_6_method_6_code 58 = .ok (.invokestatic 15, 3) := by decide +kernel
theorem d_Some_drop_61 : decode prog_6_method_6_code 61 = .ok (.aload_n 1, 1) := by decide +kernel
theorem d_Some_drop_62 : decode prog_6_method_6_code 62 = .ok (.iload_n 2, 1) := by decide +kernel
theorem d_Some_drop_63 : decode prog_6_method_6_code 63 = .ok (.bipush 68, 2) := by decide +kernel
theorem d_Some_drop_65 : decode prog_6_method_6_code 65 = .ok (.iadd, 1) := by decide +kernel
theorem d_Some_drop_66 : decode prog_6_method_6_code 66 = .ok (.iload 4, 2) := by decide +kernel
theorem d_Some_drop_68 : decode prog_6_method_6_code 68 = .ok (.iadd, 1) := by decide +kernel
theorem d_Some_drop_69 : decode prog_6_method_6_code 69 = .ok (.iconst 1, 1) := by decide +kernel
theorem d_Some_drop_70 : decode prog_6_method_6_code 70 = .ok (.isub, 1) := by decide +kernel
theorem d_Some_drop_71 : decode prog_6_method_6_code 71 = .ok (.aload_n 1, 1) := by decide +kernel
theorem d_Some_drop_72 : decode prog_6_method_6_code 72 = .ok (.iload_n 2, 1) := by decide +kernel
theorem d_Some_drop_73 : decode prog_6_method_6_code 73 = .ok (.bipush 68, 2) := by decide +kernel
theorem d_Some_drop_75 : decode prog_6_method_6_code 75 = .ok (.iadd, 1) := by decide +kernel
theorem d_Some_drop_76 : decode prog_6_method_6_code 76 = .ok (.iload 5, 2) := by decide +kernel
theorem d_Some_drop_78 : decode prog_6_method_6_code 78 = .ok (.iadd, 1) := by decide +kernel
theorem d_Some_drop_79 : decode prog_6_method_6_code 79 = .ok (.iconst 1, 1) := by decide +kernel
theorem d_Some_drop_80 : decode prog_6_method_6_code 80 = .ok (.isub, 1) := by decide +kernel
theorem d_Some_drop_81 : decode prog_6_method_6_code 81 = .ok (.iaload, 1) := by decide +kernel
theorem d_Some_drop_82 : decode prog_6_method_6_code 82 = .ok (.iastore, 1) := by decide +kernel
theorem d_Some_drop_83 : decode prog_6_method_6_code 83 = .ok (.goto 9, 3) := by decide +kernel
theorem d_Some_drop_86 : decode prog_6_method_6_code 86 = .ok (.iinc 6 1, 3) := by decide +kernel
theorem d_Some_drop_89 : decode prog_6_method_6_code 89 = .ok (.goto (-64), 3) := by decide +kernel
theorem d_Some_drop_92 : decode prog_6_method_6_code 92 = .ok (.aload_n 1, 1) := by decide +kernel
theorem d_Some_drop_93 : decode prog_6_method_6_code 93 = .ok (.iload_n 2, 1) := by decide +kernel
theorem d_Some_drop_94 : decode prog_6_method_6_code 94 = .ok (.iconst 1, 1) := by decide +kernel
theorem d_Some_drop_95 : decode prog_6_method_6_code 95 = .ok (.iadd, 1) := by decide +kernel
theorem d_Some_drop_96 : decode prog_6_method_6_code 96 = .ok (.dup2, 1) := by decide +kernel
theorem d_Some_drop_97 : decode prog_6_method_6_code 97 = .ok (.iaload, 1) := by decide +kernel
theorem d_Some_drop_98 : decode prog_6_method_6_code 98 = .ok (.iconst 1, 1) := by decide +kernel
theorem d_Some_drop_99 : decode prog_6_method_6_code 99 = .ok (.isub, 1) := by decide +kernel
theorem d_Some_drop_100 : decode prog_6_method_6_code 100 = .ok (.iastore, 1) := by decide +kernel
theorem d_Some_drop_101 : decode prog_6_method_6_code 101 = .ok (.return_, 1) := by decide +kernel
theorem d_Some_from_0 : decode prog_6_method_7_code 0 = .ok (.iload_n 3, 1) := by decide +kernel
theorem d_Some_from_1 : decode prog_6_method_7_code 1 = .ok (.istore 4, 2) := by decide +kernel
theorem d_Some_from_3 : decode prog_6_method_7_code 3 = .ok (.iload 4, 2) := by decide +kernel
theorem d_Some_from_5 : decode prog_6_method_7_code 5 = .ok (.sipush 256, 3) := by decide +kernel
theorem d_Some_from_8 : decode prog_6_method_7_code 8 = .ok (.if_icmp .ge 19, 3) := by decide +kernel
theorem d_Some_from_11 : decode prog_6_method_7_code 11 = .ok (.aload_n 1, 1) := by decide +kernel
theorem d_Some_from_12 : decode prog_6_method_7_code 12 = .ok (.iload_n 2, 1) := by decide +kernel
theorem d_Some_from_13 : decode prog_6_method_7_code 13 = .ok (.iload 4, 2) := by decide +kernel
theorem d_Some_from_15 : decode prog_6_method_7_code 15 = .ok (.invokestatic 11, 3) := by decide +kernel
theorem d_Some_from_18 : decode prog_6_method_7_code 18 = .ok (.ifCond .ne 9, 3) := by decide +kernel
theorem d_Some_from_21 : decode prog_6_method_7_code 21 = .ok (.iinc 4 1, 3) := by decide +kernel
theorem d_Some_from_24 : decode prog_6_method_7_code 24 = .ok (.goto (-21), 3) := by decide +kernel
theorem d_Some_from_27 : decode prog_6_method_7_code 27 = .ok (.iload 4, 2) := by decide +kernel
theorem d_Some_from_29 : decode prog_6_method_7_code 29 = .ok (.sipush 256, 3) := by decide +kernel
theorem d_Some_from_32 : decode prog_6_method_7_code 32 = .ok (.if_icmp .ge 8, 3) := by decide +kernel
theorem d_Some_from_35 : decode prog_6_method_7_code 35 = .ok (.iload 4, 2) := by decide +kernel
theorem d_Some_from_37 : decode prog_6_method_7_code 37 = .ok (.goto 4, 3) := by decide +kernel
theorem d_Some_from_40 : decode prog_6_method_7_code 40 = .ok (.iconst (-1), 1) := by decide +kernel
theorem d_Some_from_41 : decode prog_6_method_7_code 41 = .ok (.ireturn, 1) := by decide +kernel
