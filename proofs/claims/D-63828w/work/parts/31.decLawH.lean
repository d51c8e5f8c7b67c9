abbrev wO (G : zG) (a : Nat) (f : Nat → Int64) : va_W := [(a, .inl (G.2.2.2, 1, .inr (.inl f)))]
theorem d_Law_cell_0 : decode method_2_code 0 = .ok (.iload_n 1, 1) := by decide +kernel
theorem d_Law_cell_1 : decode method_2_code 1 = .ok (.aload_n 0, 1) := by decide +kernel
theorem d_Law_cell_2 : decode method_2_code 2 = .ok (.arraylength, 1) := by decide +kernel
theorem d_Law_cell_3 : decode method_2_code 3 = .ok (.if_icmp .ge 9, 3) := by decide +kernel
theorem d_Law_cell_6 : decode method_2_code 6 = .ok (.aload_n 0, 1) := by decide +kernel
theorem d_Law_cell_7 : decode method_2_code 7 = .ok (.iload_n 1, 1) := by decide +kernel
theorem d_Law_cell_8 : decode method_2_code 8 = .ok (.iaload, 1) := by decide +kernel
theorem d_Law_cell_9 : decode method_2_code 9 = .ok (.goto 4, 3) := by decide +kernel
theorem d_Law_cell_12 : decode method_2_code 12 = .ok (.iconst 0, 1) := by decide +kernel
theorem d_Law_cell_13 : decode method_2_code 13 = .ok (.ireturn, 1) := by decide +kernel
theorem d_Law_number_0 : decode method_3_code 0 = .ok (.aload_n 0, 1) := by decide +kernel
theorem d_Law_number_1 : decode method_3_code 1 = .ok (.lload_n 1, 1) := by decide +kernel
theorem d_Law_number_2 : decode method_3_code 2 = .ok (.invokevirtual 7, 3) := by decide +kernel
theorem d_Law_number_5 : decode method_3_code 5 = .ok (.goto 6, 3) := by decide +kernel
theorem d_Law_number_8 : decode method_3_code 8 = .ok (.astore_n 3, 1) := by decide +kernel
theorem d_Law_number_9 : decode method_3_code 9 = .ok (.iconst 1, 1) := by decide +kernel
theorem d_Law_number_10 : decode method_3_code 10 = .ok (.ireturn, 1) := by decide +kernel
theorem d_Law_number_11 : decode method_3_code 11 = .ok (.iconst 0, 1) := by decide +kernel
theorem d_Law_number_12 : decode method_3_code 12 = .ok (.ireturn, 1) := by decide +kernel
theorem d_Law_pair_0 : decode method_4_code 0 = .ok (.aload_n 0, 1) := by decide +kernel
theorem d_Law_pair_1 : decode method_4_code 1 = .ok (.lload_n 1, 1) := by decide +kernel
theorem d_Law_pair_2 : decode method_4_code 2 = .ok (.lload_n 3, 1) := by decide +kernel
theorem d_Law_pair_3 : decode method_4_code 3 = .ok (.invokevirtual 15, 3) := by decide +kernel
theorem d_Law_pair_6 : decode method_4_code 6 = .ok (.goto 7, 3) := by decide +kernel
theorem d_Law_pair_9 : decode method_4_code 9 = .ok (.astore 5, 2) := by decide +kernel
theorem d_Law_pair_11 : decode method_4_code 11 = .ok (.iconst 1, 1) := by decide +kernel
theorem d_Law_pair_12 : decode method_4_code 12 = .ok (.ireturn, 1) := by decide +kernel
theorem d_Law_pair_13 : decode method_4_code 13 = .ok (.iconst 0, 1) := by decide +kernel
theorem d_Law_pair_14 : decode method_4_code 14 = .ok (.ireturn, 1) := by decide +kernel
theorem d_Law_letter_0 : decode method_5_code 0 = .ok (.aload_n 2, 1) := by decide +kernel
theorem d_Law_letter_1 : decode method_5_code 1 = .ok (.iconst 0, 1) := by decide +kernel
theorem d_Law_letter_2 : decode method_5_code 2 = .ok (.aload_n 0, 1) := by decide +kernel
theorem d_Law_letter_3 : decode method_5_code 3 = .ok (.iload_n 1, 1) := by decide +kernel
theorem d_Law_letter_4 : decode method_5_code 4 = .ok (.invokevirtual 19, 3) := by decide +kernel
theorem d_Law_letter_7 : decode method_5_code 7 = .ok (.i2l, 1) := by decide +kernel
theorem d_Law_letter_8 : decode method_5_code 8 = .ok (.lastore, 1) := by decide +kernel
theorem d_Law_letter_9 : decode method_5_code 9 = .ok (.goto 12, 3) := by decide +kernel
theorem d_Law_letter_12 : decode method_5_code 12 = .ok (.astore_n 3, 1) := by decide +kernel
theorem d_Law_letter_13 : decode method_5_code 13 = .ok (.iconst 1, 1) := by decide +kernel
theorem d_Law_letter_14 : decode method_5_code 14 = .ok (.ireturn, 1) := by decide +kernel
theorem d_Law_letter_15 : decode method_5_code 15 = .ok (.astore_n 3, 1) := by decide +kernel
theorem d_Law_letter_16 : decode method_5_code 16 = .ok (.iconst 2, 1) := by decide +kernel
theorem d_Law_letter_17 : decode method_5_code 17 = .ok (.ireturn, 1) := by decide +kernel
theorem d_Law_letter_18 : decode method_5_code 18 = .ok (.astore_n 3, 1) := by decide +kernel
theorem d_Law_letter_19 : decode method_5_code 19 = .ok (.iconst 3, 1) := by decide +kernel
theorem d_Law_letter_20 : decode method_5_code 20 = .ok (.ireturn, 1) := by decide +kernel
theorem d_Law_letter_21 : decode method_5_code 21 = .ok (.iconst 0, 1) := by decide +kernel
theorem d_Law_letter_22 : decode method_5_code 22 = .ok (.ireturn, 1) := by decide +kernel
theorem d_Law_take_0 : decode method_6_code 0 = .ok (.aload_n 0, 1) := by decide +kernel
theorem d_Law_take_1 : decode method_6_code 1 = .ok (.invokevirtual 27, 3) := by decide +kernel
theorem d_Law_take_4 : decode method_6_code 4 = .ok (.goto 6, 3) := by decide +kernel
theorem d_Law_take_7 : decode method_6_code 7 = .ok (.astore_n 1, 1) := by decide +kernel
theorem d_Law_take_8 : decode method_6_code 8 = .ok (.iconst 1, 1) := by decide +kernel
theorem d_Law_take_9 : decode method_6_code 9 = .ok (.ireturn, 1) := by decide +kernel
theorem d_Law_take_10 : decode method_6_code 10 = .ok (.iconst 0, 1) := by decide +kernel
theorem d_Law_take_11 : decode method_6_code 11 = .ok (.ireturn, 1) := by decide +kernel
theorem d_Law_put_0 : decode method_7_code 0 = .ok (.aload_n 3, 1) := by decide +kernel
theorem d_Law_put_1 : decode method_7_code 1 = .ok (.iconst 0, 1) := by decide +kernel
theorem d_Law_put_2 : decode method_7_code 2 = .ok (.aload_n 0, 1) := by decide +kernel
theorem d_Law_put_3 : decode method_7_code 3 = .ok (.lload_n 1, 1) := by decide +kernel
theorem d_Law_put_4 : decode method_7_code 4 = .ok (.invokevirtual 32, 3) := by decide +kernel
theorem d_Law_put_7 : decode method_7_code 7 = .ok (.ifCond .eq 7, 3) := by decide +kernel
theorem d_Law_put_10 : decode method_7_code 10 = .ok (.lconst 1, 1) := by decide +kernel
theorem d_Law_put_11 : decode method_7_code 11 = .ok (.goto 4, 3) := by decide +kernel
theorem d_Law_put_14 : decode method_7_code 14 = .ok (.lconst 0, 1) := by decide +kernel
theorem d_Law_put_15 : decode method_7_code 15 = .ok (.lastore, 1) := by decide +kernel
theorem d_Law_put_16 : decode method_7_code 16 = .ok (.goto 7, 3) := by decide +kernel
theorem d_Law_put_19 : decode method_7_code 19 = .ok (.astore 4, 2) := by decide +kernel
theorem d_Law_put_21 : decode method_7_code 21 = .ok (.iconst 1, 1) := by decide +kernel
theorem d_Law_put_22 : decode method_7_code 22 = .ok (.ireturn, 1) := by decide +kernel
theorem d_Law_put_23 : decode method_7_code 23 = .ok (.iconst 0, 1) := by decide +kernel
theorem d_Law_put_24 : decode method_7_code 24 = .ok (.ireturn, 1) := by decide +kernel
theorem d_Law_get_0 : decode method_8_code 0 = .ok (.aload_n 1, 1) := by decide +kernel
theorem d_Law_get_1 : decode method_8_code 1 = .ok (.iconst 0, 1) := by decide +kernel
theorem d_Law_get_2 : decode method_8_code 2 = .ok (.aload_n 0, 1) := by decide +kernel
theorem d_Law_get_3 : decode method_8_code 3 = .ok (.invokevirtual 36, 3) := by decide +kernel
theorem d_Law_get_6 : decode method_8_code 6 = .ok (.lastore, 1) := by decide +kernel
theorem d_Law_get_7 : decode method_8_code 7 = .ok (.goto 6, 3) := by decide +kernel
theorem d_Law_get_10 : decode method_8_code 10 = .ok (.astore_n 2, 1) := by decide +kernel
theorem d_Law_get_11 : decode method_8_code 11 = .ok (.iconst 1, 1) := by decide +kernel
theorem d_Law_get_12 : decode method_8_code 12 = .ok (.ireturn, 1) := by decide +kernel
theorem d_Law_get_13 : decode method_8_code 13 = .ok (.iconst 0, 1) := by decide +kernel
theorem d_Law_get_14 : decode method_8_code 14 = .ok (.ireturn, 1) := by decide +kernel
theorem d_Law_remove_0 : decode method_9_code 0 = .ok (.aload_n 1, 1) := by decide +kernel
theorem d_Law_remove_1 : decode method_9_code 1 = .ok (.iconst 0, 1) := by decide +kernel
theorem d_Law_remove_2 : decode method_9_code 2 = .ok (.aload_n 0, 1) := by decide +kernel
theorem d_Law_remove_3 : decode method_9_code 3 = .ok (.invokevirtual 40, 3) := by decide +kernel
theorem d_Law_remove_6 : decode method_9_code 6 = .ok (.lastore, 1) := by decide +kernel
theorem d_Law_remove_7 : decode method_9_code 7 = .ok (.goto 6, 3) := by decide +kernel
theorem d_Law_remove_10 : decode method_9_code 10 = .ok (.astore_n 2, 1) := by decide +kernel
theorem d_Law_remove_11 : decode method_9_code 11 = .ok (.iconst 1, 1) := by decide +kernel
theorem d_Law_remove_12 : decode method_9_code 12 = .ok (.ireturn, 1) := by decide +kernel
theorem d_Law_remove_13 : decode method_9_code 13 = .ok (.iconst 0, 1) := by decide +kernel
theorem d_Law_remove_14 : decode method_9_code 14 = .ok (.ireturn, 1) := by decide +kernel
theorem d_Law_seek_0 : decode method_10_code 0 = .ok (.aload_n 2, 1) := by decide +kernel
theorem d_Law_seek_1 : decode method_10_code 1 = .ok (.iconst 0, 1) := by decide +kernel
theorem d_Law_seek_2 : decode method_10_code 2 = .ok (.aload_n 0, 1) := by decide +kernel
theorem d_Law_seek_3 : decode method_10_code 3 = .ok (.iload_n 1, 1) := by decide +kernel
theorem d_Law_seek_4 : decode method_10_code 4 = .ok (.invokevirtual 43, 3) := by decide +kernel
theorem d_Law_seek_7 : decode method_10_code 7 = .ok (.ifCond .eq 7, 3) := by decide +kernel
theorem d_Law_seek_10 : decode method_10_code 10 = .ok (.lconst 1, 1) := by decide +kernel
theorem d_Law_seek_11 : decode method_10_code 11 = .ok (.goto 4, 3) := by decide +kernel
theorem d_Law_seek_14 : decode method_10_code 14 = .ok (.lconst 0, 1) := by decide +kernel
theorem d_Law_seek_15 : decode method_10_code 15 = .ok (.lastore, 1) := by decide +kernel
theorem d_Law_seek_16 : decode method_10_code 16 = .ok (.goto 6, 3) := by decide +kernel
theorem d_Law_seek_19 : decode method_10_code 19 = .ok (.astore_n 3, 1) := by decide +kernel
theorem d_Law_seek_20 : decode method_10_code 20 = .ok (.iconst 1, 1) := by decide +kernel
theorem d_Law_seek_21 : decode method_10_code 21 = .ok (.ireturn, 1) := by decide +kernel
theorem d_Law_seek_22 : decode method_10_code 22 = .ok (.iconst 0, 1) := by decide +kernel
theorem d_Law_seek_23 : decode method_10_code 23 = .ok (.ireturn, 1) := by decide +kernel
theorem d_Law_move_0 : decode method_11_code 0 = .ok (.aload_n 2, 1) := by decide +kernel
theorem d_Law_move_1 : decode method_11_code 1 = .ok (.iconst 0, 1) := by decide +kernel
theorem d_Law_move_2 : decode method_11_code 2 = .ok (.aload_n 0, 1) := by decide +kernel
theorem d_Law_move_3 : decode method_11_code 3 = .ok (.iload_n 1, 1) := by decide +kernel
theorem d_Law_move_4 : decode method_11_code 4 = .ok (.invokevirtual 47, 3) := by decide +kernel
theorem d_Law_move_7 : decode method_11_code 7 = .ok (.ifCond .eq 7, 3) := by decide +kernel
theorem d_Law_move_10 : decode method_11_code 10 = .ok (.lconst 1, 1) := by decide +kernel
theorem d_Law_move_11 : decode method_11_code 11 = .ok (.goto 4, 3) := by decide +kernel
theorem d_Law_move_14 : decode method_11_code 14 = .ok (.lconst 0, 1) := by decide +kernel
theorem d_Law_move_15 : decode method_11_code 15 = .ok (.lastore, 1) := by decide +kernel
theorem d_Law_move_16 : decode method_11_code 16 = .ok (.goto 6, 3) := by decide +kernel
theorem d_Law_move_19 : decode method_11_code 19 = .ok (.astore_n 3, 1) := by decide +kernel
theorem d_Law_move_20 : decode method_11_code 20 = .ok (.iconst 1, 1) := by decide +kernel
theorem d_Law_move_21 : decode method_11_code 21 = .ok (.ireturn, 1) := by decide +kernel
theorem d_Law_move_22 : decode method_11_code 22 = .ok (.iconst 0, 1) := by decide +kernel
theorem d_Law_move_23 : decode method_11_code 23 = .ok (.ireturn, 1) := by decide +kernel
theorem d_Law_length_0 : decode method_12_code 0 = .ok (.aload_n 1, 1) := by decide +kernel
theorem d_Law_length_1 : decode method_12_code 1 = .ok (.iconst 0, 1) := by decide +kernel
theorem d_Law_length_2 : decode method_12_code 2 = .ok (.aload_n 0, 1) := by decide +kernel
theorem d_Law_length_3 : decode method_12_code 3 = .ok (.invokevirtual 51, 3) := by decide +kernel
theorem d_Law_length_6 : decode method_12_code 6 = .ok (.i2l, 1) := by decide +kernel
theorem d_Law_length_7 : decode method_12_code 7 = .ok (.lastore, 1) := by decide +kernel
theorem d_Law_length_8 : decode method_12_code 8 = .ok (.goto 6, 3) := by decide +kernel
theorem d_Law_length_11 : decode method_12_code 11 = .ok (.astore_n 2, 1) := by decide +kernel
theorem d_Law_length_12 : decode method_12_code 12 = .ok (.iconst 1, 1) := by decide +kernel
theorem d_Law_length_13 : decode method_12_code 13 = .ok (.ireturn, 1) := by decide +kernel
theorem d_Law_length_14 : decode method_12_code 14 = .ok (.iconst 0, 1) := by decide +kernel
theorem d_Law_length_15 : decode method_12_code 15 = .ok (.ireturn, 1) := by decide +kernel
theorem d_Law_part_0 : decode method_13_code 0 = .ok (.aload_n 2, 1) := by decide +kernel
theorem d_Law_part_1 : decode method_13_code 1 = .ok (.iconst 0, 1) := by decide +kernel
theorem d_Law_part_2 : decode method_13_code 2 = .ok (.aload_n 0, 1) := by decide +kernel
theorem d_Law_part_3 : decode method_13_code 3 = .ok (.iload_n 1, 1) := by decide +kernel
theorem d_Law_part_4 : decode method_13_code 4 = .ok (.invokevirtual 55, 3) := by decide +kernel
theorem d_Law_part_7 : decode method_13_code 7 = .ok (.lastore, 1) := by decide +kernel
theorem d_Law_part_8 : decode method_13_code 8 = .ok (.goto 9, 3) := by decide +kernel
theorem d_Law_part_11 : decode method_13_code 11 = .ok (.astore_n 3, 1) := by decide +kernel
theorem d_Law_part_12 : decode method_13_code 12 = .ok (.iconst 1, 1) := by decide +kernel
theorem d_Law_part_13 : decode method_13_code 13 = .ok (.ireturn, 1) := by decide +kernel
theorem d_Law_part_14 : decode method_13_code 14 = .ok (.astore_n 3, 1) := by decide +kernel
theorem d_Law_part_15 : decode method_13_code 15 = .ok (.iconst 2, 1) := by decide +kernel
theorem d_Law_part_16 : decode method_13_code 16 = .ok (.ireturn, 1) := by decide +kernel
theorem d_Law_part_17 : decode method_13_code 17 = .ok (.iconst 0, 1) := by decide +kernel
theorem d_Law_part_18 : decode method_13_code 18 = .ok (.ireturn, 1) := by decide +kernel
theorem d_Law_value_0 : decode method_14_code 0 = .ok (.aload_n 1, 1) := by decide +kernel
theorem d_Law_value_1 : decode method_14_code 1 = .ok (.iconst 0, 1) := by decide +kernel
theorem d_Law_value_2 : decode method_14_code 2 = .ok (.aload_n 0, 1) := by decide +kernel
theorem d_Law_value_3 : decode method_14_code 3 = .ok (.invokevirtual 61, 3) := by decide +kernel
theorem d_Law_value_6 : decode method_14_code 6 = .ok (.lastore, 1) := by decide +kernel
theorem d_Law_value_7 : decode method_14_code 7 = .ok (.goto 6, 3) := by decide +kernel
theorem d_Law_value_10 : decode method_14_code 10 = .ok (.astore_n 2, 1) := by decide +kernel
theorem d_Law_value_11 : decode method_14_code 11 = .ok (.iconst 1, 1) := by decide +kernel
theorem d_Law_value_12 : decode method_14_code 12 = .ok (.ireturn, 1) := by decide +kernel
theorem d_Law_value_13 : decode method_14_code 13 = .ok (.iconst 0, 1) := by decide +kernel
theorem d_Law_value_14 : decode method_14_code 14 = .ok (.ireturn, 1) := by decide +kernel
theorem d_Law_select_0 : decode method_15_code 0 = .ok (.aload_n 0, 1) := by decide +kernel
theorem d_Law_select_1 : decode method_15_code 1 = .ok (.iload_n 1, 1) := by decide +kernel
theorem d_Law_select_2 : decode method_15_code 2 = .ok (.invokevirtual 64, 3) := by decide +kernel
theorem d_Law_select_5 : decode method_15_code 5 = .ok (.goto 6, 3) := by decide +kernel
theorem d_Law_select_8 : decode method_15_code 8 = .ok (.astore_n 2, 1) := by decide +kernel
theorem d_Law_select_9 : decode method_15_code 9 = .ok (.iconst 1, 1) := by decide +kernel
theorem d_Law_select_10 : decode method_15_code 10 = .ok (.ireturn, 1) := by decide +kernel
theorem d_Law_select_11 : decode method_15_code 11 = .ok (.iconst 0, 1) := by decide +kernel
theorem d_Law_select_12 : decode method_15_code 12 = .ok (.ireturn, 1) := by decide +kernel
theorem d_Law_begins_0 : decode method_16_code 0 = .ok (.aload_n 1, 1) := by decide +kernel
theorem d_Law_begins_1 : decode method_16_code 1 = .ok (.iconst 0, 1) := by decide +kernel
theorem d_Law_begins_2 : decode method_16_code 2 = .ok (.aload_n 0, 1) := by decide +kernel
theorem d_Law_begins_3 : decode method_16_code 3 = .ok (.invokevirtual 68, 3) := by decide +kernel
theorem d_Law_begins_6 : decode method_16_code 6 = .ok (.i2l, 1) := by decide +kernel
theorem d_Law_begins_7 : decode method_16_code 7 = .ok (.lastore, 1) := by decide +kernel
theorem d_Law_begins_8 : decode method_16_code 8 = .ok (.goto 6, 3) := by decide +kernel
theorem d_Law_begins_11 : decode method_16_code 11 = .ok (.astore_n 2, 1) := by decide +kernel
theorem d_Law_begins_12 : decode method_16_code 12 = .ok (.iconst 1, 1) := by decide +kernel
theorem d_Law_begins_13 : decode method_16_code 13 = .ok (.ireturn, 1) := by decide +kernel
theorem d_Law_begins_14 : decode method_16_code 14 = .ok (.iconst 0, 1) := by decide +kernel
theorem d_Law_begins_15 : decode method_16_code 15 = .ok (.ireturn, 1) := by decide +kernel
theorem d_Law_load_0 : decode method_17_code 0 = .ok (.aload_n 0, 1) := by decide +kernel
theorem d_Law_load_1 : decode method_17_code 1 = .ok (.lload_n 1, 1) := by decide +kernel
theorem d_Law_load_2 : decode method_17_code 2 = .ok (.iload_n 3, 1) := by decide +kernel
theorem d_Law_load_3 : decode method_17_code 3 = .ok (.lload 4, 2) := by decide +kernel
theorem d_Law_load_5 : decode method_17_code 5 = .ok (.invokevirtual 71, 3) := by decide +kernel
theorem d_Law_load_8 : decode method_17_code 8 = .ok (.goto 15, 3) := by decide +kernel
theorem d_Law_load_11 : decode method_17_code 11 = .ok (.astore 6, 2) := by decide +kernel
theorem d_Law_load_13 : decode method_17_code 13 = .ok (.iconst 1, 1) := by decide +kernel
theorem d_Law_load_14 : decode method_17_code 14 = .ok (.ireturn, 1) := by decide +kernel
theorem d_Law_load_15 : decode method_17_code 15 = .ok (.astore 6, 2) := by decide +kernel
theorem d_Law_load_17 : decode method_17_code 17 = .ok (.iconst 2, 1) := by decide +kernel
theorem d_Law_load_18 : decode method_17_code 18 = .ok (.ireturn, 1) := by decide +kernel
theorem d_Law_load_19 : decode method_17_code 19 = .ok (.astore 6, 2) := by decide +kernel
theorem d_Law_load_21 : decode method_17_code 21 = .ok (.iconst 3, 1) := by decide +kernel
theorem d_Law_load_22 : decode method_17_code 22 = .ok (.ireturn, 1) := by decide +kernel
theorem d_Law_load_23 : decode method_17_code 23 = .ok (.iconst 0, 1) := by decide +kernel
theorem d_Law_load_24 : decode method_17_code 24 = .ok (.ireturn, 1) := by decide +kernel
theorem d_Law_about_0 : decode method_18_code 0 = .ok (.aload_n 2, 1) := by decide +kernel
theorem d_Law_about_1 : decode method_18_code 1 = .ok (.iconst 0, 1) := by decide +kernel
theorem d_Law_about_2 : decode method_18_code 2 = .ok (.aload_n 0, 1) := by decide +kernel
theorem d_Law_about_3 : decode method_18_code 3 = .ok (.iload_n 1, 1) := by decide +kernel
theorem d_Law_about_4 : decode method_18_code 4 = .ok (.invokevirtual 75, 3) := by decide +kernel
theorem d_Law_about_7 : decode method_18_code 7 = .ok (.i2l, 1) := by decide +kernel
theorem d_Law_about_8 : decode method_18_code 8 = .ok (.lastore, 1) := by decide +kernel
theorem d_Law_about_9 : decode method_18_code 9 = .ok (.goto 6, 3) := by decide +kernel
theorem d_Law_about_12 : decode method_18_code 12 = .ok (.astore_n 3, 1) := by decide +kernel
theorem d_Law_about_13 : decode method_18_code 13 = .ok (.iconst 1, 1) := by decide +kernel
theorem d_Law_about_14 : decode method_18_code 14 = .ok (.ireturn, 1) := by decide +kernel
theorem d_Law_about_15 : decode method_18_code 15 = .ok (.iconst 0, 1) := by decide +kernel
theorem d_Law_about_16 : decode method_18_code 16 = .ok (.ireturn, 1) := by decide +kernel
