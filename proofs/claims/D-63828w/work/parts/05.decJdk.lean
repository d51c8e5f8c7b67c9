theorem d_Object_init_0 : decode object_method_1_code 0 = .ok (.return_, 1) := by decide +kernel
theorem d_Exception_init_0 : decode prog_11_method_1_code 0 = .ok (.aload_n 0, 1) := by decide +kernel
theorem d_Exception_init_1 : decode prog_11_method_1_code 1 = .ok (.invokespecial 1, 3) := by decide +kernel
theorem d_Exception_init_4 : decode prog_11_method_1_code 4 = .ok (.return_, 1) := by decide +kernel
theorem d_IllegalArgumentException_init_0 : decode prog_12_method_1_code 0 = .ok (.aload_n 0, 1) := by decide +kernel
theorem d_IllegalArgumentException_init_1 : decode prog_12_method_1_code 1 = .ok (.invokespecial 1, 3) := by decide +kernel
theorem d_IllegalArgumentException_init_4 : decode prog_12_method_1_code 4 = .ok (.return_, 1) := by decide +kernel
theorem d_IllegalStateException_init_0 : decode prog_13_method_1_code 0 = .ok (.aload_n 0, 1) := by decide +kernel
theorem d_IllegalStateException_init_1 : decode prog_13_method_1_code 1 = .ok (.invokespecial 1, 3) := by decide +kernel
theorem d_IllegalStateException_init_4 : decode prog_13_method_1_code 4 = .ok (.return_, 1) := by decide +kernel
theorem d_IndexOutOfBoundsException_init_0 : decode prog_14_method_1_code 0 = .ok (.aload_n 0, 1) := by decide +kernel
theorem d_IndexOutOfBoundsException_init_1 : decode prog_14_method_1_code 1 = .ok (.invokespecial 1, 3) := by decide +kernel
theorem d_IndexOutOfBoundsException_init_4 : decode prog_14_method_1_code 4 = .ok (.return_, 1) := by decide +kernel
theorem d_Long_compare_0 : decode prog_15_method_42_code 0 = .ok (.lload_n 0, 1) := by decide +kernel
theorem d_Long_compare_1 : decode prog_15_method_42_code 1 = .ok (.lload_n 2, 1) := by decide +kernel
theorem d_Long_compare_2 : decode prog_15_method_42_code 2 = .ok (.lcmp, 1) := by decide +kernel
theorem d_Long_compare_3 : decode prog_15_method_42_code 3 = .ok (.ifCond .ge 7, 3) := by decide +kernel
theorem d_Long_compare_6 : decode prog_15_method_42_code 6 = .ok (.iconst (-1), 1) := by decide +kernel
theorem d_Long_compare_7 : decode prog_15_method_42_code 7 = .ok (.goto 14, 3) := by decide +kernel
theorem d_Long_compare_10 : decode prog_15_method_42_code 10 = .ok (.lload_n 0, 1) := by decide +kernel
theorem d_Long_compare_11 : decode prog_15_method_42_code 11 = .ok (.lload_n 2, 1) := by decide +kernel
theorem d_Long_compare_12 : decode prog_15_method_42_code 12 = .ok (.lcmp, 1) := by decide +kernel
theorem d_Long_compare_13 : decode prog_15_method_42_code 13 = .ok (.ifCond .ne 7, 3) := by decide +kernel
theorem d_Long_compare_16 : decode prog_15_method_42_code 16 = .ok (.iconst 0, 1) := by decide +kernel
theorem d_Long_compare_17 : decode prog_15_method_42_code 17 = .ok (.goto 4, 3) := by decide +kernel
theorem d_Long_compare_20 : decode prog_15_method_42_code 20 = .ok (.iconst 1, 1) := by decide +kernel
theorem d_Long_compare_21 : decode prog_15_method_42_code 21 = .ok (.ireturn, 1) := by decide +kernel
theorem d_Long_compareUnsigned_0 : decode prog_15_method_43_code 0 = .ok (.lload_n 0, 1) := by decide +kernel
theorem d_Long_compareUnsigned_1 : decode prog_15_method_43_code 1 = .ok (.ldc2_w 168, 3) := by decide +kernel
theorem d_Long_compareUnsigned_4 : decode prog_15_method_43_code 4 = .ok (.ladd, 1) := by decide +kernel
theorem d_Long_compareUnsigned_5 : decode prog_15_method_43_code 5 = .ok (.lload_n 2, 1) := by decide +kernel
theorem d_Long_compareUnsigned_6 : decode prog_15_method_43_code 6 = .ok (.ldc2_w 168, 3) := by decide +kernel
theorem d_Long_compareUnsigned_9 : decode prog_15_method_43_code 9 = .ok (.ladd, 1) := by decide +kernel
theorem d_Long_compareUnsigned_10 : decode prog_15_method_43_code 10 = .ok (.invokestatic 302, 3) := by decide +kernel
theorem d_Long_compareUnsigned_13 : decode prog_15_method_43_code 13 = .ok (.ireturn, 1) := by decide +kernel
theorem d_Long_divideUnsigned_0 : decode prog_15_method_44_code 0 = .ok (.lload_n 2, 1) := by decide +kernel
theorem d_Long_divideUnsigned_1 : decode prog_15_method_44_code 1 = .ok (.lconst 0, 1) := by decide +kernel
theorem d_Long_divideUnsigned_2 : decode prog_15_method_44_code 2 = .ok (.lcmp, 1) := by decide +kernel
theorem d_Long_divideUnsigned_3 : decode prog_15_method_44_code 3 = .ok (.ifCond .lt 38, 3) := by decide +kernel
theorem d_Long_divideUnsigned_6 : decode prog_15_method_44_code 6 = .ok (.lload_n 0, 1) := by decide +kernel
theorem d_Long_divideUnsigned_7 : decode prog_15_method_44_code 7 = .ok (.iconst 1, 1) := by decide +kernel
theorem d_Long_divideUnsigned_8 : decode prog_15_method_44_code 8 = .ok (.lushr, 1) := by decide +kernel
theorem d_Long_divideUnsigned_9 : decode prog_15_method_44_code 9 = .ok (.lload_n 2, 1) := by decide +kernel
theorem d_Long_divideUnsigned_10 : decode prog_15_method_44_code 10 = .ok (.ldiv, 1) := by decide +kernel
theorem d_Long_divideUnsigned_11 : decode prog_15_method_44_code 11 = .ok (.iconst 1, 1) := by decide +kernel
theorem d_Long_divideUnsigned_12 : decode prog_15_method_44_code 12 = .ok (.lshl, 1) := by decide +kernel
theorem d_Long_divideUnsigned_13 : decode prog_15_method_44_code 13 = .ok (.lstore 4, 2) := by decide +kernel
theorem d_Long_divideUnsigned_15 : decode prog_15_method_44_code 15 = .ok (.lload_n 0, 1) := by decide +kernel
theorem d_Long_divideUnsigned_16 : decode prog_15_method_44_code 16 = .ok (.lload 4, 2) := by decide +kernel
theorem d_Long_divideUnsigned_18 : decode prog_15_method_44_code 18 = .ok (.lload_n 2, 1) := by decide +kernel
theorem d_Long_divideUnsigned_19 : decode prog_15_method_44_code 19 = .ok (.lmul, 1) := by decide +kernel
theorem d_Long_divideUnsigned_20 : decode prog_15_method_44_code 20 = .ok (.lsub, 1) := by decide +kernel
theorem d_Long_divideUnsigned_21 : decode prog_15_method_44_code 21 = .ok (.lstore 6, 2) := by decide +kernel
theorem d_Long_divideUnsigned_23 : decode prog_15_method_44_code 23 = .ok (.lload 4, 2) := by decide +kernel
theorem d_Long_divideUnsigned_25 : decode prog_15_method_44_code 25 = .ok (.lload 6, 2) := by decide +kernel
theorem d_Long_divideUnsigned_27 : decode prog_15_method_44_code 27 = .ok (.lload 6, 2) := by decide +kernel
theorem d_Long_divideUnsigned_29 : decode prog_15_method_44_code 29 = .ok (.lload_n 2, 1) := by decide +kernel
theorem d_Long_divideUnsigned_30 : decode prog_15_method_44_code 30 = .ok (.lsub, 1) := by decide +kernel
theorem d_Long_divideUnsigned_31 : decode prog_15_method_44_code 31 = .ok (.ldc2_w 306, 3) := by decide +kernel
theorem d_Long_divideUnsigned_34 : decode prog_15_method_44_code 34 = .ok (.lxor, 1) := by decide +kernel
theorem d_Long_divideUnsigned_35 : decode prog_15_method_44_code 35 = .ok (.lor, 1) := by decide +kernel
theorem d_Long_divideUnsigned_36 : decode prog_15_method_44_code 36 = .ok (.bipush 63, 2) := by decide +kernel
theorem d_Long_divideUnsigned_38 : decode prog_15_method_44_code 38 = .ok (.lushr, 1) := by decide +kernel
theorem d_Long_divideUnsigned_39 : decode prog_15_method_44_code 39 = .ok (.ladd, 1) := by decide +kernel
theorem d_Long_divideUnsigned_40 : decode prog_15_method_44_code 40 = .ok (.lreturn, 1) := by decide +kernel
theorem d_Long_divideUnsigned_41 : decode prog_15_method_44_code 41 = .ok (.lload_n 0, 1) := by decide +kernel
theorem d_Long_divideUnsigned_42 : decode prog_15_method_44_code 42 = .ok (.lload_n 0, 1) := by decide +kernel
theorem d_Long_divideUnsigned_43 : decode prog_15_method_44_code 43 = .ok (.lload_n 2, 1) := by decide +kernel
theorem d_Long_divideUnsigned_44 : decode prog_15_method_44_code 44 = .ok (.lsub, 1) := by decide +kernel
theorem d_Long_divideUnsigned_45 : decode prog_15_method_44_code 45 = .ok (.ldc2_w 306, 3) := by decide +kernel
theorem d_Long_divideUnsigned_48 : decode prog_15_method_44_code 48 = .ok (.lxor, 1) := by decide +kernel
theorem d_Long_divideUnsigned_49 : decode prog_15_method_44_code 49 = .ok (.land, 1) := by decide +kernel
theorem d_Long_divideUnsigned_50 : decode prog_15_method_44_code 50 = .ok (.bipush 63, 2) := by decide +kernel
theorem d_Long_divideUnsigned_52 : decode prog_15_method_44_code 52 = .ok (.lushr, 1) := by decide +kernel
theorem d_Long_divideUnsigned_53 : decode prog_15_method_44_code 53 = .ok (.lreturn, 1) := by decide +kernel
theorem d_Math_max_0 : decode prog_16_method_65_code 0 = .ok (.iload_n 0, 1) := by decide +kernel
theorem d_Math_max_1 : decode prog_16_method_65_code 1 = .ok (.iload_n 1, 1) := by decide +kernel
theorem d_Math_max_2 : decode prog_16_method_65_code 2 = .ok (.if_icmp .lt 7, 3) := by decide +kernel
theorem d_Math_max_5 : decode prog_16_method_65_code 5 = .ok (.iload_n 0, 1) := by decide +kernel
theorem d_Math_max_6 : decode prog_16_method_65_code 6 = .ok (.goto 4, 3) := by decide +kernel
theorem d_Math_max_9 : decode prog_16_method_65_code 9 = .ok (.iload_n 1, 1) := by decide +kernel
theorem d_Math_max_10 : decode prog_16_method_65_code 10 = .ok (.ireturn, 1) := by decide +kernel
theorem d_Math_min_0 : decode prog_16_method_69_code 0 = .ok (.iload_n 0, 1) := by decide +kernel
theorem d_Math_min_1 : decode prog_16_method_69_code 1 = .ok (.iload_n 1, 1) := by decide +kernel
theorem d_Math_min_2 : decode prog_16_method_69_code 2 = .ok (.if_icmp .gt 7, 3) := by decide +kernel
theorem d_Math_min_5 : decode prog_16_method_69_code 5 = .ok (.iload_n 0, 1) := by decide +kernel
theorem d_Math_min_6 : decode prog_16_method_69_code 6 = .ok (.goto 4, 3) := by decide +kernel
theorem d_Math_min_9 : decode prog_16_method_69_code 9 = .ok (.iload_n 1, 1) := by decide +kernel
theorem d_Math_min_10 : decode prog_16_method_69_code 10 = .ok (.ireturn, 1) := by decide +kernel
theorem d_RuntimeException_init_0 : decode prog_17_method_1_code 0 = .ok (.aload_n 0, 1) := by decide +kernel
theorem d_RuntimeException_init_1 : decode prog_17_method_1_code 1 = .ok (.invokespecial 1, 3) := by decide +kernel
theorem d_RuntimeException_init_4 : decode prog_17_method_1_code 4 = .ok (.return_, 1) := by decide +kernel
theorem d_Throwable_init_0 : decode prog_19_method_1_code 0 = .ok (.aload_n 0, 1) := by decide +kernel
theorem d_Throwable_init_1 : decode prog_19_method_1_code 1 = .ok (.invokespecial 1, 3) := by decide +kernel
theorem d_Throwable_init_4 : decode prog_19_method_1_code 4 = .ok (.aload_n 0, 1) := by decide +kernel
theorem d_Throwable_init_5 : decode prog_19_method_1_code 5 = .ok (.aload_n 0, 1) := by decide +kernel
theorem d_Throwable_init_6 : decode prog_19_method_1_code 6 = .ok (.putfield 7, 3) := by decide +kernel
theorem d_Throwable_init_9 : decode prog_19_method_1_code 9 = .ok (.aload_n 0, 1) := by decide +kernel
theorem d_Throwable_init_10 : decode prog_19_method_1_code 10 = .ok (.getstatic 13, 3) := by decide +kernel
theorem d_Throwable_init_13 : decode prog_19_method_1_code 13 = .ok (.putfield 17, 3) := by decide +kernel
theorem d_Throwable_init_16 : decode prog_19_method_1_code 16 = .ok (.aload_n 0, 1) := by decide +kernel
theorem d_Throwable_init_17 : decode prog_19_method_1_code 17 = .ok (.getstatic 20, 3) := by decide +kernel
theorem d_Throwable_init_20 : decode prog_19_method_1_code 20 = .ok (.putfield 24, 3) := by decide +kernel
theorem d_Throwable_init_23 : decode prog_19_method_1_code 23 = .ok (.aload_n 0, 1) := by decide +kernel
theorem d_Throwable_init_24 : decode prog_19_method_1_code 24 = .ok (.invokevirtual 27, 3) := by decide +kernel
theorem d_Throwable_init_27 : decode prog_19_method_1_code 27 = .ok (.pop, 1) := by decide +kernel
theorem d_Throwable_init_28 : decode prog_19_method_1_code 28 = .ok (.return_, 1) := by decide +kernel
theorem d_Throwable_fillInStackTrace_0 : decode prog_19_method_18_code 0 = .ok (.aload_n 0, 1) := by decide +kernel
theorem d_Throwable_fillInStackTrace_1 : decode prog_19_method_18_code 1 = .ok (.getfield 17, 3) := by decide +kernel
theorem d_Throwable_fillInStackTrace_4 : decode prog_19_method_18_code 4 = .ok (.ifnonnull 10, 3) := by decide +kernel
theorem d_Throwable_fillInStackTrace_7 : decode prog_19_method_18_code 7 = .ok (.aload_n 0, 1) := by decide +kernel
theorem d_Throwable_fillInStackTrace_8 : decode prog_19_method_18_code 8 = .ok (.getfield 198, 3) := by decide +kernel
theorem d_Throwable_fillInStackTrace_11 : decode prog_19_method_18_code 11 = .ok (.ifnull 16, 3) := by decide +kernel
theorem d_Throwable_fillInStackTrace_14 : decode prog_19_method_18_code 14 = .ok (.aload_n 0, 1) := by decide +kernel
theorem d_Throwable_fillInStackTrace_15 : decode prog_19_method_18_code 15 = .ok (.iconst 0, 1) := by decide +kernel
theorem d_Throwable_fillInStackTrace_16 : decode prog_19_method_18_code 16 = .ok (.invokevirtual 202, 3) := by decide +kernel
theorem d_Throwable_fillInStackTrace_19 : decode prog_19_method_18_code 19 = .ok (.pop, 1) := by decide +kernel
theorem d_Throwable_fillInStackTrace_20 : decode prog_19_method_18_code 20 = .ok (.aload_n 0, 1) := by decide +kernel
theorem d_Throwable_fillInStackTrace_21 : decode prog_19_method_18_code 21 = .ok (.getstatic 13, 3) := by decide +kernel
theorem d_Throwable_fillInStackTrace_24 : decode prog_19_method_18_code 24 = .ok (.putfield 17, 3) := by decide +kernel
theorem d_Throwable_fillInStackTrace_27 : decode prog_19_method_18_code 27 = .ok (.aload_n 0, 1) := by decide +kernel
theorem d_Throwable_fillInStackTrace_28 : decode prog_19_method_18_code 28 = .ok (.areturn, 1) := by decide +kernel
theorem d_UnsupportedOperationException_init_0 : decode prog_20_method_1_code 0 = .ok (.aload_n 0, 1) := by decide +kernel
theorem d_UnsupportedOperationException_init_1 : decode prog_20_method_1_code 1 = .ok (.invokespecial 1, 3) := by decide +kernel
theorem d_UnsupportedOperationException_init_4 : decode prog_20_method_1_code 4 = .ok (.return_, 1) := by decide +kernel
theorem d_Arrays_copyOf_0 : decode prog_21_method_123_code 0 = .ok (.iload_n 1, 1) := by decide +kernel
theorem d_Arrays_copyOf_1 : decode prog_21_method_123_code 1 = .ok (.aload_n 0, 1) := by decide +kernel
theorem d_Arrays_copyOf_2 : decode prog_21_method_123_code 2 = .ok (.arraylength, 1) := by decide +kernel
theorem d_Arrays_copyOf_3 : decode prog_21_method_123_code 3 = .ok (.if_icmp .ne 11, 3) := by decide +kernel
theorem d_Arrays_copyOf_6 : decode prog_21_method_123_code 6 = .ok (.aload_n 0, 1) := by decide +kernel
theorem d_Arrays_copyOf_7 : decode prog_21_method_123_code 7 = .ok (.invokevirtual 316, 3) := by decide +kernel
theorem d_Arrays_copyOf_10 : decode prog_21_method_123_code 10 = .ok (.checkcast 317, 3) := by decide +kernel
theorem d_Arrays_copyOf_13 : decode prog_21_method_123_code 13 = .ok (.areturn, 1) := by decide +kernel
theorem d_Arrays_copyOf_14 : decode prog_21_method_123_code 14 = .ok (.iload_n 1, 1) := by decide +kernel
theorem d_Arrays_copyOf_15 : decode prog_21_method_123_code 15 = .ok (.newarray .int, 2) := by decide +kernel
theorem d_Arrays_copyOf_17 : decode prog_21_method_123_code 17 = .ok (.astore_n 2, 1) := by decide +kernel
theorem d_Arrays_copyOf_18 : decode prog_21_method_123_code 18 = .ok (.aload_n 0, 1) := by decide +kernel
theorem d_Arrays_copyOf_19 : decode prog_21_method_123_code 19 = .ok (.iconst 0, 1) := by decide +kernel
theorem d_Arrays_copyOf_20 : decode prog_21_method_123_code 20 = .ok (.aload_n 2, 1) := by decide +kernel
theorem d_Arrays_copyOf_21 : decode prog_21_method_123_code 21 = .ok (.iconst 0, 1) := by decide +kernel
theorem d_Arrays_copyOf_22 : decode prog_21_method_123_code 22 = .ok (.aload_n 0, 1) := by decide +kernel
theorem d_Arrays_copyOf_23 : decode prog_21_method_123_code 23 = .ok (.arraylength, 1) := by decide +kernel
theorem d_Arrays_copyOf_24 : decode prog_21_method_123_code 24 = .ok (.iload_n 1, 1) := by decide +kernel
theorem d_Arrays_copyOf_25 : decode prog_21_method_123_code 25 = .ok (.invokestatic 304, 3) := by decide +kernel
theorem d_Arrays_copyOf_28 : decode prog_21_method_123_code 28 = .ok (.invokestatic 150, 3) := by decide +kernel
theorem d_Arrays_copyOf_31 : decode prog_21_method_123_code 31 = .ok (.aload_n 2, 1) := by decide +kernel
theorem d_Arrays_copyOf_32 : decode prog_21_method_123_code 32 = .ok (.areturn, 1) := by decide +kernel
theorem d_NoSuchElementException_init_0 : decode prog_22_method_1_code 0 = .ok (.aload_n 0, 1) := by decide +kernel
theorem d_NoSuchElementException_init_1 : decode prog_22_method_1_code 1 = .ok (.invokespecial 1, 3) := by decide +kernel
theorem d_NoSuchElementException_init_4 : decode prog_22_method_1_code 4 = .ok (.return_, 1) := by decide +kernel
