set_option maxRecDepth 100000
theorem dJ0_init_0 : decode cJ0_init 0 = .ok (.aload_n 0, 1) := by decide +kernel
theorem dJ0_init_1 : decode cJ0_init 1 = .ok (.invokespecial 1, 3) := by decide +kernel
theorem dJ0_init_4 : decode cJ0_init 4 = .ok (.return_, 1) := by decide +kernel
theorem dJ1_init_0 : decode cJ1_init 0 = .ok (.aload_n 0, 1) := by decide +kernel
theorem dJ1_init_1 : decode cJ1_init 1 = .ok (.invokespecial 1, 3) := by decide +kernel
theorem dJ1_init_4 : decode cJ1_init 4 = .ok (.aload_n 0, 1) := by decide +kernel
theorem dJ1_init_5 : decode cJ1_init 5 = .ok (.iconst 0, 1) := by decide +kernel
theorem dJ1_init_6 : decode cJ1_init 6 = .ok (.putfield 7, 3) := by decide +kernel
theorem dJ1_init_9 : decode cJ1_init 9 = .ok (.return_, 1) := by decide +kernel
theorem dJ2_init_0 : decode cJ2_init 0 = .ok (.aload_n 0, 1) := by decide +kernel
theorem dJ2_init_1 : decode cJ2_init 1 = .ok (.invokespecial 1, 3) := by decide +kernel
theorem dJ2_init_4 : decode cJ2_init 4 = .ok (.aload_n 0, 1) := by decide +kernel
theorem dJ2_init_5 : decode cJ2_init 5 = .ok (.getstatic 39, 3) := by decide +kernel
theorem dJ2_init_8 : decode cJ2_init 8 = .ok (.putfield 9, 3) := by decide +kernel
theorem dJ2_init_11 : decode cJ2_init 11 = .ok (.return_, 1) := by decide +kernel
theorem dJ2_size_0 : decode cJ2_size 0 = .ok (.aload_n 0, 1) := by decide +kernel
theorem dJ2_size_1 : decode cJ2_size 1 = .ok (.getfield 48, 3) := by decide +kernel
theorem dJ2_size_4 : decode cJ2_size 4 = .ok (.ireturn, 1) := by decide +kernel
theorem dJ2_get_0 : decode cJ2_get 0 = .ok (.iload_n 1, 1) := by decide +kernel
theorem dJ2_get_1 : decode cJ2_get 1 = .ok (.aload_n 0, 1) := by decide +kernel
theorem dJ2_get_2 : decode cJ2_get 2 = .ok (.getfield 48, 3) := by decide +kernel
theorem dJ2_get_5 : decode cJ2_get 5 = .ok (.invokestatic 118, 3) := by decide +kernel
theorem dJ2_get_8 : decode cJ2_get 8 = .ok (.pop, 1) := by decide +kernel
theorem dJ2_get_9 : decode cJ2_get 9 = .ok (.aload_n 0, 1) := by decide +kernel
theorem dJ2_get_10 : decode cJ2_get 10 = .ok (.iload_n 1, 1) := by decide +kernel
theorem dJ2_get_11 : decode cJ2_get 11 = .ok (.invokevirtual 123, 3) := by decide +kernel
theorem dJ2_get_14 : decode cJ2_get 14 = .ok (.areturn, 1) := by decide +kernel
theorem dJ2_elementData_0 : decode cJ2_elementData 0 = .ok (.aload_n 0, 1) := by decide +kernel
theorem dJ2_elementData_1 : decode cJ2_elementData 1 = .ok (.getfield 9, 3) := by decide +kernel
theorem dJ2_elementData_4 : decode cJ2_elementData 4 = .ok (.iload_n 1, 1) := by decide +kernel
theorem dJ2_elementData_5 : decode cJ2_elementData 5 = .ok (.aaload, 1) := by decide +kernel
theorem dJ2_elementData_6 : decode cJ2_elementData 6 = .ok (.areturn, 1) := by decide +kernel
theorem dJ2_add_0 : decode cJ2_add 0 = .ok (.aload_n 0, 1) := by decide +kernel
theorem dJ2_add_1 : decode cJ2_add 1 = .ok (.dup, 1) := by decide +kernel
theorem dJ2_add_2 : decode cJ2_add 2 = .ok (.getfield 63, 3) := by decide +kernel
theorem dJ2_add_5 : decode cJ2_add 5 = .ok (.iconst 1, 1) := by decide +kernel
theorem dJ2_add_6 : decode cJ2_add 6 = .ok (.iadd, 1) := by decide +kernel
theorem dJ2_add_7 : decode cJ2_add 7 = .ok (.putfield 63, 3) := by decide +kernel
theorem dJ2_add_10 : decode cJ2_add 10 = .ok (.aload_n 0, 1) := by decide +kernel
theorem dJ2_add_11 : decode cJ2_add 11 = .ok (.aload_n 1, 1) := by decide +kernel
theorem dJ2_add_12 : decode cJ2_add 12 = .ok (.aload_n 0, 1) := by decide +kernel
theorem dJ2_add_13 : decode cJ2_add 13 = .ok (.getfield 9, 3) := by decide +kernel
theorem dJ2_add_16 : decode cJ2_add 16 = .ok (.aload_n 0, 1) := by decide +kernel
theorem dJ2_add_17 : decode cJ2_add 17 = .ok (.getfield 48, 3) := by decide +kernel
theorem dJ2_add_20 : decode cJ2_add 20 = .ok (.invokevirtual 131, 3) := by decide +kernel
theorem dJ2_add_23 : decode cJ2_add 23 = .ok (.iconst 1, 1) := by decide +kernel
theorem dJ2_add_24 : decode cJ2_add 24 = .ok (.ireturn, 1) := by decide +kernel
theorem dJ2_add_2_0 : decode cJ2_add_2 0 = .ok (.iload_n 3, 1) := by decide +kernel
theorem dJ2_add_2_1 : decode cJ2_add_2 1 = .ok (.aload_n 2, 1) := by decide +kernel
theorem dJ2_add_2_2 : decode cJ2_add_2 2 = .ok (.arraylength, 1) := by decide +kernel
theorem dJ2_add_2_3 : decode cJ2_add_2 3 = .ok (.if_icmp .ne 8, 3) := by decide +kernel
theorem dJ2_add_2_6 : decode cJ2_add_2 6 = .ok (.aload_n 0, 1) := by decide +kernel
theorem dJ2_add_2_7 : decode cJ2_add_2 7 = .ok (.invokevirtual 129, 3) := by decide +kernel
theorem dJ2_add_2_10 : decode cJ2_add_2 10 = .ok (.astore_n 2, 1) := by decide +kernel
theorem dJ2_add_2_11 : decode cJ2_add_2 11 = .ok (.aload_n 2, 1) := by decide +kernel
theorem dJ2_add_2_12 : decode cJ2_add_2 12 = .ok (.iload_n 3, 1) := by decide +kernel
theorem dJ2_add_2_13 : decode cJ2_add_2 13 = .ok (.aload_n 1, 1) := by decide +kernel
theorem dJ2_add_2_14 : decode cJ2_add_2 14 = .ok (.aastore, 1) := by decide +kernel
theorem dJ2_add_2_15 : decode cJ2_add_2 15 = .ok (.aload_n 0, 1) := by decide +kernel
theorem dJ2_add_2_16 : decode cJ2_add_2 16 = .ok (.iload_n 3, 1) := by decide +kernel
theorem dJ2_add_2_17 : decode cJ2_add_2 17 = .ok (.iconst 1, 1) := by decide +kernel
theorem dJ2_add_2_18 : decode cJ2_add_2 18 = .ok (.iadd, 1) := by decide +kernel
theorem dJ2_add_2_19 : decode cJ2_add_2 19 = .ok (.putfield 48, 3) := by decide +kernel
theorem dJ2_add_2_22 : decode cJ2_add_2 22 = .ok (.return_, 1) := by decide +kernel
theorem dJ2_grow_0 : decode cJ2_grow 0 = .ok (.aload_n 0, 1) := by decide +kernel
theorem dJ2_grow_1 : decode cJ2_grow 1 = .ok (.aload_n 0, 1) := by decide +kernel
theorem dJ2_grow_2 : decode cJ2_grow 2 = .ok (.getfield 48, 3) := by decide +kernel
theorem dJ2_grow_5 : decode cJ2_grow 5 = .ok (.iconst 1, 1) := by decide +kernel
theorem dJ2_grow_6 : decode cJ2_grow 6 = .ok (.iadd, 1) := by decide +kernel
theorem dJ2_grow_7 : decode cJ2_grow 7 = .ok (.invokevirtual 69, 3) := by decide +kernel
theorem dJ2_grow_10 : decode cJ2_grow 10 = .ok (.areturn, 1) := by decide +kernel
theorem dJ2_grow_2_0 : decode cJ2_grow_2 0 = .ok (.aload_n 0, 1) := by decide +kernel
theorem dJ2_grow_2_1 : decode cJ2_grow_2 1 = .ok (.getfield 9, 3) := by decide +kernel
theorem dJ2_grow_2_4 : decode cJ2_grow_2 4 = .ok (.arraylength, 1) := by decide +kernel
theorem dJ2_grow_2_5 : decode cJ2_grow_2 5 = .ok (.istore_n 2, 1) := by decide +kernel
theorem dJ2_grow_2_6 : decode cJ2_grow_2 6 = .ok (.iload_n 2, 1) := by decide +kernel
theorem dJ2_grow_2_7 : decode cJ2_grow_2 7 = .ok (.ifCond .gt 13, 3) := by decide +kernel
theorem dJ2_grow_2_10 : decode cJ2_grow_2 10 = .ok (.aload_n 0, 1) := by decide +kernel
theorem dJ2_grow_2_11 : decode cJ2_grow_2 11 = .ok (.getfield 9, 3) := by decide +kernel
theorem dJ2_grow_2_14 : decode cJ2_grow_2 14 = .ok (.getstatic 39, 3) := by decide +kernel
theorem dJ2_grow_2_17 : decode cJ2_grow_2 17 = .ok (.if_acmp .eq 28, 3) := by decide +kernel
theorem dJ2_grow_2_20 : decode cJ2_grow_2 20 = .ok (.iload_n 2, 1) := by decide +kernel
theorem dJ2_grow_2_21 : decode cJ2_grow_2 21 = .ok (.iload_n 1, 1) := by decide +kernel
theorem dJ2_grow_2_22 : decode cJ2_grow_2 22 = .ok (.iload_n 2, 1) := by decide +kernel
theorem dJ2_grow_2_23 : decode cJ2_grow_2 23 = .ok (.isub, 1) := by decide +kernel
theorem dJ2_grow_2_24 : decode cJ2_grow_2 24 = .ok (.iload_n 2, 1) := by decide +kernel
theorem dJ2_grow_2_25 : decode cJ2_grow_2 25 = .ok (.iconst 1, 1) := by decide +kernel
theorem dJ2_grow_2_26 : decode cJ2_grow_2 26 = .ok (.ishr, 1) := by decide +kernel
theorem dJ2_grow_2_27 : decode cJ2_grow_2 27 = .ok (.invokestatic 73, 3) := by decide +kernel
theorem dJ2_grow_2_30 : decode cJ2_grow_2 30 = .ok (.istore_n 3, 1) := by decide +kernel
theorem dJ2_grow_2_31 : decode cJ2_grow_2 31 = .ok (.aload_n 0, 1) := by decide +kernel
theorem dJ2_grow_2_32 : decode cJ2_grow_2 32 = .ok (.aload_n 0, 1) := by decide +kernel
theorem dJ2_grow_2_33 : decode cJ2_grow_2 33 = .ok (.getfield 9, 3) := by decide +kernel
theorem dJ2_grow_2_36 : decode cJ2_grow_2 36 = .ok (.iload_n 3, 1) := by decide +kernel
theorem dJ2_grow_2_37 : decode cJ2_grow_2 37 = .ok (.invokestatic 66, 3) := by decide +kernel
theorem dJ2_grow_2_40 : decode cJ2_grow_2 40 = .ok (.dup_x1, 1) := by decide +kernel
theorem dJ2_grow_2_41 : decode cJ2_grow_2 41 = .ok (.putfield 9, 3) := by decide +kernel
theorem dJ2_grow_2_44 : decode cJ2_grow_2 44 = .ok (.areturn, 1) := by decide +kernel
theorem dJ2_grow_2_45 : decode cJ2_grow_2 45 = .ok (.aload_n 0, 1) := by decide +kernel
theorem dJ2_grow_2_46 : decode cJ2_grow_2 46 = .ok (.bipush 10, 2) := by decide +kernel
theorem dJ2_grow_2_48 : decode cJ2_grow_2 48 = .ok (.iload_n 1, 1) := by decide +kernel
theorem dJ2_grow_2_49 : decode cJ2_grow_2 49 = .ok (.invokestatic 79, 3) := by decide +kernel
theorem dJ2_grow_2_52 : decode cJ2_grow_2 52 = .ok (.anewarray 7, 3) := by decide +kernel
theorem dJ2_grow_2_55 : decode cJ2_grow_2 55 = .ok (.dup_x1, 1) := by decide +kernel
theorem dJ2_grow_2_56 : decode cJ2_grow_2 56 = .ok (.putfield 9, 3) := by decide +kernel
theorem dJ2_grow_2_59 : decode cJ2_grow_2 59 = .ok (.areturn, 1) := by decide +kernel
theorem dJ2_init_2_0 : decode cJ2_init_2 0 = .ok (.aload_n 0, 1) := by decide +kernel
theorem dJ2_init_2_1 : decode cJ2_init_2 1 = .ok (.invokespecial 1, 3) := by decide +kernel
theorem dJ2_init_2_4 : decode cJ2_init_2 4 = .ok (.aload_n 1, 1) := by decide +kernel
theorem dJ2_init_2_5 : decode cJ2_init_2 5 = .ok (.invokeinterface 42 1, 5) := by decide +kernel
theorem dJ2_init_2_10 : decode cJ2_init_2 10 = .ok (.astore_n 2, 1) := by decide +kernel
theorem dJ2_init_2_11 : decode cJ2_init_2 11 = .ok (.aload_n 0, 1) := by decide +kernel
theorem dJ2_init_2_12 : decode cJ2_init_2 12 = .ok (.aload_n 2, 1) := by decide +kernel
theorem dJ2_init_2_13 : decode cJ2_init_2 13 = .ok (.arraylength, 1) := by decide +kernel
theorem dJ2_init_2_14 : decode cJ2_init_2 14 = .ok (.dup_x1, 1) := by decide +kernel
theorem dJ2_init_2_15 : decode cJ2_init_2 15 = .ok (.putfield 48, 3) := by decide +kernel
theorem dJ2_init_2_18 : decode cJ2_init_2 18 = .ok (.ifCond .eq 39, 3) := by decide +kernel
theorem dJ2_init_2_21 : decode cJ2_init_2 21 = .ok (.aload_n 1, 1) := by decide +kernel
theorem dJ2_init_2_22 : decode cJ2_init_2 22 = .ok (.invokeinterface 52 1, 5) := by decide +kernel
theorem dJ2_init_2_27 : decode cJ2_init_2 27 = .ok (.ldc 10, 2) := by decide +kernel
theorem dJ2_init_2_29 : decode cJ2_init_2 29 = .ok (.if_acmp .ne 11, 3) := by decide +kernel
theorem dJ2_init_2_32 : decode cJ2_init_2 32 = .ok (.aload_n 0, 1) := by decide +kernel
theorem dJ2_init_2_33 : decode cJ2_init_2 33 = .ok (.aload_n 2, 1) := by decide +kernel
theorem dJ2_init_2_34 : decode cJ2_init_2 34 = .ok (.putfield 9, 3) := by decide +kernel
theorem dJ2_init_2_37 : decode cJ2_init_2 37 = .ok (.goto 27, 3) := by decide +kernel
theorem dJ2_init_2_40 : decode cJ2_init_2 40 = .ok (.aload_n 0, 1) := by decide +kernel
theorem dJ2_init_2_41 : decode cJ2_init_2 41 = .ok (.aload_n 2, 1) := by decide +kernel
theorem dJ2_init_2_42 : decode cJ2_init_2 42 = .ok (.aload_n 0, 1) := by decide +kernel
theorem dJ2_init_2_43 : decode cJ2_init_2 43 = .ok (.getfield 48, 3) := by decide +kernel
theorem dJ2_init_2_46 : decode cJ2_init_2 46 = .ok (.ldc 56, 2) := by decide +kernel
theorem dJ2_init_2_48 : decode cJ2_init_2 48 = .ok (.invokestatic 57, 3) := by decide +kernel
theorem dJ2_init_2_51 : decode cJ2_init_2 51 = .ok (.putfield 9, 3) := by decide +kernel
theorem dJ2_init_2_54 : decode cJ2_init_2 54 = .ok (.goto 10, 3) := by decide +kernel
theorem dJ2_init_2_57 : decode cJ2_init_2 57 = .ok (.aload_n 0, 1) := by decide +kernel
theorem dJ2_init_2_58 : decode cJ2_init_2 58 = .ok (.getstatic 15, 3) := by decide +kernel
theorem dJ2_init_2_61 : decode cJ2_init_2 61 = .ok (.putfield 9, 3) := by decide +kernel
theorem dJ2_init_2_64 : decode cJ2_init_2 64 = .ok (.return_, 1) := by decide +kernel
theorem dJ2_toArray_0 : decode cJ2_toArray 0 = .ok (.aload_n 0, 1) := by decide +kernel
theorem dJ2_toArray_1 : decode cJ2_toArray 1 = .ok (.getfield 9, 3) := by decide +kernel
theorem dJ2_toArray_4 : decode cJ2_toArray 4 = .ok (.aload_n 0, 1) := by decide +kernel
theorem dJ2_toArray_5 : decode cJ2_toArray 5 = .ok (.getfield 48, 3) := by decide +kernel
theorem dJ2_toArray_8 : decode cJ2_toArray 8 = .ok (.invokestatic 66, 3) := by decide +kernel
theorem dJ2_toArray_11 : decode cJ2_toArray 11 = .ok (.areturn, 1) := by decide +kernel
theorem dJ2_add_3_0 : decode cJ2_add_3 0 = .ok (.aload_n 0, 1) := by decide +kernel
theorem dJ2_add_3_1 : decode cJ2_add_3 1 = .ok (.iload_n 1, 1) := by decide +kernel
theorem dJ2_add_3_2 : decode cJ2_add_3 2 = .ok (.invokevirtual 135, 3) := by decide +kernel
theorem dJ2_add_3_5 : decode cJ2_add_3 5 = .ok (.aload_n 0, 1) := by decide +kernel
theorem dJ2_add_3_6 : decode cJ2_add_3 6 = .ok (.dup, 1) := by decide +kernel
theorem dJ2_add_3_7 : decode cJ2_add_3 7 = .ok (.getfield 63, 3) := by decide +kernel
theorem dJ2_add_3_10 : decode cJ2_add_3 10 = .ok (.iconst 1, 1) := by decide +kernel
theorem dJ2_add_3_11 : decode cJ2_add_3 11 = .ok (.iadd, 1) := by decide +kernel
theorem dJ2_add_3_12 : decode cJ2_add_3 12 = .ok (.putfield 63, 3) := by decide +kernel
theorem dJ2_add_3_15 : decode cJ2_add_3 15 = .ok (.aload_n 0, 1) := by decide +kernel
theorem dJ2_add_3_16 : decode cJ2_add_3 16 = .ok (.getfield 48, 3) := by decide +kernel
theorem dJ2_add_3_19 : decode cJ2_add_3 19 = .ok (.dup, 1) := by decide +kernel
theorem dJ2_add_3_20 : decode cJ2_add_3 20 = .ok (.istore_n 3, 1) := by decide +kernel
theorem dJ2_add_3_21 : decode cJ2_add_3 21 = .ok (.aload_n 0, 1) := by decide +kernel
theorem dJ2_add_3_22 : decode cJ2_add_3 22 = .ok (.getfield 9, 3) := by decide +kernel
theorem dJ2_add_3_25 : decode cJ2_add_3 25 = .ok (.dup, 1) := by decide +kernel
theorem dJ2_add_3_26 : decode cJ2_add_3 26 = .ok (.astore 4, 2) := by decide +kernel
theorem dJ2_add_3_28 : decode cJ2_add_3 28 = .ok (.arraylength, 1) := by decide +kernel
theorem dJ2_add_3_29 : decode cJ2_add_3 29 = .ok (.if_icmp .ne 9, 3) := by decide +kernel
theorem dJ2_add_3_32 : decode cJ2_add_3 32 = .ok (.aload_n 0, 1) := by decide +kernel
theorem dJ2_add_3_33 : decode cJ2_add_3 33 = .ok (.invokevirtual 129, 3) := by decide +kernel
theorem dJ2_add_3_36 : decode cJ2_add_3 36 = .ok (.astore 4, 2) := by decide +kernel
theorem dJ2_add_3_38 : decode cJ2_add_3 38 = .ok (.aload 4, 2) := by decide +kernel
theorem dJ2_add_3_40 : decode cJ2_add_3 40 = .ok (.iload_n 1, 1) := by decide +kernel
theorem dJ2_add_3_41 : decode cJ2_add_3 41 = .ok (.aload 4, 2) := by decide +kernel
theorem dJ2_add_3_43 : decode cJ2_add_3 43 = .ok (.iload_n 1, 1) := by decide +kernel
theorem dJ2_add_3_44 : decode cJ2_add_3 44 = .ok (.iconst 1, 1) := by decide +kernel
theorem dJ2_add_3_45 : decode cJ2_add_3 45 = .ok (.iadd, 1) := by decide +kernel
theorem dJ2_add_3_46 : decode cJ2_add_3 46 = .ok (.iload_n 3, 1) := by decide +kernel
theorem dJ2_add_3_47 : decode cJ2_add_3 47 = .ok (.iload_n 1, 1) := by decide +kernel
theorem dJ2_add_3_48 : decode cJ2_add_3 48 = .ok (.isub, 1) := by decide +kernel
theorem dJ2_add_3_49 : decode cJ2_add_3 49 = .ok (.invokestatic 112, 3) := by decide +kernel
theorem dJ2_add_3_52 : decode cJ2_add_3 52 = .ok (.aload 4, 2) := by decide +kernel
theorem dJ2_add_3_54 : decode cJ2_add_3 54 = .ok (.iload_n 1, 1) := by decide +kernel
theorem dJ2_add_3_55 : decode cJ2_add_3 55 = .ok (.aload_n 2, 1) := by decide +kernel
theorem dJ2_add_3_56 : decode cJ2_add_3 56 = .ok (.aastore, 1) := by decide +kernel
theorem dJ2_add_3_57 : decode cJ2_add_3 57 = .ok (.aload_n 0, 1) := by decide +kernel
theorem dJ2_add_3_58 : decode cJ2_add_3 58 = .ok (.iload_n 3, 1) := by decide +kernel
theorem dJ2_add_3_59 : decode cJ2_add_3 59 = .ok (.iconst 1, 1) := by decide +kernel
theorem dJ2_add_3_60 : decode cJ2_add_3 60 = .ok (.iadd, 1) := by decide +kernel
theorem dJ2_add_3_61 : decode cJ2_add_3 61 = .ok (.putfield 48, 3) := by decide +kernel
theorem dJ2_add_3_64 : decode cJ2_add_3 64 = .ok (.return_, 1) := by decide +kernel
theorem dJ2_rangeCheckForAdd_0 : decode cJ2_rangeCheckForAdd 0 = .ok (.iload_n 1, 1) := by decide +kernel
theorem dJ2_rangeCheckForAdd_1 : decode cJ2_rangeCheckForAdd 1 = .ok (.aload_n 0, 1) := by decide +kernel
theorem dJ2_rangeCheckForAdd_2 : decode cJ2_rangeCheckForAdd 2 = .ok (.getfield 48, 3) := by decide +kernel
theorem dJ2_rangeCheckForAdd_5 : decode cJ2_rangeCheckForAdd 5 = .ok (.if_icmp .gt 7, 3) := by decide +kernel
theorem dJ2_rangeCheckForAdd_8 : decode cJ2_rangeCheckForAdd 8 = .ok (.iload_n 1, 1) := by decide +kernel
theorem dJ2_rangeCheckForAdd_9 : decode cJ2_rangeCheckForAdd 9 = .ok (.ifCond .ge 16, 3) := by decide +kernel
theorem dJ2_rangeCheckForAdd_12 : decode cJ2_rangeCheckForAdd 12 = .ok (.new 187, 3) := by decide +kernel
theorem dJ2_rangeCheckForAdd_15 : decode cJ2_rangeCheckForAdd 15 = .ok (.dup, 1) := by decide +kernel
theorem dJ2_rangeCheckForAdd_16 : decode cJ2_rangeCheckForAdd 16 = .ok (.aload_n 0, 1) := by decide +kernel
theorem dJ2_rangeCheckForAdd_17 : decode cJ2_rangeCheckForAdd 17 = .ok (.iload_n 1, 1) := by decide +kernel
theorem dJ2_rangeCheckForAdd_18 : decode cJ2_rangeCheckForAdd 18 = .ok (.invokevirtual 198, 3) := by decide +kernel
theorem dJ2_rangeCheckForAdd_21 : decode cJ2_rangeCheckForAdd 21 = .ok (.invokespecial 193, 3) := by decide +kernel
theorem dJ2_rangeCheckForAdd_24 : decode cJ2_rangeCheckForAdd 24 = .ok (.athrow, 1) := by decide +kernel
theorem dJ2_rangeCheckForAdd_25 : decode cJ2_rangeCheckForAdd 25 = .ok (.return_, 1) := by decide +kernel
theorem dJ2_remove_0 : decode cJ2_remove 0 = .ok (.iload_n 1, 1) := by decide +kernel
theorem dJ2_remove_1 : decode cJ2_remove 1 = .ok (.aload_n 0, 1) := by decide +kernel
theorem dJ2_remove_2 : decode cJ2_remove 2 = .ok (.getfield 48, 3) := by decide +kernel
theorem dJ2_remove_5 : decode cJ2_remove 5 = .ok (.invokestatic 118, 3) := by decide +kernel
theorem dJ2_remove_8 : decode cJ2_remove 8 = .ok (.pop, 1) := by decide +kernel
theorem dJ2_remove_9 : decode cJ2_remove 9 = .ok (.aload_n 0, 1) := by decide +kernel
theorem dJ2_remove_10 : decode cJ2_remove 10 = .ok (.getfield 9, 3) := by decide +kernel
theorem dJ2_remove_13 : decode cJ2_remove 13 = .ok (.astore_n 2, 1) := by decide +kernel
theorem dJ2_remove_14 : decode cJ2_remove 14 = .ok (.aload_n 2, 1) := by decide +kernel
theorem dJ2_remove_15 : decode cJ2_remove 15 = .ok (.iload_n 1, 1) := by decide +kernel
theorem dJ2_remove_16 : decode cJ2_remove 16 = .ok (.aaload, 1) := by decide +kernel
theorem dJ2_remove_17 : decode cJ2_remove 17 = .ok (.astore_n 3, 1) := by decide +kernel
theorem dJ2_remove_18 : decode cJ2_remove 18 = .ok (.aload_n 0, 1) := by decide +kernel
theorem dJ2_remove_19 : decode cJ2_remove 19 = .ok (.aload_n 2, 1) := by decide +kernel
theorem dJ2_remove_20 : decode cJ2_remove 20 = .ok (.iload_n 1, 1) := by decide +kernel
theorem dJ2_remove_21 : decode cJ2_remove 21 = .ok (.invokevirtual 144, 3) := by decide +kernel
theorem dJ2_remove_24 : decode cJ2_remove 24 = .ok (.aload_n 3, 1) := by decide +kernel
theorem dJ2_remove_25 : decode cJ2_remove 25 = .ok (.areturn, 1) := by decide +kernel
theorem dJ2_fastRemove_0 : decode cJ2_fastRemove 0 = .ok (.aload_n 0, 1) := by decide +kernel
theorem dJ2_fastRemove_1 : decode cJ2_fastRemove 1 = .ok (.dup, 1) := by decide +kernel
theorem dJ2_fastRemove_2 : decode cJ2_fastRemove 2 = .ok (.getfield 63, 3) := by decide +kernel
theorem dJ2_fastRemove_5 : decode cJ2_fastRemove 5 = .ok (.iconst 1, 1) := by decide +kernel
theorem dJ2_fastRemove_6 : decode cJ2_fastRemove 6 = .ok (.iadd, 1) := by decide +kernel
theorem dJ2_fastRemove_7 : decode cJ2_fastRemove 7 = .ok (.putfield 63, 3) := by decide +kernel
theorem dJ2_fastRemove_10 : decode cJ2_fastRemove 10 = .ok (.aload_n 0, 1) := by decide +kernel
theorem dJ2_fastRemove_11 : decode cJ2_fastRemove 11 = .ok (.getfield 48, 3) := by decide +kernel
theorem dJ2_fastRemove_14 : decode cJ2_fastRemove 14 = .ok (.iconst 1, 1) := by decide +kernel
theorem dJ2_fastRemove_15 : decode cJ2_fastRemove 15 = .ok (.isub, 1) := by decide +kernel
theorem dJ2_fastRemove_16 : decode cJ2_fastRemove 16 = .ok (.dup, 1) := by decide +kernel
theorem dJ2_fastRemove_17 : decode cJ2_fastRemove 17 = .ok (.istore_n 3, 1) := by decide +kernel
theorem dJ2_fastRemove_18 : decode cJ2_fastRemove 18 = .ok (.iload_n 2, 1) := by decide +kernel
theorem dJ2_fastRemove_19 : decode cJ2_fastRemove 19 = .ok (.if_icmp .le 15, 3) := by decide +kernel
theorem dJ2_fastRemove_22 : decode cJ2_fastRemove 22 = .ok (.aload_n 1, 1) := by decide +kernel
theorem dJ2_fastRemove_23 : decode cJ2_fastRemove 23 = .ok (.iload_n 2, 1) := by decide +kernel
theorem dJ2_fastRemove_24 : decode cJ2_fastRemove 24 = .ok (.iconst 1, 1) := by decide +kernel
theorem dJ2_fastRemove_25 : decode cJ2_fastRemove 25 = .ok (.iadd, 1) := by decide +kernel
theorem dJ2_fastRemove_26 : decode cJ2_fastRemove 26 = .ok (.aload_n 1, 1) := by decide +kernel
theorem dJ2_fastRemove_27 : decode cJ2_fastRemove 27 = .ok (.iload_n 2, 1) := by decide +kernel
theorem dJ2_fastRemove_28 : decode cJ2_fastRemove 28 = .ok (.iload_n 3, 1) := by decide +kernel
theorem dJ2_fastRemove_29 : decode cJ2_fastRemove 29 = .ok (.iload_n 2, 1) := by decide +kernel
theorem dJ2_fastRemove_30 : decode cJ2_fastRemove 30 = .ok (.isub, 1) := by decide +kernel
theorem dJ2_fastRemove_31 : decode cJ2_fastRemove 31 = .ok (.invokestatic 112, 3) := by decide +kernel
theorem dJ2_fastRemove_34 : decode cJ2_fastRemove 34 = .ok (.aload_n 1, 1) := by decide +kernel
theorem dJ2_fastRemove_35 : decode cJ2_fastRemove 35 = .ok (.aload_n 0, 1) := by decide +kernel
theorem dJ2_fastRemove_36 : decode cJ2_fastRemove 36 = .ok (.iload_n 3, 1) := by decide +kernel
theorem dJ2_fastRemove_37 : decode cJ2_fastRemove 37 = .ok (.dup_x1, 1) := by decide +kernel
theorem dJ2_fastRemove_38 : decode cJ2_fastRemove 38 = .ok (.putfield 48, 3) := by decide +kernel
theorem dJ2_fastRemove_41 : decode cJ2_fastRemove 41 = .ok (.aconst_null, 1) := by decide +kernel
theorem dJ2_fastRemove_42 : decode cJ2_fastRemove 42 = .ok (.aastore, 1) := by decide +kernel
theorem dJ2_fastRemove_43 : decode cJ2_fastRemove 43 = .ok (.return_, 1) := by decide +kernel
theorem dJ2_set_0 : decode cJ2_set 0 = .ok (.iload_n 1, 1) := by decide +kernel
theorem dJ2_set_1 : decode cJ2_set 1 = .ok (.aload_n 0, 1) := by decide +kernel
theorem dJ2_set_2 : decode cJ2_set 2 = .ok (.getfield 48, 3) := by decide +kernel
theorem dJ2_set_5 : decode cJ2_set 5 = .ok (.invokestatic 118, 3) := by decide +kernel
theorem dJ2_set_8 : decode cJ2_set 8 = .ok (.pop, 1) := by decide +kernel
theorem dJ2_set_9 : decode cJ2_set 9 = .ok (.aload_n 0, 1) := by decide +kernel
theorem dJ2_set_10 : decode cJ2_set 10 = .ok (.iload_n 1, 1) := by decide +kernel
theorem dJ2_set_11 : decode cJ2_set 11 = .ok (.invokevirtual 123, 3) := by decide +kernel
theorem dJ2_set_14 : decode cJ2_set 14 = .ok (.astore_n 3, 1) := by decide +kernel
theorem dJ2_set_15 : decode cJ2_set 15 = .ok (.aload_n 0, 1) := by decide +kernel
theorem dJ2_set_16 : decode cJ2_set 16 = .ok (.getfield 9, 3) := by decide +kernel
theorem dJ2_set_19 : decode cJ2_set 19 = .ok (.iload_n 1, 1) := by decide +kernel
theorem dJ2_set_20 : decode cJ2_set 20 = .ok (.aload_n 2, 1) := by decide +kernel
theorem dJ2_set_21 : decode cJ2_set 21 = .ok (.aastore, 1) := by decide +kernel
theorem dJ2_set_22 : decode cJ2_set 22 = .ok (.aload_n 3, 1) := by decide +kernel
theorem dJ2_set_23 : decode cJ2_set 23 = .ok (.areturn, 1) := by decide +kernel
theorem dJ2_init_3_0 : decode cJ2_init_3 0 = .ok (.aload_n 0, 1) := by decide +kernel
theorem dJ2_init_3_1 : decode cJ2_init_3 1 = .ok (.invokespecial 1, 3) := by decide +kernel
theorem dJ2_init_3_4 : decode cJ2_init_3 4 = .ok (.iload_n 1, 1) := by decide +kernel
theorem dJ2_init_3_5 : decode cJ2_init_3 5 = .ok (.ifCond .le 14, 3) := by decide +kernel
theorem dJ2_init_3_8 : decode cJ2_init_3 8 = .ok (.aload_n 0, 1) := by decide +kernel
theorem dJ2_init_3_9 : decode cJ2_init_3 9 = .ok (.iload_n 1, 1) := by decide +kernel
theorem dJ2_init_3_10 : decode cJ2_init_3 10 = .ok (.anewarray 7, 3) := by decide +kernel
theorem dJ2_init_3_13 : decode cJ2_init_3 13 = .ok (.putfield 9, 3) := by decide +kernel
theorem dJ2_init_3_16 : decode cJ2_init_3 16 = .ok (.goto 44, 3) := by decide +kernel
theorem dJ2_init_3_19 : decode cJ2_init_3 19 = .ok (.iload_n 1, 1) := by decide +kernel
theorem dJ2_init_3_20 : decode cJ2_init_3 20 = .ok (.ifCond .ne 13, 3) := by decide +kernel
theorem dJ2_init_3_23 : decode cJ2_init_3 23 = .ok (.aload_n 0, 1) := by decide +kernel
theorem dJ2_init_3_24 : decode cJ2_init_3 24 = .ok (.getstatic 15, 3) := by decide +kernel
theorem dJ2_init_3_27 : decode cJ2_init_3 27 = .ok (.putfield 9, 3) := by decide +kernel
theorem dJ2_init_3_30 : decode cJ2_init_3 30 = .ok (.goto 30, 3) := by decide +kernel
theorem dJ2_init_3_33 : decode cJ2_init_3 33 = .ok (.new 18, 3) := by decide +kernel
theorem dJ2_init_3_36 : decode cJ2_init_3 36 = .ok (.dup, 1) := by decide +kernel
theorem dJ2_init_3_37 : decode cJ2_init_3 37 = .ok (.new 20, 3) := by decide +kernel
theorem dJ2_init_3_40 : decode cJ2_init_3 40 = .ok (.dup, 1) := by decide +kernel
theorem dJ2_init_3_41 : decode cJ2_init_3 41 = .ok (.invokespecial 22, 3) := by decide +kernel
theorem dJ2_init_3_44 : decode cJ2_init_3 44 = .ok (.ldc 23, 2) := by decide +kernel
theorem dJ2_init_3_46 : decode cJ2_init_3 46 = .ok (.invokevirtual 25, 3) := by decide +kernel
theorem dJ2_init_3_49 : decode cJ2_init_3 49 = .ok (.iload_n 1, 1) := by decide +kernel
theorem dJ2_init_3_50 : decode cJ2_init_3 50 = .ok (.invokevirtual 29, 3) := by decide +kernel
theorem dJ2_init_3_53 : decode cJ2_init_3 53 = .ok (.invokevirtual 32, 3) := by decide +kernel
theorem dJ2_init_3_56 : decode cJ2_init_3 56 = .ok (.invokespecial 36, 3) := by decide +kernel
theorem dJ2_init_3_59 : decode cJ2_init_3 59 = .ok (.athrow, 1) := by decide +kernel
theorem dJ2_init_3_60 : decode cJ2_init_3 60 = .ok (.return_, 1) := by decide +kernel
theorem dJ2_isEmpty_0 : decode cJ2_isEmpty 0 = .ok (.aload_n 0, 1) := by decide +kernel
theorem dJ2_isEmpty_1 : decode cJ2_isEmpty 1 = .ok (.getfield 48, 3) := by decide +kernel
theorem dJ2_isEmpty_4 : decode cJ2_isEmpty 4 = .ok (.ifCond .ne 7, 3) := by decide +kernel
theorem dJ2_isEmpty_7 : decode cJ2_isEmpty 7 = .ok (.iconst 1, 1) := by decide +kernel
theorem dJ2_isEmpty_8 : decode cJ2_isEmpty 8 = .ok (.goto 4, 3) := by decide +kernel
theorem dJ2_isEmpty_11 : decode cJ2_isEmpty 11 = .ok (.iconst 0, 1) := by decide +kernel
theorem dJ2_isEmpty_12 : decode cJ2_isEmpty 12 = .ok (.ireturn, 1) := by decide +kernel
theorem dJ3_checkIndex_0 : decode cJ3_checkIndex 0 = .ok (.iload_n 0, 1) := by decide +kernel
theorem dJ3_checkIndex_1 : decode cJ3_checkIndex 1 = .ok (.iload_n 1, 1) := by decide +kernel
theorem dJ3_checkIndex_2 : decode cJ3_checkIndex 2 = .ok (.aconst_null, 1) := by decide +kernel
theorem dJ3_checkIndex_3 : decode cJ3_checkIndex 3 = .ok (.invokestatic 105, 3) := by decide +kernel
theorem dJ3_checkIndex_6 : decode cJ3_checkIndex 6 = .ok (.ireturn, 1) := by decide +kernel
theorem dJ4_checkIndex_0 : decode cJ4_checkIndex 0 = .ok (.iload_n 0, 1) := by decide +kernel
theorem dJ4_checkIndex_1 : decode cJ4_checkIndex 1 = .ok (.ifCond .lt 8, 3) := by decide +kernel
theorem dJ4_checkIndex_4 : decode cJ4_checkIndex 4 = .ok (.iload_n 0, 1) := by decide +kernel
theorem dJ4_checkIndex_5 : decode cJ4_checkIndex 5 = .ok (.iload_n 1, 1) := by decide +kernel
theorem dJ4_checkIndex_6 : decode cJ4_checkIndex 6 = .ok (.if_icmp .lt 10, 3) := by decide +kernel
theorem dJ4_checkIndex_9 : decode cJ4_checkIndex 9 = .ok (.aload_n 2, 1) := by decide +kernel
theorem dJ4_checkIndex_10 : decode cJ4_checkIndex 10 = .ok (.iload_n 0, 1) := by decide +kernel
theorem dJ4_checkIndex_11 : decode cJ4_checkIndex 11 = .ok (.iload_n 1, 1) := by decide +kernel
theorem dJ4_checkIndex_12 : decode cJ4_checkIndex 12 = .ok (.invokestatic 95, 3) := by decide +kernel
theorem dJ4_checkIndex_15 : decode cJ4_checkIndex 15 = .ok (.athrow, 1) := by decide +kernel
theorem dJ4_checkIndex_16 : decode cJ4_checkIndex 16 = .ok (.iload_n 0, 1) := by decide +kernel
theorem dJ4_checkIndex_17 : decode cJ4_checkIndex 17 = .ok (.ireturn, 1) := by decide +kernel
theorem dX2_init_0 : decode cX2_init 0 = .ok (.aload_n 0, 1) := by decide +kernel
theorem dX2_init_1 : decode cX2_init 1 = .ok (.invokespecial 1, 3) := by decide +kernel
theorem dX2_init_4 : decode cX2_init 4 = .ok (.aload_n 0, 1) := by decide +kernel
theorem dX2_init_5 : decode cX2_init 5 = .ok (.iconst 4, 1) := by decide +kernel
theorem dX2_init_6 : decode cX2_init 6 = .ok (.newarray .int, 2) := by decide +kernel
theorem dX2_init_8 : decode cX2_init 8 = .ok (.putfield 7, 3) := by decide +kernel
theorem dX2_init_11 : decode cX2_init 11 = .ok (.iconst 0, 1) := by decide +kernel
theorem dX2_init_12 : decode cX2_init 12 = .ok (.istore 7, 2) := by decide +kernel
theorem dX2_init_14 : decode cX2_init 14 = .ok (.iload 7, 2) := by decide +kernel
theorem dX2_init_16 : decode cX2_init 16 = .ok (.iconst 4, 1) := by decide +kernel
theorem dX2_init_17 : decode cX2_init 17 = .ok (.if_icmp .ge 25, 3) := by decide +kernel
theorem dX2_init_20 : decode cX2_init 20 = .ok (.aload_n 0, 1) := by decide +kernel
theorem dX2_init_21 : decode cX2_init 21 = .ok (.getfield 7, 3) := by decide +kernel
theorem dX2_init_24 : decode cX2_init 24 = .ok (.iload 7, 2) := by decide +kernel
theorem dX2_init_26 : decode cX2_init 26 = .ok (.iload_n 1, 1) := by decide +kernel
theorem dX2_init_27 : decode cX2_init 27 = .ok (.iconst 4, 1) := by decide +kernel
theorem dX2_init_28 : decode cX2_init 28 = .ok (.iload 7, 2) := by decide +kernel
theorem dX2_init_30 : decode cX2_init 30 = .ok (.imul, 1) := by decide +kernel
theorem dX2_init_31 : decode cX2_init 31 = .ok (.ishr, 1) := by decide +kernel
theorem dX2_init_32 : decode cX2_init 32 = .ok (.bipush 15, 2) := by decide +kernel
theorem dX2_init_34 : decode cX2_init 34 = .ok (.iand, 1) := by decide +kernel
theorem dX2_init_35 : decode cX2_init 35 = .ok (.iastore, 1) := by decide +kernel
theorem dX2_init_36 : decode cX2_init 36 = .ok (.iinc 7 1, 3) := by decide +kernel
theorem dX2_init_39 : decode cX2_init 39 = .ok (.goto (-25), 3) := by decide +kernel
theorem dX2_init_42 : decode cX2_init 42 = .ok (.aload_n 0, 1) := by decide +kernel
theorem dX2_init_43 : decode cX2_init 43 = .ok (.iload_n 2, 1) := by decide +kernel
theorem dX2_init_44 : decode cX2_init 44 = .ok (.putfield 13, 3) := by decide +kernel
theorem dX2_init_47 : decode cX2_init 47 = .ok (.aload_n 0, 1) := by decide +kernel
theorem dX2_init_48 : decode cX2_init 48 = .ok (.iload_n 3, 1) := by decide +kernel
theorem dX2_init_49 : decode cX2_init 49 = .ok (.putfield 17, 3) := by decide +kernel
theorem dX2_init_52 : decode cX2_init 52 = .ok (.aload_n 0, 1) := by decide +kernel
theorem dX2_init_53 : decode cX2_init 53 = .ok (.iload 4, 2) := by decide +kernel
theorem dX2_init_55 : decode cX2_init 55 = .ok (.putfield 21, 3) := by decide +kernel
theorem dX2_init_58 : decode cX2_init 58 = .ok (.aload_n 0, 1) := by decide +kernel
theorem dX2_init_59 : decode cX2_init 59 = .ok (.lload 5, 2) := by decide +kernel
theorem dX2_init_61 : decode cX2_init 61 = .ok (.putfield 24, 3) := by decide +kernel
theorem dX2_init_64 : decode cX2_init 64 = .ok (.return_, 1) := by decide +kernel
theorem dX2_lies_0 : decode cX2_lies 0 = .ok (.aload_n 0, 1) := by decide +kernel
theorem dX2_lies_1 : decode cX2_lies 1 = .ok (.getfield 17, 3) := by decide +kernel
theorem dX2_lies_4 : decode cX2_lies 4 = .ok (.ifCond .eq 9, 3) := by decide +kernel
theorem dX2_lies_7 : decode cX2_lies 7 = .ok (.iload_n 1, 1) := by decide +kernel
theorem dX2_lies_8 : decode cX2_lies 8 = .ok (.iconst 4, 1) := by decide +kernel
theorem dX2_lies_9 : decode cX2_lies 9 = .ok (.iand, 1) := by decide +kernel
theorem dX2_lies_10 : decode cX2_lies 10 = .ok (.goto 4, 3) := by decide +kernel
theorem dX2_lies_13 : decode cX2_lies 13 = .ok (.iconst 0, 1) := by decide +kernel
theorem dX2_lies_14 : decode cX2_lies 14 = .ok (.iload_n 1, 1) := by decide +kernel
theorem dX2_lies_15 : decode cX2_lies 15 = .ok (.invokestatic 28, 3) := by decide +kernel
theorem dX2_lies_18 : decode cX2_lies 18 = .ok (.aload_n 0, 1) := by decide +kernel
theorem dX2_lies_19 : decode cX2_lies 19 = .ok (.getfield 13, 3) := by decide +kernel
theorem dX2_lies_22 : decode cX2_lies 22 = .ok (.irem, 1) := by decide +kernel
theorem dX2_lies_23 : decode cX2_lies 23 = .ok (.ior, 1) := by decide +kernel
theorem dX2_lies_24 : decode cX2_lies 24 = .ok (.ireturn, 1) := by decide +kernel
theorem dX2_colour_0 : decode cX2_colour 0 = .ok (.aload_n 0, 1) := by decide +kernel
theorem dX2_colour_1 : decode cX2_colour 1 = .ok (.getfield 7, 3) := by decide +kernel
theorem dX2_colour_4 : decode cX2_colour 4 = .ok (.iload_n 1, 1) := by decide +kernel
theorem dX2_colour_5 : decode cX2_colour 5 = .ok (.iload_n 2, 1) := by decide +kernel
theorem dX2_colour_6 : decode cX2_colour 6 = .ok (.invokestatic 33, 3) := by decide +kernel
theorem dX2_colour_9 : decode cX2_colour 9 = .ok (.iaload, 1) := by decide +kernel
theorem dX2_colour_10 : decode cX2_colour 10 = .ok (.ireturn, 1) := by decide +kernel
theorem dJ5_newLength_0 : decode cJ5_newLength 0 = .ok (.iload_n 0, 1) := by decide +kernel
theorem dJ5_newLength_1 : decode cJ5_newLength 1 = .ok (.iload_n 1, 1) := by decide +kernel
theorem dJ5_newLength_2 : decode cJ5_newLength 2 = .ok (.iload_n 2, 1) := by decide +kernel
theorem dJ5_newLength_3 : decode cJ5_newLength 3 = .ok (.invokestatic 194, 3) := by decide +kernel
theorem dJ5_newLength_6 : decode cJ5_newLength 6 = .ok (.iadd, 1) := by decide +kernel
theorem dJ5_newLength_7 : decode cJ5_newLength 7 = .ok (.istore_n 3, 1) := by decide +kernel
theorem dJ5_newLength_8 : decode cJ5_newLength 8 = .ok (.iconst 0, 1) := by decide +kernel
theorem dJ5_newLength_9 : decode cJ5_newLength 9 = .ok (.iload_n 3, 1) := by decide +kernel
theorem dJ5_newLength_10 : decode cJ5_newLength 10 = .ok (.if_icmp .ge 11, 3) := by decide +kernel
theorem dJ5_newLength_13 : decode cJ5_newLength 13 = .ok (.iload_n 3, 1) := by decide +kernel
theorem dJ5_newLength_14 : decode cJ5_newLength 14 = .ok (.ldc 200, 2) := by decide +kernel
theorem dJ5_newLength_16 : decode cJ5_newLength 16 = .ok (.if_icmp .gt 5, 3) := by decide +kernel
theorem dJ5_newLength_19 : decode cJ5_newLength 19 = .ok (.iload_n 3, 1) := by decide +kernel
theorem dJ5_newLength_20 : decode cJ5_newLength 20 = .ok (.ireturn, 1) := by decide +kernel
theorem dJ5_newLength_21 : decode cJ5_newLength 21 = .ok (.iload_n 0, 1) := by decide +kernel
theorem dJ5_newLength_22 : decode cJ5_newLength 22 = .ok (.iload_n 1, 1) := by decide +kernel
theorem dJ5_newLength_23 : decode cJ5_newLength 23 = .ok (.invokestatic 201, 3) := by decide +kernel
theorem dJ5_newLength_26 : decode cJ5_newLength 26 = .ok (.ireturn, 1) := by decide +kernel
theorem dJ5_hugeLength_0 : decode cJ5_hugeLength 0 = .ok (.iload_n 0, 1) := by decide +kernel
theorem dJ5_hugeLength_1 : decode cJ5_hugeLength 1 = .ok (.iload_n 1, 1) := by decide +kernel
theorem dJ5_hugeLength_2 : decode cJ5_hugeLength 2 = .ok (.iadd, 1) := by decide +kernel
theorem dJ5_hugeLength_3 : decode cJ5_hugeLength 3 = .ok (.istore_n 2, 1) := by decide +kernel
theorem dJ5_hugeLength_4 : decode cJ5_hugeLength 4 = .ok (.iload_n 2, 1) := by decide +kernel
theorem dJ5_hugeLength_5 : decode cJ5_hugeLength 5 = .ok (.ifCond .ge 44, 3) := by decide +kernel
theorem dJ5_hugeLength_8 : decode cJ5_hugeLength 8 = .ok (.new 204, 3) := by decide +kernel
theorem dJ5_hugeLength_11 : decode cJ5_hugeLength 11 = .ok (.dup, 1) := by decide +kernel
theorem dJ5_hugeLength_12 : decode cJ5_hugeLength 12 = .ok (.new 89, 3) := by decide +kernel
theorem dJ5_hugeLength_15 : decode cJ5_hugeLength 15 = .ok (.dup, 1) := by decide +kernel
theorem dJ5_hugeLength_16 : decode cJ5_hugeLength 16 = .ok (.invokespecial 91, 3) := by decide +kernel
theorem dJ5_hugeLength_19 : decode cJ5_hugeLength 19 = .ok (.ldc 206, 2) := by decide +kernel
theorem dJ5_hugeLength_21 : decode cJ5_hugeLength 21 = .ok (.invokevirtual 94, 3) := by decide +kernel
theorem dJ5_hugeLength_24 : decode cJ5_hugeLength 24 = .ok (.iload_n 0, 1) := by decide +kernel
theorem dJ5_hugeLength_25 : decode cJ5_hugeLength 25 = .ok (.invokevirtual 98, 3) := by decide +kernel
theorem dJ5_hugeLength_28 : decode cJ5_hugeLength 28 = .ok (.ldc 208, 2) := by decide +kernel
theorem dJ5_hugeLength_30 : decode cJ5_hugeLength 30 = .ok (.invokevirtual 94, 3) := by decide +kernel
theorem dJ5_hugeLength_33 : decode cJ5_hugeLength 33 = .ok (.iload_n 1, 1) := by decide +kernel
theorem dJ5_hugeLength_34 : decode cJ5_hugeLength 34 = .ok (.invokevirtual 98, 3) := by decide +kernel
theorem dJ5_hugeLength_37 : decode cJ5_hugeLength 37 = .ok (.ldc 210, 2) := by decide +kernel
theorem dJ5_hugeLength_39 : decode cJ5_hugeLength 39 = .ok (.invokevirtual 94, 3) := by decide +kernel
theorem dJ5_hugeLength_42 : decode cJ5_hugeLength 42 = .ok (.invokevirtual 101, 3) := by decide +kernel
theorem dJ5_hugeLength_45 : decode cJ5_hugeLength 45 = .ok (.invokespecial 212, 3) := by decide +kernel
theorem dJ5_hugeLength_48 : decode cJ5_hugeLength 48 = .ok (.athrow, 1) := by decide +kernel
theorem dJ5_hugeLength_49 : decode cJ5_hugeLength 49 = .ok (.iload_n 2, 1) := by decide +kernel
theorem dJ5_hugeLength_50 : decode cJ5_hugeLength 50 = .ok (.ldc 200, 2) := by decide +kernel
theorem dJ5_hugeLength_52 : decode cJ5_hugeLength 52 = .ok (.if_icmp .gt 6, 3) := by decide +kernel
theorem dJ5_hugeLength_55 : decode cJ5_hugeLength 55 = .ok (.ldc 200, 2) := by decide +kernel
theorem dJ5_hugeLength_57 : decode cJ5_hugeLength 57 = .ok (.ireturn, 1) := by decide +kernel
theorem dJ5_hugeLength_58 : decode cJ5_hugeLength 58 = .ok (.iload_n 2, 1) := by decide +kernel
theorem dJ5_hugeLength_59 : decode cJ5_hugeLength 59 = .ok (.ireturn, 1) := by decide +kernel
theorem dJ6_max_0 : decode cJ6_max 0 = .ok (.iload_n 0, 1) := by decide +kernel
theorem dJ6_max_1 : decode cJ6_max 1 = .ok (.iload_n 1, 1) := by decide +kernel
theorem dJ6_max_2 : decode cJ6_max 2 = .ok (.if_icmp .lt 7, 3) := by decide +kernel
theorem dJ6_max_5 : decode cJ6_max 5 = .ok (.iload_n 0, 1) := by decide +kernel
theorem dJ6_max_6 : decode cJ6_max 6 = .ok (.goto 4, 3) := by decide +kernel
theorem dJ6_max_9 : decode cJ6_max 9 = .ok (.iload_n 1, 1) := by decide +kernel
theorem dJ6_max_10 : decode cJ6_max 10 = .ok (.ireturn, 1) := by decide +kernel
theorem dJ6_min_0 : decode cJ6_min 0 = .ok (.iload_n 0, 1) := by decide +kernel
theorem dJ6_min_1 : decode cJ6_min 1 = .ok (.iload_n 1, 1) := by decide +kernel
theorem dJ6_min_2 : decode cJ6_min 2 = .ok (.if_icmp .gt 7, 3) := by decide +kernel
theorem dJ6_min_5 : decode cJ6_min 5 = .ok (.iload_n 0, 1) := by decide +kernel
theorem dJ6_min_6 : decode cJ6_min 6 = .ok (.goto 4, 3) := by decide +kernel
theorem dJ6_min_9 : decode cJ6_min 9 = .ok (.iload_n 1, 1) := by decide +kernel
theorem dJ6_min_10 : decode cJ6_min 10 = .ok (.ireturn, 1) := by decide +kernel
theorem dJ6_abs_0 : decode cJ6_abs 0 = .ok (.iload_n 0, 1) := by decide +kernel
theorem dJ6_abs_1 : decode cJ6_abs 1 = .ok (.ifCond .ge 8, 3) := by decide +kernel
theorem dJ6_abs_4 : decode cJ6_abs 4 = .ok (.iload_n 0, 1) := by decide +kernel
theorem dJ6_abs_5 : decode cJ6_abs 5 = .ok (.ineg, 1) := by decide +kernel
theorem dJ6_abs_6 : decode cJ6_abs 6 = .ok (.goto 4, 3) := by decide +kernel
theorem dJ6_abs_9 : decode cJ6_abs 9 = .ok (.iload_n 0, 1) := by decide +kernel
theorem dJ6_abs_10 : decode cJ6_abs 10 = .ok (.ireturn, 1) := by decide +kernel
theorem dJ6_multiplyExact_0 : decode cJ6_multiplyExact 0 = .ok (.lload_n 0, 1) := by decide +kernel
theorem dJ6_multiplyExact_1 : decode cJ6_multiplyExact 1 = .ok (.lload_n 2, 1) := by decide +kernel
theorem dJ6_multiplyExact_2 : decode cJ6_multiplyExact 2 = .ok (.lmul, 1) := by decide +kernel
theorem dJ6_multiplyExact_3 : decode cJ6_multiplyExact 3 = .ok (.lstore 4, 2) := by decide +kernel
theorem dJ6_multiplyExact_5 : decode cJ6_multiplyExact 5 = .ok (.lload_n 0, 1) := by decide +kernel
theorem dJ6_multiplyExact_6 : decode cJ6_multiplyExact 6 = .ok (.invokestatic 122, 3) := by decide +kernel
theorem dJ6_multiplyExact_9 : decode cJ6_multiplyExact 9 = .ok (.lstore 6, 2) := by decide +kernel
theorem dJ6_multiplyExact_11 : decode cJ6_multiplyExact 11 = .ok (.lload_n 2, 1) := by decide +kernel
theorem dJ6_multiplyExact_12 : decode cJ6_multiplyExact 12 = .ok (.invokestatic 122, 3) := by decide +kernel
theorem dJ6_multiplyExact_15 : decode cJ6_multiplyExact 15 = .ok (.lstore 8, 2) := by decide +kernel
theorem dJ6_multiplyExact_17 : decode cJ6_multiplyExact 17 = .ok (.lload 6, 2) := by decide +kernel
theorem dJ6_multiplyExact_19 : decode cJ6_multiplyExact 19 = .ok (.lload 8, 2) := by decide +kernel
theorem dJ6_multiplyExact_21 : decode cJ6_multiplyExact 21 = .ok (.lor, 1) := by decide +kernel
theorem dJ6_multiplyExact_22 : decode cJ6_multiplyExact 22 = .ok (.bipush 31, 2) := by decide +kernel
theorem dJ6_multiplyExact_24 : decode cJ6_multiplyExact 24 = .ok (.lushr, 1) := by decide +kernel
theorem dJ6_multiplyExact_25 : decode cJ6_multiplyExact 25 = .ok (.lconst 0, 1) := by decide +kernel
theorem dJ6_multiplyExact_26 : decode cJ6_multiplyExact 26 = .ok (.lcmp, 1) := by decide +kernel
theorem dJ6_multiplyExact_27 : decode cJ6_multiplyExact 27 = .ok (.ifCond .eq 44, 3) := by decide +kernel
theorem dJ6_multiplyExact_30 : decode cJ6_multiplyExact 30 = .ok (.lload_n 2, 1) := by decide +kernel
theorem dJ6_multiplyExact_31 : decode cJ6_multiplyExact 31 = .ok (.lconst 0, 1) := by decide +kernel
theorem dJ6_multiplyExact_32 : decode cJ6_multiplyExact 32 = .ok (.lcmp, 1) := by decide +kernel
theorem dJ6_multiplyExact_33 : decode cJ6_multiplyExact 33 = .ok (.ifCond .eq 12, 3) := by decide +kernel
theorem dJ6_multiplyExact_36 : decode cJ6_multiplyExact 36 = .ok (.lload 4, 2) := by decide +kernel
theorem dJ6_multiplyExact_38 : decode cJ6_multiplyExact 38 = .ok (.lload_n 2, 1) := by decide +kernel
theorem dJ6_multiplyExact_39 : decode cJ6_multiplyExact 39 = .ok (.ldiv, 1) := by decide +kernel
theorem dJ6_multiplyExact_40 : decode cJ6_multiplyExact 40 = .ok (.lload_n 0, 1) := by decide +kernel
theorem dJ6_multiplyExact_41 : decode cJ6_multiplyExact 41 = .ok (.lcmp, 1) := by decide +kernel
theorem dJ6_multiplyExact_42 : decode cJ6_multiplyExact 42 = .ok (.ifCond .ne 19, 3) := by decide +kernel
theorem dJ6_multiplyExact_45 : decode cJ6_multiplyExact 45 = .ok (.lload_n 0, 1) := by decide +kernel
theorem dJ6_multiplyExact_46 : decode cJ6_multiplyExact 46 = .ok (.ldc2_w 128, 3) := by decide +kernel
theorem dJ6_multiplyExact_49 : decode cJ6_multiplyExact 49 = .ok (.lcmp, 1) := by decide +kernel
theorem dJ6_multiplyExact_50 : decode cJ6_multiplyExact 50 = .ok (.ifCond .ne 21, 3) := by decide +kernel
theorem dJ6_multiplyExact_53 : decode cJ6_multiplyExact 53 = .ok (.lload_n 2, 1) := by decide +kernel
theorem dJ6_multiplyExact_54 : decode cJ6_multiplyExact 54 = .ok (.ldc2_w 130, 3) := by decide +kernel
theorem dJ6_multiplyExact_57 : decode cJ6_multiplyExact 57 = .ok (.lcmp, 1) := by decide +kernel
theorem dJ6_multiplyExact_58 : decode cJ6_multiplyExact 58 = .ok (.ifCond .ne 13, 3) := by decide +kernel
theorem dJ6_multiplyExact_61 : decode cJ6_multiplyExact 61 = .ok (.new 109, 3) := by decide +kernel
theorem dJ6_multiplyExact_64 : decode cJ6_multiplyExact 64 = .ok (.dup, 1) := by decide +kernel
theorem dJ6_multiplyExact_65 : decode cJ6_multiplyExact 65 = .ok (.ldc 116, 2) := by decide +kernel
theorem dJ6_multiplyExact_67 : decode cJ6_multiplyExact 67 = .ok (.invokespecial 113, 3) := by decide +kernel
theorem dJ6_multiplyExact_70 : decode cJ6_multiplyExact 70 = .ok (.athrow, 1) := by decide +kernel
theorem dJ6_multiplyExact_71 : decode cJ6_multiplyExact 71 = .ok (.lload 4, 2) := by decide +kernel
theorem dJ6_multiplyExact_73 : decode cJ6_multiplyExact 73 = .ok (.lreturn, 1) := by decide +kernel
theorem dJ6_abs_2_0 : decode cJ6_abs_2 0 = .ok (.lload_n 0, 1) := by decide +kernel
theorem dJ6_abs_2_1 : decode cJ6_abs_2 1 = .ok (.lconst 0, 1) := by decide +kernel
theorem dJ6_abs_2_2 : decode cJ6_abs_2 2 = .ok (.lcmp, 1) := by decide +kernel
theorem dJ6_abs_2_3 : decode cJ6_abs_2 3 = .ok (.ifCond .ge 8, 3) := by decide +kernel
theorem dJ6_abs_2_6 : decode cJ6_abs_2 6 = .ok (.lload_n 0, 1) := by decide +kernel
theorem dJ6_abs_2_7 : decode cJ6_abs_2 7 = .ok (.lneg, 1) := by decide +kernel
theorem dJ6_abs_2_8 : decode cJ6_abs_2 8 = .ok (.goto 4, 3) := by decide +kernel
theorem dJ6_abs_2_11 : decode cJ6_abs_2 11 = .ok (.lload_n 0, 1) := by decide +kernel
theorem dJ6_abs_2_12 : decode cJ6_abs_2 12 = .ok (.lreturn, 1) := by decide +kernel
theorem dJ6_addExact_0 : decode cJ6_addExact 0 = .ok (.lload_n 0, 1) := by decide +kernel
theorem dJ6_addExact_1 : decode cJ6_addExact 1 = .ok (.lload_n 2, 1) := by decide +kernel
theorem dJ6_addExact_2 : decode cJ6_addExact 2 = .ok (.ladd, 1) := by decide +kernel
theorem dJ6_addExact_3 : decode cJ6_addExact 3 = .ok (.lstore 4, 2) := by decide +kernel
theorem dJ6_addExact_5 : decode cJ6_addExact 5 = .ok (.lload_n 0, 1) := by decide +kernel
theorem dJ6_addExact_6 : decode cJ6_addExact 6 = .ok (.lload 4, 2) := by decide +kernel
theorem dJ6_addExact_8 : decode cJ6_addExact 8 = .ok (.lxor, 1) := by decide +kernel
theorem dJ6_addExact_9 : decode cJ6_addExact 9 = .ok (.lload_n 2, 1) := by decide +kernel
theorem dJ6_addExact_10 : decode cJ6_addExact 10 = .ok (.lload 4, 2) := by decide +kernel
theorem dJ6_addExact_12 : decode cJ6_addExact 12 = .ok (.lxor, 1) := by decide +kernel
theorem dJ6_addExact_13 : decode cJ6_addExact 13 = .ok (.land, 1) := by decide +kernel
theorem dJ6_addExact_14 : decode cJ6_addExact 14 = .ok (.lconst 0, 1) := by decide +kernel
theorem dJ6_addExact_15 : decode cJ6_addExact 15 = .ok (.lcmp, 1) := by decide +kernel
theorem dJ6_addExact_16 : decode cJ6_addExact 16 = .ok (.ifCond .ge 13, 3) := by decide +kernel
theorem dJ6_addExact_19 : decode cJ6_addExact 19 = .ok (.new 109, 3) := by decide +kernel
theorem dJ6_addExact_22 : decode cJ6_addExact 22 = .ok (.dup, 1) := by decide +kernel
theorem dJ6_addExact_23 : decode cJ6_addExact 23 = .ok (.ldc 116, 2) := by decide +kernel
theorem dJ6_addExact_25 : decode cJ6_addExact 25 = .ok (.invokespecial 113, 3) := by decide +kernel
theorem dJ6_addExact_28 : decode cJ6_addExact 28 = .ok (.athrow, 1) := by decide +kernel
theorem dJ6_addExact_29 : decode cJ6_addExact 29 = .ok (.lload 4, 2) := by decide +kernel
theorem dJ6_addExact_31 : decode cJ6_addExact 31 = .ok (.lreturn, 1) := by decide +kernel
theorem dJ7_copyOf_0 : decode cJ7_copyOf 0 = .ok (.aload_n 0, 1) := by decide +kernel
theorem dJ7_copyOf_1 : decode cJ7_copyOf 1 = .ok (.iload_n 1, 1) := by decide +kernel
theorem dJ7_copyOf_2 : decode cJ7_copyOf 2 = .ok (.aload_n 0, 1) := by decide +kernel
theorem dJ7_copyOf_3 : decode cJ7_copyOf 3 = .ok (.invokevirtual 86, 3) := by decide +kernel
theorem dJ7_copyOf_6 : decode cJ7_copyOf 6 = .ok (.invokestatic 300, 3) := by decide +kernel
theorem dJ7_copyOf_9 : decode cJ7_copyOf 9 = .ok (.areturn, 1) := by decide +kernel
theorem dJ7_copyOf_2_0 : decode cJ7_copyOf_2 0 = .ok (.aload_n 2, 1) := by decide +kernel
theorem dJ7_copyOf_2_1 : decode cJ7_copyOf_2 1 = .ok (.ldc 110, 2) := by decide +kernel
theorem dJ7_copyOf_2_3 : decode cJ7_copyOf_2 3 = .ok (.if_acmp .ne 10, 3) := by decide +kernel
theorem dJ7_copyOf_2_6 : decode cJ7_copyOf_2 6 = .ok (.iload_n 1, 1) := by decide +kernel
theorem dJ7_copyOf_2_7 : decode cJ7_copyOf_2 7 = .ok (.anewarray 2, 3) := by decide +kernel
theorem dJ7_copyOf_2_10 : decode cJ7_copyOf_2 10 = .ok (.goto 14, 3) := by decide +kernel
theorem dJ7_copyOf_2_13 : decode cJ7_copyOf_2 13 = .ok (.aload_n 2, 1) := by decide +kernel
theorem dJ7_copyOf_2_14 : decode cJ7_copyOf_2 14 = .ok (.invokevirtual 90, 3) := by decide +kernel
theorem dJ7_copyOf_2_17 : decode cJ7_copyOf_2 17 = .ok (.iload_n 1, 1) := by decide +kernel
theorem dJ7_copyOf_2_18 : decode cJ7_copyOf_2 18 = .ok (.invokestatic 95, 3) := by decide +kernel
theorem dJ7_copyOf_2_21 : decode cJ7_copyOf_2 21 = .ok (.checkcast 110, 3) := by decide +kernel
theorem dJ7_copyOf_2_24 : decode cJ7_copyOf_2 24 = .ok (.astore_n 3, 1) := by decide +kernel
theorem dJ7_copyOf_2_25 : decode cJ7_copyOf_2 25 = .ok (.aload_n 0, 1) := by decide +kernel
theorem dJ7_copyOf_2_26 : decode cJ7_copyOf_2 26 = .ok (.iconst 0, 1) := by decide +kernel
theorem dJ7_copyOf_2_27 : decode cJ7_copyOf_2 27 = .ok (.aload_n 3, 1) := by decide +kernel
theorem dJ7_copyOf_2_28 : decode cJ7_copyOf_2 28 = .ok (.iconst 0, 1) := by decide +kernel
theorem dJ7_copyOf_2_29 : decode cJ7_copyOf_2 29 = .ok (.aload_n 0, 1) := by decide +kernel
theorem dJ7_copyOf_2_30 : decode cJ7_copyOf_2 30 = .ok (.arraylength, 1) := by decide +kernel
theorem dJ7_copyOf_2_31 : decode cJ7_copyOf_2 31 = .ok (.iload_n 1, 1) := by decide +kernel
theorem dJ7_copyOf_2_32 : decode cJ7_copyOf_2 32 = .ok (.invokestatic 304, 3) := by decide +kernel
theorem dJ7_copyOf_2_35 : decode cJ7_copyOf_2 35 = .ok (.invokestatic 150, 3) := by decide +kernel
theorem dJ7_copyOf_2_38 : decode cJ7_copyOf_2 38 = .ok (.aload_n 3, 1) := by decide +kernel
theorem dJ7_copyOf_2_39 : decode cJ7_copyOf_2 39 = .ok (.areturn, 1) := by decide +kernel
theorem dX3_turns_0 : decode cX3_turns 0 = .ok (.iload_n 0, 1) := by decide +kernel
theorem dX3_turns_1 : decode cX3_turns 1 = .ok (.iconst 3, 1) := by decide +kernel
theorem dX3_turns_2 : decode cX3_turns 2 = .ok (.iand, 1) := by decide +kernel
theorem dX3_turns_3 : decode cX3_turns 3 = .ok (.ireturn, 1) := by decide +kernel
theorem dX3_edge_0 : decode cX3_edge 0 = .ok (.iload_n 1, 1) := by decide +kernel
theorem dX3_edge_1 : decode cX3_edge 1 = .ok (.iload_n 0, 1) := by decide +kernel
theorem dX3_edge_2 : decode cX3_edge 2 = .ok (.invokestatic 13, 3) := by decide +kernel
theorem dX3_edge_5 : decode cX3_edge 5 = .ok (.isub, 1) := by decide +kernel
theorem dX3_edge_6 : decode cX3_edge 6 = .ok (.iconst 3, 1) := by decide +kernel
theorem dX3_edge_7 : decode cX3_edge 7 = .ok (.iand, 1) := by decide +kernel
theorem dX3_edge_8 : decode cX3_edge 8 = .ok (.istore_n 2, 1) := by decide +kernel
theorem dX3_edge_9 : decode cX3_edge 9 = .ok (.iload_n 0, 1) := by decide +kernel
theorem dX3_edge_10 : decode cX3_edge 10 = .ok (.invokestatic 7, 3) := by decide +kernel
theorem dX3_edge_13 : decode cX3_edge 13 = .ok (.iconst 1, 1) := by decide +kernel
theorem dX3_edge_14 : decode cX3_edge 14 = .ok (.if_icmp .ne 16, 3) := by decide +kernel
theorem dX3_edge_17 : decode cX3_edge 17 = .ok (.iload_n 2, 1) := by decide +kernel
theorem dX3_edge_18 : decode cX3_edge 18 = .ok (.iconst 1, 1) := by decide +kernel
theorem dX3_edge_19 : decode cX3_edge 19 = .ok (.iand, 1) := by decide +kernel
theorem dX3_edge_20 : decode cX3_edge 20 = .ok (.iconst 1, 1) := by decide +kernel
theorem dX3_edge_21 : decode cX3_edge 21 = .ok (.if_icmp .ne 9, 3) := by decide +kernel
theorem dX3_edge_24 : decode cX3_edge 24 = .ok (.iconst 4, 1) := by decide +kernel
theorem dX3_edge_25 : decode cX3_edge 25 = .ok (.iload_n 2, 1) := by decide +kernel
theorem dX3_edge_26 : decode cX3_edge 26 = .ok (.isub, 1) := by decide +kernel
theorem dX3_edge_27 : decode cX3_edge 27 = .ok (.goto 4, 3) := by decide +kernel
theorem dX3_edge_30 : decode cX3_edge 30 = .ok (.iload_n 2, 1) := by decide +kernel
theorem dX3_edge_31 : decode cX3_edge 31 = .ok (.ireturn, 1) := by decide +kernel
theorem dX3_mirror_0 : decode cX3_mirror 0 = .ok (.iload_n 0, 1) := by decide +kernel
theorem dX3_mirror_1 : decode cX3_mirror 1 = .ok (.iconst 2, 1) := by decide +kernel
theorem dX3_mirror_2 : decode cX3_mirror 2 = .ok (.ishr, 1) := by decide +kernel
theorem dX3_mirror_3 : decode cX3_mirror 3 = .ok (.ireturn, 1) := by decide +kernel
theorem dX3_then_0 : decode cX3_then 0 = .ok (.iload_n 1, 1) := by decide +kernel
theorem dX3_then_1 : decode cX3_then 1 = .ok (.invokestatic 7, 3) := by decide +kernel
theorem dX3_then_4 : decode cX3_then 4 = .ok (.iconst 1, 1) := by decide +kernel
theorem dX3_then_5 : decode cX3_then 5 = .ok (.if_icmp .ne 15, 3) := by decide +kernel
theorem dX3_then_8 : decode cX3_then 8 = .ok (.iload_n 1, 1) := by decide +kernel
theorem dX3_then_9 : decode cX3_then 9 = .ok (.invokestatic 13, 3) := by decide +kernel
theorem dX3_then_12 : decode cX3_then 12 = .ok (.iload_n 0, 1) := by decide +kernel
theorem dX3_then_13 : decode cX3_then 13 = .ok (.invokestatic 13, 3) := by decide +kernel
theorem dX3_then_16 : decode cX3_then 16 = .ok (.isub, 1) := by decide +kernel
theorem dX3_then_17 : decode cX3_then 17 = .ok (.goto 12, 3) := by decide +kernel
theorem dX3_then_20 : decode cX3_then 20 = .ok (.iload_n 1, 1) := by decide +kernel
theorem dX3_then_21 : decode cX3_then 21 = .ok (.invokestatic 13, 3) := by decide +kernel
theorem dX3_then_24 : decode cX3_then 24 = .ok (.iload_n 0, 1) := by decide +kernel
theorem dX3_then_25 : decode cX3_then 25 = .ok (.invokestatic 13, 3) := by decide +kernel
theorem dX3_then_28 : decode cX3_then 28 = .ok (.iadd, 1) := by decide +kernel
theorem dX3_then_29 : decode cX3_then 29 = .ok (.istore_n 2, 1) := by decide +kernel
theorem dX3_then_30 : decode cX3_then 30 = .ok (.iload_n 0, 1) := by decide +kernel
theorem dX3_then_31 : decode cX3_then 31 = .ok (.invokestatic 7, 3) := by decide +kernel
theorem dX3_then_34 : decode cX3_then 34 = .ok (.iload_n 1, 1) := by decide +kernel
theorem dX3_then_35 : decode cX3_then 35 = .ok (.invokestatic 7, 3) := by decide +kernel
theorem dX3_then_38 : decode cX3_then 38 = .ok (.ixor, 1) := by decide +kernel
theorem dX3_then_39 : decode cX3_then 39 = .ok (.iconst 2, 1) := by decide +kernel
theorem dX3_then_40 : decode cX3_then 40 = .ok (.ishl, 1) := by decide +kernel
theorem dX3_then_41 : decode cX3_then 41 = .ok (.iload_n 2, 1) := by decide +kernel
theorem dX3_then_42 : decode cX3_then 42 = .ok (.iconst 3, 1) := by decide +kernel
theorem dX3_then_43 : decode cX3_then 43 = .ok (.iand, 1) := by decide +kernel
theorem dX3_then_44 : decode cX3_then 44 = .ok (.ior, 1) := by decide +kernel
theorem dX3_then_45 : decode cX3_then 45 = .ok (.ireturn, 1) := by decide +kernel
theorem dX3_row_0 : decode cX3_row 0 = .ok (.iload_n 0, 1) := by decide +kernel
theorem dX3_row_1 : decode cX3_row 1 = .ok (.invokestatic 13, 3) := by decide +kernel
theorem dX3_row_4 : decode cX3_row 4 = .ok (.tableswitch 42 0 2 #[28, 30, 36], 28) := by decide +kernel
theorem dX3_row_32 : decode cX3_row 32 = .ok (.iload_n 2, 1) := by decide +kernel
theorem dX3_row_33 : decode cX3_row 33 = .ok (.ireturn, 1) := by decide +kernel
theorem dX3_row_34 : decode cX3_row 34 = .ok (.iload_n 1, 1) := by decide +kernel
theorem dX3_row_35 : decode cX3_row 35 = .ok (.iconst 1, 1) := by decide +kernel
theorem dX3_row_36 : decode cX3_row 36 = .ok (.isub, 1) := by decide +kernel
theorem dX3_row_37 : decode cX3_row 37 = .ok (.iload_n 3, 1) := by decide +kernel
theorem dX3_row_38 : decode cX3_row 38 = .ok (.isub, 1) := by decide +kernel
theorem dX3_row_39 : decode cX3_row 39 = .ok (.ireturn, 1) := by decide +kernel
theorem dX3_row_40 : decode cX3_row 40 = .ok (.iload_n 1, 1) := by decide +kernel
theorem dX3_row_41 : decode cX3_row 41 = .ok (.iconst 1, 1) := by decide +kernel
theorem dX3_row_42 : decode cX3_row 42 = .ok (.isub, 1) := by decide +kernel
theorem dX3_row_43 : decode cX3_row 43 = .ok (.iload_n 2, 1) := by decide +kernel
theorem dX3_row_44 : decode cX3_row 44 = .ok (.isub, 1) := by decide +kernel
theorem dX3_row_45 : decode cX3_row 45 = .ok (.ireturn, 1) := by decide +kernel
theorem dX3_row_46 : decode cX3_row 46 = .ok (.iload_n 3, 1) := by decide +kernel
theorem dX3_row_47 : decode cX3_row 47 = .ok (.ireturn, 1) := by decide +kernel
theorem dX3_column_0 : decode cX3_column 0 = .ok (.iload_n 0, 1) := by decide +kernel
theorem dX3_column_1 : decode cX3_column 1 = .ok (.invokestatic 13, 3) := by decide +kernel
theorem dX3_column_4 : decode cX3_column 4 = .ok (.tableswitch 50 0 2 #[28, 34, 40], 28) := by decide +kernel
theorem dX3_column_32 : decode cX3_column 32 = .ok (.iload_n 3, 1) := by decide +kernel
theorem dX3_column_33 : decode cX3_column 33 = .ok (.istore 4, 2) := by decide +kernel
theorem dX3_column_35 : decode cX3_column 35 = .ok (.goto 26, 3) := by decide +kernel
theorem dX3_column_38 : decode cX3_column 38 = .ok (.iload_n 2, 1) := by decide +kernel
theorem dX3_column_39 : decode cX3_column 39 = .ok (.istore 4, 2) := by decide +kernel
theorem dX3_column_41 : decode cX3_column 41 = .ok (.goto 20, 3) := by decide +kernel
theorem dX3_column_44 : decode cX3_column 44 = .ok (.iload_n 1, 1) := by decide +kernel
theorem dX3_column_45 : decode cX3_column 45 = .ok (.iconst 1, 1) := by decide +kernel
theorem dX3_column_46 : decode cX3_column 46 = .ok (.isub, 1) := by decide +kernel
theorem dX3_column_47 : decode cX3_column 47 = .ok (.iload_n 3, 1) := by decide +kernel
theorem dX3_column_48 : decode cX3_column 48 = .ok (.isub, 1) := by decide +kernel
theorem dX3_column_49 : decode cX3_column 49 = .ok (.istore 4, 2) := by decide +kernel
theorem dX3_column_51 : decode cX3_column 51 = .ok (.goto 10, 3) := by decide +kernel
theorem dX3_column_54 : decode cX3_column 54 = .ok (.iload_n 1, 1) := by decide +kernel
theorem dX3_column_55 : decode cX3_column 55 = .ok (.iconst 1, 1) := by decide +kernel
theorem dX3_column_56 : decode cX3_column 56 = .ok (.isub, 1) := by decide +kernel
theorem dX3_column_57 : decode cX3_column 57 = .ok (.iload_n 2, 1) := by decide +kernel
theorem dX3_column_58 : decode cX3_column 58 = .ok (.isub, 1) := by decide +kernel
theorem dX3_column_59 : decode cX3_column 59 = .ok (.istore 4, 2) := by decide +kernel
theorem dX3_column_61 : decode cX3_column 61 = .ok (.iload_n 0, 1) := by decide +kernel
theorem dX3_column_62 : decode cX3_column 62 = .ok (.invokestatic 7, 3) := by decide +kernel
theorem dX3_column_65 : decode cX3_column 65 = .ok (.iconst 1, 1) := by decide +kernel
theorem dX3_column_66 : decode cX3_column 66 = .ok (.if_icmp .ne 12, 3) := by decide +kernel
theorem dX3_column_69 : decode cX3_column 69 = .ok (.iload_n 1, 1) := by decide +kernel
theorem dX3_column_70 : decode cX3_column 70 = .ok (.iconst 1, 1) := by decide +kernel
theorem dX3_column_71 : decode cX3_column 71 = .ok (.isub, 1) := by decide +kernel
theorem dX3_column_72 : decode cX3_column 72 = .ok (.iload 4, 2) := by decide +kernel
theorem dX3_column_74 : decode cX3_column 74 = .ok (.isub, 1) := by decide +kernel
theorem dX3_column_75 : decode cX3_column 75 = .ok (.goto 5, 3) := by decide +kernel
theorem dX3_column_78 : decode cX3_column 78 = .ok (.iload 4, 2) := by decide +kernel
theorem dX3_column_80 : decode cX3_column 80 = .ok (.ireturn, 1) := by decide +kernel
theorem dX4_init_0 : decode cX4_init 0 = .ok (.aload_n 0, 1) := by decide +kernel
theorem dX4_init_1 : decode cX4_init 1 = .ok (.invokespecial 1, 3) := by decide +kernel
theorem dX4_init_4 : decode cX4_init 4 = .ok (.aload_n 0, 1) := by decide +kernel
theorem dX4_init_5 : decode cX4_init 5 = .ok (.new 7, 3) := by decide +kernel
theorem dX4_init_8 : decode cX4_init 8 = .ok (.dup, 1) := by decide +kernel
theorem dX4_init_9 : decode cX4_init 9 = .ok (.invokespecial 9, 3) := by decide +kernel
theorem dX4_init_12 : decode cX4_init 12 = .ok (.putfield 10, 3) := by decide +kernel
theorem dX4_init_15 : decode cX4_init 15 = .ok (.return_, 1) := by decide +kernel
theorem dX4_row_0 : decode cX4_row 0 = .ok (.iload_n 1, 1) := by decide +kernel
theorem dX4_row_1 : decode cX4_row 1 = .ok (.ifCond .lt 28, 3) := by decide +kernel
theorem dX4_row_4 : decode cX4_row 4 = .ok (.iload_n 1, 1) := by decide +kernel
theorem dX4_row_5 : decode cX4_row 5 = .ok (.aload_n 0, 1) := by decide +kernel
theorem dX4_row_6 : decode cX4_row 6 = .ok (.getfield 10, 3) := by decide +kernel
theorem dX4_row_9 : decode cX4_row 9 = .ok (.invokevirtual 16, 3) := by decide +kernel
theorem dX4_row_12 : decode cX4_row 12 = .ok (.if_icmp .ge 17, 3) := by decide +kernel
theorem dX4_row_15 : decode cX4_row 15 = .ok (.aload_n 0, 1) := by decide +kernel
theorem dX4_row_16 : decode cX4_row 16 = .ok (.getfield 10, 3) := by decide +kernel
theorem dX4_row_19 : decode cX4_row 19 = .ok (.iload_n 1, 1) := by decide +kernel
theorem dX4_row_20 : decode cX4_row 20 = .ok (.invokevirtual 20, 3) := by decide +kernel
theorem dX4_row_23 : decode cX4_row 23 = .ok (.checkcast 24, 3) := by decide +kernel
theorem dX4_row_26 : decode cX4_row 26 = .ok (.goto 4, 3) := by decide +kernel
theorem dX4_row_29 : decode cX4_row 29 = .ok (.aconst_null, 1) := by decide +kernel
theorem dX4_row_30 : decode cX4_row 30 = .ok (.areturn, 1) := by decide +kernel
theorem dX4_at_0 : decode cX4_at 0 = .ok (.aload_n 0, 1) := by decide +kernel
theorem dX4_at_1 : decode cX4_at 1 = .ok (.iload_n 1, 1) := by decide +kernel
theorem dX4_at_2 : decode cX4_at 2 = .ok (.invokevirtual 26, 3) := by decide +kernel
theorem dX4_at_5 : decode cX4_at 5 = .ok (.astore_n 3, 1) := by decide +kernel
theorem dX4_at_6 : decode cX4_at 6 = .ok (.aload_n 3, 1) := by decide +kernel
theorem dX4_at_7 : decode cX4_at 7 = .ok (.ifnull 15, 3) := by decide +kernel
theorem dX4_at_10 : decode cX4_at 10 = .ok (.aload_n 3, 1) := by decide +kernel
theorem dX4_at_11 : decode cX4_at 11 = .ok (.iload_n 2, 1) := by decide +kernel
theorem dX4_at_12 : decode cX4_at 12 = .ok (.invokevirtual 30, 3) := by decide +kernel
theorem dX4_at_15 : decode cX4_at 15 = .ok (.ifCond .eq 7, 3) := by decide +kernel
theorem dX4_at_18 : decode cX4_at 18 = .ok (.aload_n 3, 1) := by decide +kernel
theorem dX4_at_19 : decode cX4_at 19 = .ok (.goto 4, 3) := by decide +kernel
theorem dX4_at_22 : decode cX4_at 22 = .ok (.aconst_null, 1) := by decide +kernel
theorem dX4_at_23 : decode cX4_at 23 = .ok (.areturn, 1) := by decide +kernel
theorem dX4_isFull_0 : decode cX4_isFull 0 = .ok (.aload_n 0, 1) := by decide +kernel
theorem dX4_isFull_1 : decode cX4_isFull 1 = .ok (.getfield 10, 3) := by decide +kernel
theorem dX4_isFull_4 : decode cX4_isFull 4 = .ok (.invokevirtual 38, 3) := by decide +kernel
theorem dX4_isFull_7 : decode cX4_isFull 7 = .ok (.ifCond .eq 5, 3) := by decide +kernel
theorem dX4_isFull_10 : decode cX4_isFull 10 = .ok (.iconst 0, 1) := by decide +kernel
theorem dX4_isFull_11 : decode cX4_isFull 11 = .ok (.ireturn, 1) := by decide +kernel
theorem dX4_isFull_12 : decode cX4_isFull 12 = .ok (.aload_n 0, 1) := by decide +kernel
theorem dX4_isFull_13 : decode cX4_isFull 13 = .ok (.getfield 10, 3) := by decide +kernel
theorem dX4_isFull_16 : decode cX4_isFull 16 = .ok (.iconst 0, 1) := by decide +kernel
theorem dX4_isFull_17 : decode cX4_isFull 17 = .ok (.invokevirtual 20, 3) := by decide +kernel
theorem dX4_isFull_20 : decode cX4_isFull 20 = .ok (.checkcast 24, 3) := by decide +kernel
theorem dX4_isFull_23 : decode cX4_isFull 23 = .ok (.getfield 34, 3) := by decide +kernel
theorem dX4_isFull_26 : decode cX4_isFull 26 = .ok (.arraylength, 1) := by decide +kernel
theorem dX4_isFull_27 : decode cX4_isFull 27 = .ok (.istore_n 1, 1) := by decide +kernel
theorem dX4_isFull_28 : decode cX4_isFull 28 = .ok (.iload_n 1, 1) := by decide +kernel
theorem dX4_isFull_29 : decode cX4_isFull 29 = .ok (.ifCond .le 7, 3) := by decide +kernel
theorem dX4_isFull_32 : decode cX4_isFull 32 = .ok (.iconst 1, 1) := by decide +kernel
theorem dX4_isFull_33 : decode cX4_isFull 33 = .ok (.goto 4, 3) := by decide +kernel
theorem dX4_isFull_36 : decode cX4_isFull 36 = .ok (.iconst 0, 1) := by decide +kernel
theorem dX4_isFull_37 : decode cX4_isFull 37 = .ok (.istore_n 2, 1) := by decide +kernel
theorem dX4_isFull_38 : decode cX4_isFull 38 = .ok (.iconst 0, 1) := by decide +kernel
theorem dX4_isFull_39 : decode cX4_isFull 39 = .ok (.istore_n 3, 1) := by decide +kernel
theorem dX4_isFull_40 : decode cX4_isFull 40 = .ok (.iload_n 3, 1) := by decide +kernel
theorem dX4_isFull_41 : decode cX4_isFull 41 = .ok (.aload_n 0, 1) := by decide +kernel
theorem dX4_isFull_42 : decode cX4_isFull 42 = .ok (.getfield 10, 3) := by decide +kernel
theorem dX4_isFull_45 : decode cX4_isFull 45 = .ok (.invokevirtual 16, 3) := by decide +kernel
theorem dX4_isFull_48 : decode cX4_isFull 48 = .ok (.if_icmp .ge 55, 3) := by decide +kernel
theorem dX4_isFull_51 : decode cX4_isFull 51 = .ok (.iload_n 2, 1) := by decide +kernel
theorem dX4_isFull_52 : decode cX4_isFull 52 = .ok (.ifCond .eq 51, 3) := by decide +kernel
theorem dX4_isFull_55 : decode cX4_isFull 55 = .ok (.aload_n 0, 1) := by decide +kernel
theorem dX4_isFull_56 : decode cX4_isFull 56 = .ok (.getfield 10, 3) := by decide +kernel
theorem dX4_isFull_59 : decode cX4_isFull 59 = .ok (.iload_n 3, 1) := by decide +kernel
theorem dX4_isFull_60 : decode cX4_isFull 60 = .ok (.invokevirtual 20, 3) := by decide +kernel
theorem dX4_isFull_63 : decode cX4_isFull 63 = .ok (.checkcast 24, 3) := by decide +kernel
theorem dX4_isFull_66 : decode cX4_isFull 66 = .ok (.getfield 42, 3) := by decide +kernel
theorem dX4_isFull_69 : decode cX4_isFull 69 = .ok (.ifCond .ne 26, 3) := by decide +kernel
theorem dX4_isFull_72 : decode cX4_isFull 72 = .ok (.aload_n 0, 1) := by decide +kernel
theorem dX4_isFull_73 : decode cX4_isFull 73 = .ok (.getfield 10, 3) := by decide +kernel
theorem dX4_isFull_76 : decode cX4_isFull 76 = .ok (.iload_n 3, 1) := by decide +kernel
theorem dX4_isFull_77 : decode cX4_isFull 77 = .ok (.invokevirtual 20, 3) := by decide +kernel
theorem dX4_isFull_80 : decode cX4_isFull 80 = .ok (.checkcast 24, 3) := by decide +kernel
theorem dX4_isFull_83 : decode cX4_isFull 83 = .ok (.getfield 34, 3) := by decide +kernel
theorem dX4_isFull_86 : decode cX4_isFull 86 = .ok (.arraylength, 1) := by decide +kernel
theorem dX4_isFull_87 : decode cX4_isFull 87 = .ok (.iload_n 1, 1) := by decide +kernel
theorem dX4_isFull_88 : decode cX4_isFull 88 = .ok (.if_icmp .ne 7, 3) := by decide +kernel
theorem dX4_isFull_91 : decode cX4_isFull 91 = .ok (.iconst 1, 1) := by decide +kernel
theorem dX4_isFull_92 : decode cX4_isFull 92 = .ok (.goto 4, 3) := by decide +kernel
theorem dX4_isFull_95 : decode cX4_isFull 95 = .ok (.iconst 0, 1) := by decide +kernel
theorem dX4_isFull_96 : decode cX4_isFull 96 = .ok (.istore_n 2, 1) := by decide +kernel
theorem dX4_isFull_97 : decode cX4_isFull 97 = .ok (.iinc 3 1, 3) := by decide +kernel
theorem dX4_isFull_100 : decode cX4_isFull 100 = .ok (.goto (-60), 3) := by decide +kernel
theorem dX4_isFull_103 : decode cX4_isFull 103 = .ok (.iload_n 2, 1) := by decide +kernel
theorem dX4_isFull_104 : decode cX4_isFull 104 = .ok (.ireturn, 1) := by decide +kernel
theorem dX4_columns_0 : decode cX4_columns 0 = .ok (.aload_n 0, 1) := by decide +kernel
theorem dX4_columns_1 : decode cX4_columns 1 = .ok (.getfield 10, 3) := by decide +kernel
theorem dX4_columns_4 : decode cX4_columns 4 = .ok (.iconst 0, 1) := by decide +kernel
theorem dX4_columns_5 : decode cX4_columns 5 = .ok (.invokevirtual 20, 3) := by decide +kernel
theorem dX4_columns_8 : decode cX4_columns 8 = .ok (.checkcast 24, 3) := by decide +kernel
theorem dX4_columns_11 : decode cX4_columns 11 = .ok (.getfield 34, 3) := by decide +kernel
theorem dX4_columns_14 : decode cX4_columns 14 = .ok (.arraylength, 1) := by decide +kernel
theorem dX4_columns_15 : decode cX4_columns 15 = .ok (.ireturn, 1) := by decide +kernel
theorem dX5_init_0 : decode cX5_init 0 = .ok (.aload_n 0, 1) := by decide +kernel
theorem dX5_init_1 : decode cX5_init 1 = .ok (.invokespecial 1, 3) := by decide +kernel
theorem dX5_init_4 : decode cX5_init 4 = .ok (.aload_n 0, 1) := by decide +kernel
theorem dX5_init_5 : decode cX5_init 5 = .ok (.aload_n 1, 1) := by decide +kernel
theorem dX5_init_6 : decode cX5_init 6 = .ok (.putfield 7, 3) := by decide +kernel
theorem dX5_init_9 : decode cX5_init 9 = .ok (.aload_n 0, 1) := by decide +kernel
theorem dX5_init_10 : decode cX5_init 10 = .ok (.new 13, 3) := by decide +kernel
theorem dX5_init_13 : decode cX5_init 13 = .ok (.dup, 1) := by decide +kernel
theorem dX5_init_14 : decode cX5_init 14 = .ok (.aload_n 1, 1) := by decide +kernel
theorem dX5_init_15 : decode cX5_init 15 = .ok (.getfield 15, 3) := by decide +kernel
theorem dX5_init_18 : decode cX5_init 18 = .ok (.invokespecial 21, 3) := by decide +kernel
theorem dX5_init_21 : decode cX5_init 21 = .ok (.putfield 24, 3) := by decide +kernel
theorem dX5_init_24 : decode cX5_init 24 = .ok (.return_, 1) := by decide +kernel
theorem dX6_init_0 : decode cX6_init 0 = .ok (.aload_n 0, 1) := by decide +kernel
theorem dX6_init_1 : decode cX6_init 1 = .ok (.invokespecial 3, 3) := by decide +kernel
theorem dX6_init_4 : decode cX6_init 4 = .ok (.aload_n 0, 1) := by decide +kernel
theorem dX6_init_5 : decode cX6_init 5 = .ok (.iload_n 1, 1) := by decide +kernel
theorem dX6_init_6 : decode cX6_init 6 = .ok (.newarray .byte, 2) := by decide +kernel
theorem dX6_init_8 : decode cX6_init 8 = .ok (.putfield 9, 3) := by decide +kernel
theorem dX6_init_11 : decode cX6_init 11 = .ok (.aload_n 0, 1) := by decide +kernel
theorem dX6_init_12 : decode cX6_init 12 = .ok (.iload_n 1, 1) := by decide +kernel
theorem dX6_init_13 : decode cX6_init 13 = .ok (.newarray .byte, 2) := by decide +kernel
theorem dX6_init_15 : decode cX6_init 15 = .ok (.putfield 15, 3) := by decide +kernel
theorem dX6_init_18 : decode cX6_init 18 = .ok (.aload_n 0, 1) := by decide +kernel
theorem dX6_init_19 : decode cX6_init 19 = .ok (.iload_n 1, 1) := by decide +kernel
theorem dX6_init_20 : decode cX6_init 20 = .ok (.newarray .short, 2) := by decide +kernel
theorem dX6_init_22 : decode cX6_init 22 = .ok (.putfield 18, 3) := by decide +kernel
theorem dX6_init_25 : decode cX6_init 25 = .ok (.aload_n 0, 1) := by decide +kernel
theorem dX6_init_26 : decode cX6_init 26 = .ok (.iload_n 2, 1) := by decide +kernel
theorem dX6_init_27 : decode cX6_init 27 = .ok (.putfield 22, 3) := by decide +kernel
theorem dX6_init_30 : decode cX6_init 30 = .ok (.iconst 0, 1) := by decide +kernel
theorem dX6_init_31 : decode cX6_init 31 = .ok (.istore_n 3, 1) := by decide +kernel
theorem dX6_init_32 : decode cX6_init 32 = .ok (.iload_n 3, 1) := by decide +kernel
theorem dX6_init_33 : decode cX6_init 33 = .ok (.iload_n 1, 1) := by decide +kernel
theorem dX6_init_34 : decode cX6_init 34 = .ok (.if_icmp .ge 16, 3) := by decide +kernel
theorem dX6_init_37 : decode cX6_init 37 = .ok (.aload_n 0, 1) := by decide +kernel
theorem dX6_init_38 : decode cX6_init 38 = .ok (.getfield 9, 3) := by decide +kernel
theorem dX6_init_41 : decode cX6_init 41 = .ok (.iload_n 3, 1) := by decide +kernel
theorem dX6_init_42 : decode cX6_init 42 = .ok (.iconst (-1), 1) := by decide +kernel
theorem dX6_init_43 : decode cX6_init 43 = .ok (.bastore, 1) := by decide +kernel
theorem dX6_init_44 : decode cX6_init 44 = .ok (.iinc 3 1, 3) := by decide +kernel
theorem dX6_init_47 : decode cX6_init 47 = .ok (.goto (-15), 3) := by decide +kernel
theorem dX6_init_50 : decode cX6_init 50 = .ok (.return_, 1) := by decide +kernel
theorem dX6_has_0 : decode cX6_has 0 = .ok (.iload_n 1, 1) := by decide +kernel
theorem dX6_has_1 : decode cX6_has 1 = .ok (.aload_n 0, 1) := by decide +kernel
theorem dX6_has_2 : decode cX6_has 2 = .ok (.getfield 22, 3) := by decide +kernel
theorem dX6_has_5 : decode cX6_has 5 = .ok (.if_icmp .lt 21, 3) := by decide +kernel
theorem dX6_has_8 : decode cX6_has 8 = .ok (.iload_n 1, 1) := by decide +kernel
theorem dX6_has_9 : decode cX6_has 9 = .ok (.aload_n 0, 1) := by decide +kernel
theorem dX6_has_10 : decode cX6_has 10 = .ok (.getfield 22, 3) := by decide +kernel
theorem dX6_has_13 : decode cX6_has 13 = .ok (.aload_n 0, 1) := by decide +kernel
theorem dX6_has_14 : decode cX6_has 14 = .ok (.getfield 9, 3) := by decide +kernel
theorem dX6_has_17 : decode cX6_has 17 = .ok (.arraylength, 1) := by decide +kernel
theorem dX6_has_18 : decode cX6_has 18 = .ok (.iadd, 1) := by decide +kernel
theorem dX6_has_19 : decode cX6_has 19 = .ok (.if_icmp .ge 7, 3) := by decide +kernel
theorem dX6_has_22 : decode cX6_has 22 = .ok (.iconst 1, 1) := by decide +kernel
theorem dX6_has_23 : decode cX6_has 23 = .ok (.goto 4, 3) := by decide +kernel
theorem dX6_has_26 : decode cX6_has 26 = .ok (.iconst 0, 1) := by decide +kernel
theorem dX6_has_27 : decode cX6_has 27 = .ok (.ireturn, 1) := by decide +kernel
theorem dX6_init_2_0 : decode cX6_init_2 0 = .ok (.aload_n 0, 1) := by decide +kernel
theorem dX6_init_2_1 : decode cX6_init_2 1 = .ok (.invokespecial 3, 3) := by decide +kernel
theorem dX6_init_2_4 : decode cX6_init_2 4 = .ok (.aload_n 0, 1) := by decide +kernel
theorem dX6_init_2_5 : decode cX6_init_2 5 = .ok (.aload_n 1, 1) := by decide +kernel
theorem dX6_init_2_6 : decode cX6_init_2 6 = .ok (.getfield 9, 3) := by decide +kernel
theorem dX6_init_2_9 : decode cX6_init_2 9 = .ok (.invokevirtual 26, 3) := by decide +kernel
theorem dX6_init_2_12 : decode cX6_init_2 12 = .ok (.checkcast 27, 3) := by decide +kernel
theorem dX6_init_2_15 : decode cX6_init_2 15 = .ok (.putfield 9, 3) := by decide +kernel
theorem dX6_init_2_18 : decode cX6_init_2 18 = .ok (.aload_n 0, 1) := by decide +kernel
theorem dX6_init_2_19 : decode cX6_init_2 19 = .ok (.aload_n 1, 1) := by decide +kernel
theorem dX6_init_2_20 : decode cX6_init_2 20 = .ok (.getfield 15, 3) := by decide +kernel
theorem dX6_init_2_23 : decode cX6_init_2 23 = .ok (.invokevirtual 26, 3) := by decide +kernel
theorem dX6_init_2_26 : decode cX6_init_2 26 = .ok (.checkcast 27, 3) := by decide +kernel
theorem dX6_init_2_29 : decode cX6_init_2 29 = .ok (.putfield 15, 3) := by decide +kernel
theorem dX6_init_2_32 : decode cX6_init_2 32 = .ok (.aload_n 0, 1) := by decide +kernel
theorem dX6_init_2_33 : decode cX6_init_2 33 = .ok (.aload_n 1, 1) := by decide +kernel
theorem dX6_init_2_34 : decode cX6_init_2 34 = .ok (.getfield 18, 3) := by decide +kernel
theorem dX6_init_2_37 : decode cX6_init_2 37 = .ok (.invokevirtual 31, 3) := by decide +kernel
theorem dX6_init_2_40 : decode cX6_init_2 40 = .ok (.checkcast 32, 3) := by decide +kernel
theorem dX6_init_2_43 : decode cX6_init_2 43 = .ok (.putfield 18, 3) := by decide +kernel
theorem dX6_init_2_46 : decode cX6_init_2 46 = .ok (.aload_n 0, 1) := by decide +kernel
theorem dX6_init_2_47 : decode cX6_init_2 47 = .ok (.aload_n 1, 1) := by decide +kernel
theorem dX6_init_2_48 : decode cX6_init_2 48 = .ok (.getfield 22, 3) := by decide +kernel
theorem dX6_init_2_51 : decode cX6_init_2 51 = .ok (.putfield 22, 3) := by decide +kernel
theorem dX6_init_2_54 : decode cX6_init_2 54 = .ok (.return_, 1) := by decide +kernel
theorem dX6_set_0 : decode cX6_set 0 = .ok (.aload_n 0, 1) := by decide +kernel
theorem dX6_set_1 : decode cX6_set 1 = .ok (.getfield 9, 3) := by decide +kernel
theorem dX6_set_4 : decode cX6_set 4 = .ok (.iload_n 1, 1) := by decide +kernel
theorem dX6_set_5 : decode cX6_set 5 = .ok (.iload_n 2, 1) := by decide +kernel
theorem dX6_set_6 : decode cX6_set 6 = .ok (.i2b, 1) := by decide +kernel
theorem dX6_set_7 : decode cX6_set 7 = .ok (.bastore, 1) := by decide +kernel
theorem dX6_set_8 : decode cX6_set 8 = .ok (.aload_n 0, 1) := by decide +kernel
theorem dX6_set_9 : decode cX6_set 9 = .ok (.getfield 15, 3) := by decide +kernel
theorem dX6_set_12 : decode cX6_set 12 = .ok (.iload_n 1, 1) := by decide +kernel
theorem dX6_set_13 : decode cX6_set 13 = .ok (.iload_n 3, 1) := by decide +kernel
theorem dX6_set_14 : decode cX6_set 14 = .ok (.i2b, 1) := by decide +kernel
theorem dX6_set_15 : decode cX6_set 15 = .ok (.bastore, 1) := by decide +kernel
theorem dX6_set_16 : decode cX6_set 16 = .ok (.aload_n 0, 1) := by decide +kernel
theorem dX6_set_17 : decode cX6_set 17 = .ok (.getfield 18, 3) := by decide +kernel
theorem dX6_set_20 : decode cX6_set 20 = .ok (.iload_n 1, 1) := by decide +kernel
theorem dX6_set_21 : decode cX6_set 21 = .ok (.iload 4, 2) := by decide +kernel
theorem dX6_set_23 : decode cX6_set 23 = .ok (.i2s, 1) := by decide +kernel
theorem dX6_set_24 : decode cX6_set 24 = .ok (.sastore, 1) := by decide +kernel
theorem dX6_set_25 : decode cX6_set 25 = .ok (.return_, 1) := by decide +kernel
theorem dX7_init_0 : decode cX7_init 0 = .ok (.aload_n 0, 1) := by decide +kernel
theorem dX7_init_1 : decode cX7_init 1 = .ok (.invokespecial 3, 3) := by decide +kernel
theorem dX7_init_4 : decode cX7_init 4 = .ok (.aload_n 0, 1) := by decide +kernel
theorem dX7_init_5 : decode cX7_init 5 = .ok (.iload_n 1, 1) := by decide +kernel
theorem dX7_init_6 : decode cX7_init 6 = .ok (.iload_n 2, 1) := by decide +kernel
theorem dX7_init_7 : decode cX7_init 7 = .ok (.multianewarray 9 2, 4) := by decide +kernel
theorem dX7_init_11 : decode cX7_init 11 = .ok (.putfield 11, 3) := by decide +kernel
theorem dX7_init_14 : decode cX7_init 14 = .ok (.aload_n 0, 1) := by decide +kernel
theorem dX7_init_15 : decode cX7_init 15 = .ok (.iload_n 1, 1) := by decide +kernel
theorem dX7_init_16 : decode cX7_init 16 = .ok (.iload_n 2, 1) := by decide +kernel
theorem dX7_init_17 : decode cX7_init 17 = .ok (.multianewarray 9 2, 4) := by decide +kernel
theorem dX7_init_21 : decode cX7_init 21 = .ok (.putfield 16, 3) := by decide +kernel
theorem dX7_init_24 : decode cX7_init 24 = .ok (.aload_n 0, 1) := by decide +kernel
theorem dX7_init_25 : decode cX7_init 25 = .ok (.iload_n 1, 1) := by decide +kernel
theorem dX7_init_26 : decode cX7_init 26 = .ok (.iload_n 2, 1) := by decide +kernel
theorem dX7_init_27 : decode cX7_init 27 = .ok (.multianewarray 19 2, 4) := by decide +kernel
theorem dX7_init_31 : decode cX7_init 31 = .ok (.putfield 21, 3) := by decide +kernel
theorem dX7_init_34 : decode cX7_init 34 = .ok (.aload_n 0, 1) := by decide +kernel
theorem dX7_init_35 : decode cX7_init 35 = .ok (.getfield 11, 3) := by decide +kernel
theorem dX7_init_38 : decode cX7_init 38 = .ok (.astore_n 3, 1) := by decide +kernel
theorem dX7_init_39 : decode cX7_init 39 = .ok (.aload_n 3, 1) := by decide +kernel
theorem dX7_init_40 : decode cX7_init 40 = .ok (.arraylength, 1) := by decide +kernel
theorem dX7_init_41 : decode cX7_init 41 = .ok (.istore 4, 2) := by decide +kernel
theorem dX7_init_43 : decode cX7_init 43 = .ok (.iconst 0, 1) := by decide +kernel
theorem dX7_init_44 : decode cX7_init 44 = .ok (.istore 5, 2) := by decide +kernel
theorem dX7_init_46 : decode cX7_init 46 = .ok (.iload 5, 2) := by decide +kernel
theorem dX7_init_48 : decode cX7_init 48 = .ok (.iload 4, 2) := by decide +kernel
theorem dX7_init_50 : decode cX7_init 50 = .ok (.if_icmp .ge 36, 3) := by decide +kernel
theorem dX7_init_53 : decode cX7_init 53 = .ok (.aload_n 3, 1) := by decide +kernel
theorem dX7_init_54 : decode cX7_init 54 = .ok (.iload 5, 2) := by decide +kernel
theorem dX7_init_56 : decode cX7_init 56 = .ok (.aaload, 1) := by decide +kernel
theorem dX7_init_57 : decode cX7_init 57 = .ok (.astore 6, 2) := by decide +kernel
theorem dX7_init_59 : decode cX7_init 59 = .ok (.iconst 0, 1) := by decide +kernel
theorem dX7_init_60 : decode cX7_init 60 = .ok (.istore 7, 2) := by decide +kernel
theorem dX7_init_62 : decode cX7_init 62 = .ok (.iload 7, 2) := by decide +kernel
theorem dX7_init_64 : decode cX7_init 64 = .ok (.iload_n 2, 1) := by decide +kernel
theorem dX7_init_65 : decode cX7_init 65 = .ok (.if_icmp .ge 15, 3) := by decide +kernel
theorem dX7_init_68 : decode cX7_init 68 = .ok (.aload 6, 2) := by decide +kernel
theorem dX7_init_70 : decode cX7_init 70 = .ok (.iload 7, 2) := by decide +kernel
theorem dX7_init_72 : decode cX7_init 72 = .ok (.iconst (-1), 1) := by decide +kernel
theorem dX7_init_73 : decode cX7_init 73 = .ok (.bastore, 1) := by decide +kernel
theorem dX7_init_74 : decode cX7_init 74 = .ok (.iinc 7 1, 3) := by decide +kernel
theorem dX7_init_77 : decode cX7_init 77 = .ok (.goto (-15), 3) := by decide +kernel
theorem dX7_init_80 : decode cX7_init 80 = .ok (.iinc 5 1, 3) := by decide +kernel
theorem dX7_init_83 : decode cX7_init 83 = .ok (.goto (-37), 3) := by decide +kernel
theorem dX7_init_86 : decode cX7_init 86 = .ok (.return_, 1) := by decide +kernel
theorem dX7_moved_0 : decode cX7_moved 0 = .ok (.iload_n 1, 1) := by decide +kernel
theorem dX7_moved_1 : decode cX7_moved 1 = .ok (.iconst 1, 1) := by decide +kernel
theorem dX7_moved_2 : decode cX7_moved 2 = .ok (.iand, 1) := by decide +kernel
theorem dX7_moved_3 : decode cX7_moved 3 = .ok (.iconst 1, 1) := by decide +kernel
theorem dX7_moved_4 : decode cX7_moved 4 = .ok (.if_icmp .ne 7, 3) := by decide +kernel
theorem dX7_moved_7 : decode cX7_moved 7 = .ok (.iconst 1, 1) := by decide +kernel
theorem dX7_moved_8 : decode cX7_moved 8 = .ok (.goto 4, 3) := by decide +kernel
theorem dX7_moved_11 : decode cX7_moved 11 = .ok (.iconst 0, 1) := by decide +kernel
theorem dX7_moved_12 : decode cX7_moved 12 = .ok (.istore_n 3, 1) := by decide +kernel
theorem dX7_moved_13 : decode cX7_moved 13 = .ok (.aload_n 0, 1) := by decide +kernel
theorem dX7_moved_14 : decode cX7_moved 14 = .ok (.invokevirtual 24, 3) := by decide +kernel
theorem dX7_moved_17 : decode cX7_moved 17 = .ok (.istore 4, 2) := by decide +kernel
theorem dX7_moved_19 : decode cX7_moved 19 = .ok (.aload_n 0, 1) := by decide +kernel
theorem dX7_moved_20 : decode cX7_moved 20 = .ok (.invokevirtual 28, 3) := by decide +kernel
theorem dX7_moved_23 : decode cX7_moved 23 = .ok (.istore 5, 2) := by decide +kernel
theorem dX7_moved_25 : decode cX7_moved 25 = .ok (.new 12, 3) := by decide +kernel
theorem dX7_moved_28 : decode cX7_moved 28 = .ok (.dup, 1) := by decide +kernel
theorem dX7_moved_29 : decode cX7_moved 29 = .ok (.iload_n 3, 1) := by decide +kernel
theorem dX7_moved_30 : decode cX7_moved 30 = .ok (.ifCond .eq 8, 3) := by decide +kernel
theorem dX7_moved_33 : decode cX7_moved 33 = .ok (.iload 5, 2) := by decide +kernel
theorem dX7_moved_35 : decode cX7_moved 35 = .ok (.goto 5, 3) := by decide +kernel
theorem dX7_moved_38 : decode cX7_moved 38 = .ok (.iload 4, 2) := by decide +kernel
theorem dX7_moved_40 : decode cX7_moved 40 = .ok (.iload_n 3, 1) := by decide +kernel
theorem dX7_moved_41 : decode cX7_moved 41 = .ok (.ifCond .eq 8, 3) := by decide +kernel
theorem dX7_moved_44 : decode cX7_moved 44 = .ok (.iload 4, 2) := by decide +kernel
theorem dX7_moved_46 : decode cX7_moved 46 = .ok (.goto 5, 3) := by decide +kernel
theorem dX7_moved_49 : decode cX7_moved 49 = .ok (.iload 5, 2) := by decide +kernel
theorem dX7_moved_51 : decode cX7_moved 51 = .ok (.invokespecial 31, 3) := by decide +kernel
theorem dX7_moved_54 : decode cX7_moved 54 = .ok (.astore 6, 2) := by decide +kernel
theorem dX7_moved_56 : decode cX7_moved 56 = .ok (.iconst 0, 1) := by decide +kernel
theorem dX7_moved_57 : decode cX7_moved 57 = .ok (.istore 7, 2) := by decide +kernel
theorem dX7_moved_59 : decode cX7_moved 59 = .ok (.iload 7, 2) := by decide +kernel
theorem dX7_moved_61 : decode cX7_moved 61 = .ok (.aload 6, 2) := by decide +kernel
theorem dX7_moved_63 : decode cX7_moved 63 = .ok (.invokevirtual 24, 3) := by decide +kernel
theorem dX7_moved_66 : decode cX7_moved 66 = .ok (.if_icmp .ge 149, 3) := by decide +kernel
theorem dX7_moved_69 : decode cX7_moved 69 = .ok (.iconst 0, 1) := by decide +kernel
theorem dX7_moved_70 : decode cX7_moved 70 = .ok (.istore 8, 2) := by decide +kernel
theorem dX7_moved_72 : decode cX7_moved 72 = .ok (.iload 8, 2) := by decide +kernel
theorem dX7_moved_74 : decode cX7_moved 74 = .ok (.aload 6, 2) := by decide +kernel
theorem dX7_moved_76 : decode cX7_moved 76 = .ok (.invokevirtual 28, 3) := by decide +kernel
theorem dX7_moved_79 : decode cX7_moved 79 = .ok (.if_icmp .ge 130, 3) := by decide +kernel
theorem dX7_moved_82 : decode cX7_moved 82 = .ok (.iload_n 1, 1) := by decide +kernel
theorem dX7_moved_83 : decode cX7_moved 83 = .ok (.iload 4, 2) := by decide +kernel
theorem dX7_moved_85 : decode cX7_moved 85 = .ok (.iload 7, 2) := by decide +kernel
theorem dX7_moved_87 : decode cX7_moved 87 = .ok (.iload 8, 2) := by decide +kernel
theorem dX7_moved_89 : decode cX7_moved 89 = .ok (.invokestatic 34, 3) := by decide +kernel
theorem dX7_moved_92 : decode cX7_moved 92 = .ok (.istore 9, 2) := by decide +kernel
theorem dX7_moved_94 : decode cX7_moved 94 = .ok (.iload_n 1, 1) := by decide +kernel
theorem dX7_moved_95 : decode cX7_moved 95 = .ok (.iload 5, 2) := by decide +kernel
theorem dX7_moved_97 : decode cX7_moved 97 = .ok (.iload 7, 2) := by decide +kernel
theorem dX7_moved_99 : decode cX7_moved 99 = .ok (.iload 8, 2) := by decide +kernel
theorem dX7_moved_101 : decode cX7_moved 101 = .ok (.invokestatic 40, 3) := by decide +kernel
theorem dX7_moved_104 : decode cX7_moved 104 = .ok (.istore 10, 2) := by decide +kernel
theorem dX7_moved_106 : decode cX7_moved 106 = .ok (.aload_n 0, 1) := by decide +kernel
theorem dX7_moved_107 : decode cX7_moved 107 = .ok (.getfield 11, 3) := by decide +kernel
theorem dX7_moved_110 : decode cX7_moved 110 = .ok (.iload 9, 2) := by decide +kernel
theorem dX7_moved_112 : decode cX7_moved 112 = .ok (.aaload, 1) := by decide +kernel
theorem dX7_moved_113 : decode cX7_moved 113 = .ok (.iload 10, 2) := by decide +kernel
theorem dX7_moved_115 : decode cX7_moved 115 = .ok (.baload, 1) := by decide +kernel
theorem dX7_moved_116 : decode cX7_moved 116 = .ok (.istore 11, 2) := by decide +kernel
theorem dX7_moved_118 : decode cX7_moved 118 = .ok (.aload 6, 2) := by decide +kernel
theorem dX7_moved_120 : decode cX7_moved 120 = .ok (.getfield 11, 3) := by decide +kernel
theorem dX7_moved_123 : decode cX7_moved 123 = .ok (.iload 7, 2) := by decide +kernel
theorem dX7_moved_125 : decode cX7_moved 125 = .ok (.aaload, 1) := by decide +kernel
theorem dX7_moved_126 : decode cX7_moved 126 = .ok (.iload 8, 2) := by decide +kernel
theorem dX7_moved_128 : decode cX7_moved 128 = .ok (.iload 11, 2) := by decide +kernel
theorem dX7_moved_130 : decode cX7_moved 130 = .ok (.i2b, 1) := by decide +kernel
theorem dX7_moved_131 : decode cX7_moved 131 = .ok (.bastore, 1) := by decide +kernel
theorem dX7_moved_132 : decode cX7_moved 132 = .ok (.aload 6, 2) := by decide +kernel
theorem dX7_moved_134 : decode cX7_moved 134 = .ok (.getfield 16, 3) := by decide +kernel
theorem dX7_moved_137 : decode cX7_moved 137 = .ok (.iload 7, 2) := by decide +kernel
theorem dX7_moved_139 : decode cX7_moved 139 = .ok (.aaload, 1) := by decide +kernel
theorem dX7_moved_140 : decode cX7_moved 140 = .ok (.iload 8, 2) := by decide +kernel
theorem dX7_moved_142 : decode cX7_moved 142 = .ok (.iload 11, 2) := by decide +kernel
theorem dX7_moved_144 : decode cX7_moved 144 = .ok (.ifCond .ge 7, 3) := by decide +kernel
theorem dX7_moved_147 : decode cX7_moved 147 = .ok (.iconst 0, 1) := by decide +kernel
theorem dX7_moved_148 : decode cX7_moved 148 = .ok (.goto 32, 3) := by decide +kernel
theorem dX7_moved_151 : decode cX7_moved 151 = .ok (.aload_n 2, 1) := by decide +kernel
theorem dX7_moved_152 : decode cX7_moved 152 = .ok (.getfield 43, 3) := by decide +kernel
theorem dX7_moved_155 : decode cX7_moved 155 = .ok (.iload 11, 2) := by decide +kernel
theorem dX7_moved_157 : decode cX7_moved 157 = .ok (.invokevirtual 46, 3) := by decide +kernel
theorem dX7_moved_160 : decode cX7_moved 160 = .ok (.checkcast 52, 3) := by decide +kernel
theorem dX7_moved_163 : decode cX7_moved 163 = .ok (.aload_n 0, 1) := by decide +kernel
theorem dX7_moved_164 : decode cX7_moved 164 = .ok (.getfield 16, 3) := by decide +kernel
theorem dX7_moved_167 : decode cX7_moved 167 = .ok (.iload 9, 2) := by decide +kernel
theorem dX7_moved_169 : decode cX7_moved 169 = .ok (.aaload, 1) := by decide +kernel
theorem dX7_moved_170 : decode cX7_moved 170 = .ok (.iload 10, 2) := by decide +kernel
theorem dX7_moved_172 : decode cX7_moved 172 = .ok (.baload, 1) := by decide +kernel
theorem dX7_moved_173 : decode cX7_moved 173 = .ok (.iload_n 1, 1) := by decide +kernel
theorem dX7_moved_174 : decode cX7_moved 174 = .ok (.invokestatic 54, 3) := by decide +kernel
theorem dX7_moved_177 : decode cX7_moved 177 = .ok (.invokevirtual 58, 3) := by decide +kernel
theorem dX7_moved_180 : decode cX7_moved 180 = .ok (.i2b, 1) := by decide +kernel
theorem dX7_moved_181 : decode cX7_moved 181 = .ok (.bastore, 1) := by decide +kernel
theorem dX7_moved_182 : decode cX7_moved 182 = .ok (.aload 6, 2) := by decide +kernel
theorem dX7_moved_184 : decode cX7_moved 184 = .ok (.getfield 21, 3) := by decide +kernel
theorem dX7_moved_187 : decode cX7_moved 187 = .ok (.iload 7, 2) := by decide +kernel
theorem dX7_moved_189 : decode cX7_moved 189 = .ok (.aaload, 1) := by decide +kernel
theorem dX7_moved_190 : decode cX7_moved 190 = .ok (.iload 8, 2) := by decide +kernel
theorem dX7_moved_192 : decode cX7_moved 192 = .ok (.aload_n 0, 1) := by decide +kernel
theorem dX7_moved_193 : decode cX7_moved 193 = .ok (.getfield 21, 3) := by decide +kernel
theorem dX7_moved_196 : decode cX7_moved 196 = .ok (.iload 9, 2) := by decide +kernel
theorem dX7_moved_198 : decode cX7_moved 198 = .ok (.aaload, 1) := by decide +kernel
theorem dX7_moved_199 : decode cX7_moved 199 = .ok (.iload 10, 2) := by decide +kernel
theorem dX7_moved_201 : decode cX7_moved 201 = .ok (.saload, 1) := by decide +kernel
theorem dX7_moved_202 : decode cX7_moved 202 = .ok (.sastore, 1) := by decide +kernel
theorem dX7_moved_203 : decode cX7_moved 203 = .ok (.iinc 8 1, 3) := by decide +kernel
theorem dX7_moved_206 : decode cX7_moved 206 = .ok (.goto (-134), 3) := by decide +kernel
theorem dX7_moved_209 : decode cX7_moved 209 = .ok (.iinc 7 1, 3) := by decide +kernel
theorem dX7_moved_212 : decode cX7_moved 212 = .ok (.goto (-153), 3) := by decide +kernel
theorem dX7_moved_215 : decode cX7_moved 215 = .ok (.aload 6, 2) := by decide +kernel
theorem dX7_moved_217 : decode cX7_moved 217 = .ok (.areturn, 1) := by decide +kernel
theorem dX7_rows_0 : decode cX7_rows 0 = .ok (.aload_n 0, 1) := by decide +kernel
theorem dX7_rows_1 : decode cX7_rows 1 = .ok (.getfield 11, 3) := by decide +kernel
theorem dX7_rows_4 : decode cX7_rows 4 = .ok (.arraylength, 1) := by decide +kernel
theorem dX7_rows_5 : decode cX7_rows 5 = .ok (.ireturn, 1) := by decide +kernel
theorem dX7_columns_0 : decode cX7_columns 0 = .ok (.aload_n 0, 1) := by decide +kernel
theorem dX7_columns_1 : decode cX7_columns 1 = .ok (.getfield 11, 3) := by decide +kernel
theorem dX7_columns_4 : decode cX7_columns 4 = .ok (.iconst 0, 1) := by decide +kernel
theorem dX7_columns_5 : decode cX7_columns 5 = .ok (.aaload, 1) := by decide +kernel
theorem dX7_columns_6 : decode cX7_columns 6 = .ok (.arraylength, 1) := by decide +kernel
theorem dX7_columns_7 : decode cX7_columns 7 = .ok (.ireturn, 1) := by decide +kernel
theorem dX8_init_0 : decode cX8_init 0 = .ok (.aload_n 0, 1) := by decide +kernel
theorem dX8_init_1 : decode cX8_init 1 = .ok (.invokespecial 3, 3) := by decide +kernel
theorem dX8_init_4 : decode cX8_init 4 = .ok (.aload_n 0, 1) := by decide +kernel
theorem dX8_init_5 : decode cX8_init 5 = .ok (.bipush 40, 2) := by decide +kernel
theorem dX8_init_7 : decode cX8_init 7 = .ok (.anewarray 9, 3) := by decide +kernel
theorem dX8_init_10 : decode cX8_init 10 = .ok (.putfield 11, 3) := by decide +kernel
theorem dX8_init_13 : decode cX8_init 13 = .ok (.aload_n 0, 1) := by decide +kernel
theorem dX8_init_14 : decode cX8_init 14 = .ok (.iload_n 1, 1) := by decide +kernel
theorem dX8_init_15 : decode cX8_init 15 = .ok (.putfield 17, 3) := by decide +kernel
theorem dX8_init_18 : decode cX8_init 18 = .ok (.aload_n 0, 1) := by decide +kernel
theorem dX8_init_19 : decode cX8_init 19 = .ok (.iload_n 2, 1) := by decide +kernel
theorem dX8_init_20 : decode cX8_init 20 = .ok (.putfield 21, 3) := by decide +kernel
theorem dX8_init_23 : decode cX8_init 23 = .ok (.return_, 1) := by decide +kernel
theorem dX8_block_0 : decode cX8_block 0 = .ok (.aload_n 0, 1) := by decide +kernel
theorem dX8_block_1 : decode cX8_block 1 = .ok (.getfield 11, 3) := by decide +kernel
theorem dX8_block_4 : decode cX8_block 4 = .ok (.iload_n 1, 1) := by decide +kernel
theorem dX8_block_5 : decode cX8_block 5 = .ok (.aaload, 1) := by decide +kernel
theorem dX8_block_6 : decode cX8_block 6 = .ok (.ifnonnull 24, 3) := by decide +kernel
theorem dX8_block_9 : decode cX8_block 9 = .ok (.aload_n 0, 1) := by decide +kernel
theorem dX8_block_10 : decode cX8_block 10 = .ok (.getfield 11, 3) := by decide +kernel
theorem dX8_block_13 : decode cX8_block 13 = .ok (.iload_n 1, 1) := by decide +kernel
theorem dX8_block_14 : decode cX8_block 14 = .ok (.new 9, 3) := by decide +kernel
theorem dX8_block_17 : decode cX8_block 17 = .ok (.dup, 1) := by decide +kernel
theorem dX8_block_18 : decode cX8_block 18 = .ok (.aload_n 0, 1) := by decide +kernel
theorem dX8_block_19 : decode cX8_block 19 = .ok (.getfield 17, 3) := by decide +kernel
theorem dX8_block_22 : decode cX8_block 22 = .ok (.aload_n 0, 1) := by decide +kernel
theorem dX8_block_23 : decode cX8_block 23 = .ok (.getfield 21, 3) := by decide +kernel
theorem dX8_block_26 : decode cX8_block 26 = .ok (.invokespecial 24, 3) := by decide +kernel
theorem dX8_block_29 : decode cX8_block 29 = .ok (.aastore, 1) := by decide +kernel
theorem dX8_block_30 : decode cX8_block 30 = .ok (.aload_n 0, 1) := by decide +kernel
theorem dX8_block_31 : decode cX8_block 31 = .ok (.getfield 11, 3) := by decide +kernel
theorem dX8_block_34 : decode cX8_block 34 = .ok (.iload_n 1, 1) := by decide +kernel
theorem dX8_block_35 : decode cX8_block 35 = .ok (.aaload, 1) := by decide +kernel
theorem dX8_block_36 : decode cX8_block 36 = .ok (.areturn, 1) := by decide +kernel
theorem dJ8_init_0 : decode cJ8_init 0 = .ok (.aload_n 0, 1) := by decide +kernel
theorem dJ8_init_1 : decode cJ8_init 1 = .ok (.invokespecial 1, 3) := by decide +kernel
theorem dJ8_init_4 : decode cJ8_init 4 = .ok (.aload_n 0, 1) := by decide +kernel
theorem dJ8_init_5 : decode cJ8_init 5 = .ok (.aload_n 0, 1) := by decide +kernel
theorem dJ8_init_6 : decode cJ8_init 6 = .ok (.putfield 7, 3) := by decide +kernel
theorem dJ8_init_9 : decode cJ8_init 9 = .ok (.aload_n 0, 1) := by decide +kernel
theorem dJ8_init_10 : decode cJ8_init 10 = .ok (.getstatic 13, 3) := by decide +kernel
theorem dJ8_init_13 : decode cJ8_init 13 = .ok (.putfield 17, 3) := by decide +kernel
theorem dJ8_init_16 : decode cJ8_init 16 = .ok (.aload_n 0, 1) := by decide +kernel
theorem dJ8_init_17 : decode cJ8_init 17 = .ok (.getstatic 20, 3) := by decide +kernel
theorem dJ8_init_20 : decode cJ8_init 20 = .ok (.putfield 24, 3) := by decide +kernel
theorem dJ8_init_23 : decode cJ8_init 23 = .ok (.aload_n 0, 1) := by decide +kernel
theorem dJ8_init_24 : decode cJ8_init 24 = .ok (.invokevirtual 27, 3) := by decide +kernel
theorem dJ8_init_27 : decode cJ8_init 27 = .ok (.pop, 1) := by decide +kernel
theorem dJ8_init_28 : decode cJ8_init 28 = .ok (.aload_n 0, 1) := by decide +kernel
theorem dJ8_init_29 : decode cJ8_init 29 = .ok (.aload_n 1, 1) := by decide +kernel
theorem dJ8_init_30 : decode cJ8_init 30 = .ok (.putfield 31, 3) := by decide +kernel
theorem dJ8_init_33 : decode cJ8_init 33 = .ok (.return_, 1) := by decide +kernel
theorem dJ8_init_2_0 : decode cJ8_init_2 0 = .ok (.aload_n 0, 1) := by decide +kernel
theorem dJ8_init_2_1 : decode cJ8_init_2 1 = .ok (.invokespecial 1, 3) := by decide +kernel
theorem dJ8_init_2_4 : decode cJ8_init_2 4 = .ok (.aload_n 0, 1) := by decide +kernel
theorem dJ8_init_2_5 : decode cJ8_init_2 5 = .ok (.aload_n 0, 1) := by decide +kernel
theorem dJ8_init_2_6 : decode cJ8_init_2 6 = .ok (.putfield 7, 3) := by decide +kernel
theorem dJ8_init_2_9 : decode cJ8_init_2 9 = .ok (.aload_n 0, 1) := by decide +kernel
theorem dJ8_init_2_10 : decode cJ8_init_2 10 = .ok (.getstatic 13, 3) := by decide +kernel
theorem dJ8_init_2_13 : decode cJ8_init_2 13 = .ok (.putfield 17, 3) := by decide +kernel
theorem dJ8_init_2_16 : decode cJ8_init_2 16 = .ok (.aload_n 0, 1) := by decide +kernel
theorem dJ8_init_2_17 : decode cJ8_init_2 17 = .ok (.getstatic 20, 3) := by decide +kernel
theorem dJ8_init_2_20 : decode cJ8_init_2 20 = .ok (.putfield 24, 3) := by decide +kernel
theorem dJ8_init_2_23 : decode cJ8_init_2 23 = .ok (.aload_n 0, 1) := by decide +kernel
theorem dJ8_init_2_24 : decode cJ8_init_2 24 = .ok (.invokevirtual 27, 3) := by decide +kernel
theorem dJ8_init_2_27 : decode cJ8_init_2 27 = .ok (.pop, 1) := by decide +kernel
theorem dJ8_init_2_28 : decode cJ8_init_2 28 = .ok (.return_, 1) := by decide +kernel
theorem dJ8_init_3_0 : decode cJ8_init_3 0 = .ok (.aload_n 0, 1) := by decide +kernel
theorem dJ8_init_3_1 : decode cJ8_init_3 1 = .ok (.invokespecial 1, 3) := by decide +kernel
theorem dJ8_init_3_4 : decode cJ8_init_3 4 = .ok (.aload_n 0, 1) := by decide +kernel
theorem dJ8_init_3_5 : decode cJ8_init_3 5 = .ok (.aload_n 0, 1) := by decide +kernel
theorem dJ8_init_3_6 : decode cJ8_init_3 6 = .ok (.putfield 7, 3) := by decide +kernel
theorem dJ8_init_3_9 : decode cJ8_init_3 9 = .ok (.aload_n 0, 1) := by decide +kernel
theorem dJ8_init_3_10 : decode cJ8_init_3 10 = .ok (.getstatic 13, 3) := by decide +kernel
theorem dJ8_init_3_13 : decode cJ8_init_3 13 = .ok (.putfield 17, 3) := by decide +kernel
theorem dJ8_init_3_16 : decode cJ8_init_3 16 = .ok (.aload_n 0, 1) := by decide +kernel
theorem dJ8_init_3_17 : decode cJ8_init_3 17 = .ok (.getstatic 20, 3) := by decide +kernel
theorem dJ8_init_3_20 : decode cJ8_init_3 20 = .ok (.putfield 24, 3) := by decide +kernel
theorem dJ8_init_3_23 : decode cJ8_init_3 23 = .ok (.iload 4, 2) := by decide +kernel
theorem dJ8_init_3_25 : decode cJ8_init_3 25 = .ok (.ifCond .eq 11, 3) := by decide +kernel
theorem dJ8_init_3_28 : decode cJ8_init_3 28 = .ok (.aload_n 0, 1) := by decide +kernel
theorem dJ8_init_3_29 : decode cJ8_init_3 29 = .ok (.invokevirtual 27, 3) := by decide +kernel
theorem dJ8_init_3_32 : decode cJ8_init_3 32 = .ok (.pop, 1) := by decide +kernel
theorem dJ8_init_3_33 : decode cJ8_init_3 33 = .ok (.goto 8, 3) := by decide +kernel
theorem dJ8_init_3_36 : decode cJ8_init_3 36 = .ok (.aload_n 0, 1) := by decide +kernel
theorem dJ8_init_3_37 : decode cJ8_init_3 37 = .ok (.aconst_null, 1) := by decide +kernel
theorem dJ8_init_3_38 : decode cJ8_init_3 38 = .ok (.putfield 17, 3) := by decide +kernel
theorem dJ8_init_3_41 : decode cJ8_init_3 41 = .ok (.aload_n 0, 1) := by decide +kernel
theorem dJ8_init_3_42 : decode cJ8_init_3 42 = .ok (.aload_n 1, 1) := by decide +kernel
theorem dJ8_init_3_43 : decode cJ8_init_3 43 = .ok (.putfield 31, 3) := by decide +kernel
theorem dJ8_init_3_46 : decode cJ8_init_3 46 = .ok (.aload_n 0, 1) := by decide +kernel
theorem dJ8_init_3_47 : decode cJ8_init_3 47 = .ok (.aload_n 2, 1) := by decide +kernel
theorem dJ8_init_3_48 : decode cJ8_init_3 48 = .ok (.putfield 7, 3) := by decide +kernel
theorem dJ8_init_3_51 : decode cJ8_init_3 51 = .ok (.iload_n 3, 1) := by decide +kernel
theorem dJ8_init_3_52 : decode cJ8_init_3 52 = .ok (.ifCond .ne 8, 3) := by decide +kernel
theorem dJ8_init_3_55 : decode cJ8_init_3 55 = .ok (.aload_n 0, 1) := by decide +kernel
theorem dJ8_init_3_56 : decode cJ8_init_3 56 = .ok (.aconst_null, 1) := by decide +kernel
theorem dJ8_init_3_57 : decode cJ8_init_3 57 = .ok (.putfield 24, 3) := by decide +kernel
theorem dJ8_init_3_60 : decode cJ8_init_3 60 = .ok (.return_, 1) := by decide +kernel
theorem dJ9_init_0 : decode cJ9_init 0 = .ok (.aload_n 0, 1) := by decide +kernel
theorem dJ9_init_1 : decode cJ9_init 1 = .ok (.aload_n 1, 1) := by decide +kernel
theorem dJ9_init_2 : decode cJ9_init 2 = .ok (.invokespecial 7, 3) := by decide +kernel
theorem dJ9_init_5 : decode cJ9_init 5 = .ok (.return_, 1) := by decide +kernel
theorem dJ9_init_2_0 : decode cJ9_init_2 0 = .ok (.aload_n 0, 1) := by decide +kernel
theorem dJ9_init_2_1 : decode cJ9_init_2 1 = .ok (.aload_n 1, 1) := by decide +kernel
theorem dJ9_init_2_2 : decode cJ9_init_2 2 = .ok (.aload_n 2, 1) := by decide +kernel
theorem dJ9_init_2_3 : decode cJ9_init_2 3 = .ok (.iload_n 3, 1) := by decide +kernel
theorem dJ9_init_2_4 : decode cJ9_init_2 4 = .ok (.iload 4, 2) := by decide +kernel
theorem dJ9_init_2_6 : decode cJ9_init_2 6 = .ok (.invokespecial 16, 3) := by decide +kernel
theorem dJ9_init_2_9 : decode cJ9_init_2 9 = .ok (.return_, 1) := by decide +kernel
theorem dJ10_init_0 : decode cJ10_init 0 = .ok (.aload_n 0, 1) := by decide +kernel
theorem dJ10_init_1 : decode cJ10_init 1 = .ok (.aload_n 1, 1) := by decide +kernel
theorem dJ10_init_2 : decode cJ10_init 2 = .ok (.invokespecial 7, 3) := by decide +kernel
theorem dJ10_init_5 : decode cJ10_init 5 = .ok (.return_, 1) := by decide +kernel
theorem dJ11_init_0 : decode cJ11_init 0 = .ok (.aload_n 0, 1) := by decide +kernel
theorem dJ11_init_1 : decode cJ11_init 1 = .ok (.aload_n 1, 1) := by decide +kernel
theorem dJ11_init_2 : decode cJ11_init 2 = .ok (.invokespecial 7, 3) := by decide +kernel
theorem dJ11_init_5 : decode cJ11_init 5 = .ok (.return_, 1) := by decide +kernel
theorem dX9_init_0 : decode cX9_init 0 = .ok (.aload_n 0, 1) := by decide +kernel
theorem dX9_init_1 : decode cX9_init 1 = .ok (.aconst_null, 1) := by decide +kernel
theorem dX9_init_2 : decode cX9_init 2 = .ok (.aload_n 1, 1) := by decide +kernel
theorem dX9_init_3 : decode cX9_init 3 = .ok (.iconst 0, 1) := by decide +kernel
theorem dX9_init_4 : decode cX9_init 4 = .ok (.iconst 0, 1) := by decide +kernel
theorem dX9_init_5 : decode cX9_init 5 = .ok (.invokespecial 1, 3) := by decide +kernel
theorem dX9_init_8 : decode cX9_init 8 = .ok (.return_, 1) := by decide +kernel
theorem dX10_init_0 : decode cX10_init 0 = .ok (.aload_n 0, 1) := by decide +kernel
theorem dX10_init_1 : decode cX10_init 1 = .ok (.aload_n 1, 1) := by decide +kernel
theorem dX10_init_2 : decode cX10_init 2 = .ok (.putfield 3, 3) := by decide +kernel
theorem dX10_init_5 : decode cX10_init 5 = .ok (.aload_n 0, 1) := by decide +kernel
theorem dX10_init_6 : decode cX10_init 6 = .ok (.invokespecial 9, 3) := by decide +kernel
theorem dX10_init_9 : decode cX10_init 9 = .ok (.aload_n 0, 1) := by decide +kernel
theorem dX10_init_10 : decode cX10_init 10 = .ok (.bipush 40, 2) := by decide +kernel
theorem dX10_init_12 : decode cX10_init 12 = .ok (.newarray .int, 2) := by decide +kernel
theorem dX10_init_14 : decode cX10_init 14 = .ok (.putfield 15, 3) := by decide +kernel
theorem dX10_init_17 : decode cX10_init 17 = .ok (.aload_n 0, 1) := by decide +kernel
theorem dX10_init_18 : decode cX10_init 18 = .ok (.bipush 40, 2) := by decide +kernel
theorem dX10_init_20 : decode cX10_init 20 = .ok (.newarray .int, 2) := by decide +kernel
theorem dX10_init_22 : decode cX10_init 22 = .ok (.putfield 19, 3) := by decide +kernel
theorem dX10_init_25 : decode cX10_init 25 = .ok (.aload_n 0, 1) := by decide +kernel
theorem dX10_init_26 : decode cX10_init 26 = .ok (.iload_n 2, 1) := by decide +kernel
theorem dX10_init_27 : decode cX10_init 27 = .ok (.putfield 22, 3) := by decide +kernel
theorem dX10_init_30 : decode cX10_init 30 = .ok (.aload_n 0, 1) := by decide +kernel
theorem dX10_init_31 : decode cX10_init 31 = .ok (.iload_n 3, 1) := by decide +kernel
theorem dX10_init_32 : decode cX10_init 32 = .ok (.putfield 26, 3) := by decide +kernel
theorem dX10_init_35 : decode cX10_init 35 = .ok (.aload_n 0, 1) := by decide +kernel
theorem dX10_init_36 : decode cX10_init 36 = .ok (.iload_n 2, 1) := by decide +kernel
theorem dX10_init_37 : decode cX10_init 37 = .ok (.iload_n 3, 1) := by decide +kernel
theorem dX10_init_38 : decode cX10_init 38 = .ok (.multianewarray 29 2, 4) := by decide +kernel
theorem dX10_init_42 : decode cX10_init 42 = .ok (.putfield 31, 3) := by decide +kernel
theorem dX10_init_45 : decode cX10_init 45 = .ok (.aload_n 0, 1) := by decide +kernel
theorem dX10_init_46 : decode cX10_init 46 = .ok (.iload_n 2, 1) := by decide +kernel
theorem dX10_init_47 : decode cX10_init 47 = .ok (.iload_n 3, 1) := by decide +kernel
theorem dX10_init_48 : decode cX10_init 48 = .ok (.multianewarray 29 2, 4) := by decide +kernel
theorem dX10_init_52 : decode cX10_init 52 = .ok (.putfield 34, 3) := by decide +kernel
theorem dX10_init_55 : decode cX10_init 55 = .ok (.aload_n 0, 1) := by decide +kernel
theorem dX10_init_56 : decode cX10_init 56 = .ok (.iload_n 2, 1) := by decide +kernel
theorem dX10_init_57 : decode cX10_init 57 = .ok (.iload_n 3, 1) := by decide +kernel
theorem dX10_init_58 : decode cX10_init 58 = .ok (.multianewarray 29 2, 4) := by decide +kernel
theorem dX10_init_62 : decode cX10_init 62 = .ok (.putfield 37, 3) := by decide +kernel
theorem dX10_init_65 : decode cX10_init 65 = .ok (.aload_n 0, 1) := by decide +kernel
theorem dX10_init_66 : decode cX10_init 66 = .ok (.iload_n 2, 1) := by decide +kernel
theorem dX10_init_67 : decode cX10_init 67 = .ok (.iload_n 3, 1) := by decide +kernel
theorem dX10_init_68 : decode cX10_init 68 = .ok (.multianewarray 29 2, 4) := by decide +kernel
theorem dX10_init_72 : decode cX10_init 72 = .ok (.putfield 40, 3) := by decide +kernel
theorem dX10_init_75 : decode cX10_init 75 = .ok (.aload_n 0, 1) := by decide +kernel
theorem dX10_init_76 : decode cX10_init 76 = .ok (.iload_n 2, 1) := by decide +kernel
theorem dX10_init_77 : decode cX10_init 77 = .ok (.iload_n 3, 1) := by decide +kernel
theorem dX10_init_78 : decode cX10_init 78 = .ok (.multianewarray 43 2, 4) := by decide +kernel
theorem dX10_init_82 : decode cX10_init 82 = .ok (.putfield 45, 3) := by decide +kernel
theorem dX10_init_85 : decode cX10_init 85 = .ok (.aload_n 0, 1) := by decide +kernel
theorem dX10_init_86 : decode cX10_init 86 = .ok (.getfield 34, 3) := by decide +kernel
theorem dX10_init_89 : decode cX10_init 89 = .ok (.astore 4, 2) := by decide +kernel
theorem dX10_init_91 : decode cX10_init 91 = .ok (.aload 4, 2) := by decide +kernel
theorem dX10_init_93 : decode cX10_init 93 = .ok (.arraylength, 1) := by decide +kernel
theorem dX10_init_94 : decode cX10_init 94 = .ok (.istore 5, 2) := by decide +kernel
theorem dX10_init_96 : decode cX10_init 96 = .ok (.iconst 0, 1) := by decide +kernel
theorem dX10_init_97 : decode cX10_init 97 = .ok (.istore 6, 2) := by decide +kernel
theorem dX10_init_99 : decode cX10_init 99 = .ok (.iload 6, 2) := by decide +kernel
theorem dX10_init_101 : decode cX10_init 101 = .ok (.iload 5, 2) := by decide +kernel
theorem dX10_init_103 : decode cX10_init 103 = .ok (.if_icmp .ge 37, 3) := by decide +kernel
theorem dX10_init_106 : decode cX10_init 106 = .ok (.aload 4, 2) := by decide +kernel
theorem dX10_init_108 : decode cX10_init 108 = .ok (.iload 6, 2) := by decide +kernel
theorem dX10_init_110 : decode cX10_init 110 = .ok (.aaload, 1) := by decide +kernel
theorem dX10_init_111 : decode cX10_init 111 = .ok (.astore 7, 2) := by decide +kernel
theorem dX10_init_113 : decode cX10_init 113 = .ok (.iconst 0, 1) := by decide +kernel
theorem dX10_init_114 : decode cX10_init 114 = .ok (.istore 8, 2) := by decide +kernel
theorem dX10_init_116 : decode cX10_init 116 = .ok (.iload 8, 2) := by decide +kernel
theorem dX10_init_118 : decode cX10_init 118 = .ok (.iload_n 3, 1) := by decide +kernel
theorem dX10_init_119 : decode cX10_init 119 = .ok (.if_icmp .ge 15, 3) := by decide +kernel
theorem dX10_init_122 : decode cX10_init 122 = .ok (.aload 7, 2) := by decide +kernel
theorem dX10_init_124 : decode cX10_init 124 = .ok (.iload 8, 2) := by decide +kernel
theorem dX10_init_126 : decode cX10_init 126 = .ok (.iconst (-1), 1) := by decide +kernel
theorem dX10_init_127 : decode cX10_init 127 = .ok (.iastore, 1) := by decide +kernel
theorem dX10_init_128 : decode cX10_init 128 = .ok (.iinc 8 1, 3) := by decide +kernel
theorem dX10_init_131 : decode cX10_init 131 = .ok (.goto (-15), 3) := by decide +kernel
theorem dX10_init_134 : decode cX10_init 134 = .ok (.iinc 6 1, 3) := by decide +kernel
theorem dX10_init_137 : decode cX10_init 137 = .ok (.goto (-38), 3) := by decide +kernel
theorem dX10_init_140 : decode cX10_init 140 = .ok (.return_, 1) := by decide +kernel
theorem dX10_place_0 : decode cX10_place 0 = .ok (.aload_n 0, 1) := by decide +kernel
theorem dX10_place_1 : decode cX10_place 1 = .ok (.iload_n 1, 1) := by decide +kernel
theorem dX10_place_2 : decode cX10_place 2 = .ok (.iload_n 2, 1) := by decide +kernel
theorem dX10_place_3 : decode cX10_place 3 = .ok (.invokevirtual 48, 3) := by decide +kernel
theorem dX10_place_6 : decode cX10_place 6 = .ok (.ifCond .ne 5, 3) := by decide +kernel
theorem dX10_place_9 : decode cX10_place 9 = .ok (.iconst 0, 1) := by decide +kernel
theorem dX10_place_10 : decode cX10_place 10 = .ok (.ireturn, 1) := by decide +kernel
theorem dX10_place_11 : decode cX10_place 11 = .ok (.aload_n 0, 1) := by decide +kernel
theorem dX10_place_12 : decode cX10_place 12 = .ok (.getfield 31, 3) := by decide +kernel
theorem dX10_place_15 : decode cX10_place 15 = .ok (.iload_n 1, 1) := by decide +kernel
theorem dX10_place_16 : decode cX10_place 16 = .ok (.aaload, 1) := by decide +kernel
theorem dX10_place_17 : decode cX10_place 17 = .ok (.iload_n 2, 1) := by decide +kernel
theorem dX10_place_18 : decode cX10_place 18 = .ok (.iload_n 3, 1) := by decide +kernel
theorem dX10_place_19 : decode cX10_place 19 = .ok (.bipush (-2), 2) := by decide +kernel
theorem dX10_place_21 : decode cX10_place 21 = .ok (.if_icmp .ne 7, 3) := by decide +kernel
theorem dX10_place_24 : decode cX10_place 24 = .ok (.iconst 1, 1) := by decide +kernel
theorem dX10_place_25 : decode cX10_place 25 = .ok (.goto 13, 3) := by decide +kernel
theorem dX10_place_28 : decode cX10_place 28 = .ok (.iload_n 3, 1) := by decide +kernel
theorem dX10_place_29 : decode cX10_place 29 = .ok (.iconst (-1), 1) := by decide +kernel
theorem dX10_place_30 : decode cX10_place 30 = .ok (.if_icmp .ne 7, 3) := by decide +kernel
theorem dX10_place_33 : decode cX10_place 33 = .ok (.iconst 0, 1) := by decide +kernel
theorem dX10_place_34 : decode cX10_place 34 = .ok (.goto 4, 3) := by decide +kernel
theorem dX10_place_37 : decode cX10_place 37 = .ok (.iconst 2, 1) := by decide +kernel
theorem dX10_place_38 : decode cX10_place 38 = .ok (.iastore, 1) := by decide +kernel
theorem dX10_place_39 : decode cX10_place 39 = .ok (.aload_n 0, 1) := by decide +kernel
theorem dX10_place_40 : decode cX10_place 40 = .ok (.getfield 34, 3) := by decide +kernel
theorem dX10_place_43 : decode cX10_place 43 = .ok (.iload_n 1, 1) := by decide +kernel
theorem dX10_place_44 : decode cX10_place 44 = .ok (.aaload, 1) := by decide +kernel
theorem dX10_place_45 : decode cX10_place 45 = .ok (.iload_n 2, 1) := by decide +kernel
theorem dX10_place_46 : decode cX10_place 46 = .ok (.iload_n 3, 1) := by decide +kernel
theorem dX10_place_47 : decode cX10_place 47 = .ok (.ifCond .ge 7, 3) := by decide +kernel
theorem dX10_place_50 : decode cX10_place 50 = .ok (.iconst (-1), 1) := by decide +kernel
theorem dX10_place_51 : decode cX10_place 51 = .ok (.goto 27, 3) := by decide +kernel
theorem dX10_place_54 : decode cX10_place 54 = .ok (.bipush 8, 2) := by decide +kernel
theorem dX10_place_56 : decode cX10_place 56 = .ok (.iload_n 3, 1) := by decide +kernel
theorem dX10_place_57 : decode cX10_place 57 = .ok (.imul, 1) := by decide +kernel
theorem dX10_place_58 : decode cX10_place 58 = .ok (.aload_n 0, 1) := by decide +kernel
theorem dX10_place_59 : decode cX10_place 59 = .ok (.getfield 3, 3) := by decide +kernel
theorem dX10_place_62 : decode cX10_place 62 = .ok (.getfield 52, 3) := by decide +kernel
theorem dX10_place_65 : decode cX10_place 65 = .ok (.iload_n 3, 1) := by decide +kernel
theorem dX10_place_66 : decode cX10_place 66 = .ok (.invokevirtual 56, 3) := by decide +kernel
theorem dX10_place_69 : decode cX10_place 69 = .ok (.checkcast 62, 3) := by decide +kernel
theorem dX10_place_72 : decode cX10_place 72 = .ok (.iload 4, 2) := by decide +kernel
theorem dX10_place_74 : decode cX10_place 74 = .ok (.invokevirtual 76, 3) := by decide +kernel
theorem dX10_place_77 : decode cX10_place 77 = .ok (.iadd, 1) := by decide +kernel
theorem dX10_place_78 : decode cX10_place 78 = .ok (.iastore, 1) := by decide +kernel
theorem dX10_place_79 : decode cX10_place 79 = .ok (.iconst 1, 1) := by decide +kernel
theorem dX10_place_80 : decode cX10_place 80 = .ok (.ireturn, 1) := by decide +kernel
theorem dX10_has_0 : decode cX10_has 0 = .ok (.iload_n 1, 1) := by decide +kernel
theorem dX10_has_1 : decode cX10_has 1 = .ok (.ifCond .lt 27, 3) := by decide +kernel
theorem dX10_has_4 : decode cX10_has 4 = .ok (.iload_n 1, 1) := by decide +kernel
theorem dX10_has_5 : decode cX10_has 5 = .ok (.aload_n 0, 1) := by decide +kernel
theorem dX10_has_6 : decode cX10_has 6 = .ok (.getfield 22, 3) := by decide +kernel
theorem dX10_has_9 : decode cX10_has 9 = .ok (.if_icmp .ge 19, 3) := by decide +kernel
theorem dX10_has_12 : decode cX10_has 12 = .ok (.iload_n 2, 1) := by decide +kernel
theorem dX10_has_13 : decode cX10_has 13 = .ok (.ifCond .lt 15, 3) := by decide +kernel
theorem dX10_has_16 : decode cX10_has 16 = .ok (.iload_n 2, 1) := by decide +kernel
theorem dX10_has_17 : decode cX10_has 17 = .ok (.aload_n 0, 1) := by decide +kernel
theorem dX10_has_18 : decode cX10_has 18 = .ok (.getfield 26, 3) := by decide +kernel
theorem dX10_has_21 : decode cX10_has 21 = .ok (.if_icmp .ge 7, 3) := by decide +kernel
theorem dX10_has_24 : decode cX10_has 24 = .ok (.iconst 1, 1) := by decide +kernel
theorem dX10_has_25 : decode cX10_has 25 = .ok (.goto 4, 3) := by decide +kernel
theorem dX10_has_28 : decode cX10_has 28 = .ok (.iconst 0, 1) := by decide +kernel
theorem dX10_has_29 : decode cX10_has 29 = .ok (.ireturn, 1) := by decide +kernel
theorem dX10_fill_0 : decode cX10_fill 0 = .ok (.aload_n 0, 1) := by decide +kernel
theorem dX10_fill_1 : decode cX10_fill 1 = .ok (.iconst 1, 1) := by decide +kernel
theorem dX10_fill_2 : decode cX10_fill 2 = .ok (.iconst 0, 1) := by decide +kernel
theorem dX10_fill_3 : decode cX10_fill 3 = .ok (.invokevirtual 161, 3) := by decide +kernel
theorem dX10_fill_6 : decode cX10_fill 6 = .ok (.aload_n 0, 1) := by decide +kernel
theorem dX10_fill_7 : decode cX10_fill 7 = .ok (.getfield 92, 3) := by decide +kernel
theorem dX10_fill_10 : decode cX10_fill 10 = .ok (.ifCond .le 7, 3) := by decide +kernel
theorem dX10_fill_13 : decode cX10_fill 13 = .ok (.iconst 1, 1) := by decide +kernel
theorem dX10_fill_14 : decode cX10_fill 14 = .ok (.goto 15, 3) := by decide +kernel
theorem dX10_fill_17 : decode cX10_fill 17 = .ok (.aload_n 0, 1) := by decide +kernel
theorem dX10_fill_18 : decode cX10_fill 18 = .ok (.getfield 104, 3) := by decide +kernel
theorem dX10_fill_21 : decode cX10_fill 21 = .ok (.ifCond .eq 7, 3) := by decide +kernel
theorem dX10_fill_24 : decode cX10_fill 24 = .ok (.iconst 2, 1) := by decide +kernel
theorem dX10_fill_25 : decode cX10_fill 25 = .ok (.goto 4, 3) := by decide +kernel
theorem dX10_fill_28 : decode cX10_fill 28 = .ok (.iconst 0, 1) := by decide +kernel
theorem dX10_fill_29 : decode cX10_fill 29 = .ok (.ireturn, 1) := by decide +kernel
theorem dX10_search_0 : decode cX10_search 0 = .ok (.aload_n 0, 1) := by decide +kernel
theorem dX10_search_1 : decode cX10_search 1 = .ok (.invokevirtual 121, 3) := by decide +kernel
theorem dX10_search_4 : decode cX10_search 4 = .ok (.aload_n 0, 1) := by decide +kernel
theorem dX10_search_5 : decode cX10_search 5 = .ok (.iload_n 1, 1) := by decide +kernel
theorem dX10_search_6 : decode cX10_search 6 = .ok (.putfield 124, 3) := by decide +kernel
theorem dX10_search_9 : decode cX10_search 9 = .ok (.aload_n 0, 1) := by decide +kernel
theorem dX10_search_10 : decode cX10_search 10 = .ok (.iload_n 2, 1) := by decide +kernel
theorem dX10_search_11 : decode cX10_search 11 = .ok (.putfield 127, 3) := by decide +kernel
theorem dX10_search_14 : decode cX10_search 14 = .ok (.aload_n 0, 1) := by decide +kernel
theorem dX10_search_15 : decode cX10_search 15 = .ok (.invokevirtual 130, 3) := by decide +kernel
theorem dX10_search_18 : decode cX10_search 18 = .ok (.ifCond .eq 7, 3) := by decide +kernel
theorem dX10_search_21 : decode cX10_search 21 = .ok (.aload_n 0, 1) := by decide +kernel
theorem dX10_search_22 : decode cX10_search 22 = .ok (.invokevirtual 134, 3) := by decide +kernel
theorem dX10_search_25 : decode cX10_search 25 = .ok (.aload_n 0, 1) := by decide +kernel
theorem dX10_search_26 : decode cX10_search 26 = .ok (.invokevirtual 82, 3) := by decide +kernel
theorem dX10_search_29 : decode cX10_search 29 = .ok (.aload_n 0, 1) := by decide +kernel
theorem dX10_search_30 : decode cX10_search 30 = .ok (.getfield 85, 3) := by decide +kernel
theorem dX10_search_33 : decode cX10_search 33 = .ok (.ifCond .ne 4, 3) := by decide +kernel
theorem dX10_search_36 : decode cX10_search 36 = .ok (.return_, 1) := by decide +kernel
theorem dX10_search_37 : decode cX10_search 37 = .ok (.iconst 0, 1) := by decide +kernel
theorem dX10_search_38 : decode cX10_search 38 = .ok (.istore_n 3, 1) := by decide +kernel
theorem dX10_search_39 : decode cX10_search 39 = .ok (.iload_n 3, 1) := by decide +kernel
theorem dX10_search_40 : decode cX10_search 40 = .ok (.aload_n 0, 1) := by decide +kernel
theorem dX10_search_41 : decode cX10_search 41 = .ok (.getfield 22, 3) := by decide +kernel
theorem dX10_search_44 : decode cX10_search 44 = .ok (.if_icmp .ge 45, 3) := by decide +kernel
theorem dX10_search_47 : decode cX10_search 47 = .ok (.iconst 0, 1) := by decide +kernel
theorem dX10_search_48 : decode cX10_search 48 = .ok (.istore 4, 2) := by decide +kernel
theorem dX10_search_50 : decode cX10_search 50 = .ok (.iload 4, 2) := by decide +kernel
theorem dX10_search_52 : decode cX10_search 52 = .ok (.aload_n 0, 1) := by decide +kernel
theorem dX10_search_53 : decode cX10_search 53 = .ok (.getfield 26, 3) := by decide +kernel
theorem dX10_search_56 : decode cX10_search 56 = .ok (.if_icmp .ge 27, 3) := by decide +kernel
theorem dX10_search_59 : decode cX10_search 59 = .ok (.aload_n 0, 1) := by decide +kernel
theorem dX10_search_60 : decode cX10_search 60 = .ok (.getfield 34, 3) := by decide +kernel
theorem dX10_search_63 : decode cX10_search 63 = .ok (.iload_n 3, 1) := by decide +kernel
theorem dX10_search_64 : decode cX10_search 64 = .ok (.aaload, 1) := by decide +kernel
theorem dX10_search_65 : decode cX10_search 65 = .ok (.iload 4, 2) := by decide +kernel
theorem dX10_search_67 : decode cX10_search 67 = .ok (.aload_n 0, 1) := by decide +kernel
theorem dX10_search_68 : decode cX10_search 68 = .ok (.getfield 37, 3) := by decide +kernel
theorem dX10_search_71 : decode cX10_search 71 = .ok (.iload_n 3, 1) := by decide +kernel
theorem dX10_search_72 : decode cX10_search 72 = .ok (.aaload, 1) := by decide +kernel
theorem dX10_search_73 : decode cX10_search 73 = .ok (.iload 4, 2) := by decide +kernel
theorem dX10_search_75 : decode cX10_search 75 = .ok (.iaload, 1) := by decide +kernel
theorem dX10_search_76 : decode cX10_search 76 = .ok (.iastore, 1) := by decide +kernel
theorem dX10_search_77 : decode cX10_search 77 = .ok (.iinc 4 1, 3) := by decide +kernel
theorem dX10_search_80 : decode cX10_search 80 = .ok (.goto (-30), 3) := by decide +kernel
theorem dX10_search_83 : decode cX10_search 83 = .ok (.iinc 3 1, 3) := by decide +kernel
theorem dX10_search_86 : decode cX10_search 86 = .ok (.goto (-47), 3) := by decide +kernel
theorem dX10_search_89 : decode cX10_search 89 = .ok (.return_, 1) := by decide +kernel
theorem dX10_begin_0 : decode cX10_begin 0 = .ok (.aload_n 0, 1) := by decide +kernel
theorem dX10_begin_1 : decode cX10_begin 1 = .ok (.invokevirtual 82, 3) := by decide +kernel
theorem dX10_begin_4 : decode cX10_begin 4 = .ok (.aload_n 0, 1) := by decide +kernel
theorem dX10_begin_5 : decode cX10_begin 5 = .ok (.iconst 0, 1) := by decide +kernel
theorem dX10_begin_6 : decode cX10_begin 6 = .ok (.putfield 85, 3) := by decide +kernel
theorem dX10_begin_9 : decode cX10_begin 9 = .ok (.aload_n 0, 1) := by decide +kernel
theorem dX10_begin_10 : decode cX10_begin 10 = .ok (.iconst 0, 1) := by decide +kernel
theorem dX10_begin_11 : decode cX10_begin 11 = .ok (.putfield 89, 3) := by decide +kernel
theorem dX10_begin_14 : decode cX10_begin 14 = .ok (.aload_n 0, 1) := by decide +kernel
theorem dX10_begin_15 : decode cX10_begin 15 = .ok (.iconst 0, 1) := by decide +kernel
theorem dX10_begin_16 : decode cX10_begin 16 = .ok (.putfield 92, 3) := by decide +kernel
theorem dX10_begin_19 : decode cX10_begin 19 = .ok (.aload_n 0, 1) := by decide +kernel
theorem dX10_begin_20 : decode cX10_begin 20 = .ok (.iconst 0, 1) := by decide +kernel
theorem dX10_begin_21 : decode cX10_begin 21 = .ok (.putfield 95, 3) := by decide +kernel
theorem dX10_begin_24 : decode cX10_begin 24 = .ok (.aload_n 0, 1) := by decide +kernel
theorem dX10_begin_25 : decode cX10_begin 25 = .ok (.ldc 100, 2) := by decide +kernel
theorem dX10_begin_27 : decode cX10_begin 27 = .ok (.putfield 101, 3) := by decide +kernel
theorem dX10_begin_30 : decode cX10_begin 30 = .ok (.aload_n 0, 1) := by decide +kernel
theorem dX10_begin_31 : decode cX10_begin 31 = .ok (.iconst 0, 1) := by decide +kernel
theorem dX10_begin_32 : decode cX10_begin 32 = .ok (.putfield 104, 3) := by decide +kernel
theorem dX10_begin_35 : decode cX10_begin 35 = .ok (.aload_n 0, 1) := by decide +kernel
theorem dX10_begin_36 : decode cX10_begin 36 = .ok (.ldc 100, 2) := by decide +kernel
theorem dX10_begin_38 : decode cX10_begin 38 = .ok (.putfield 107, 3) := by decide +kernel
theorem dX10_begin_41 : decode cX10_begin 41 = .ok (.aload_n 0, 1) := by decide +kernel
theorem dX10_begin_42 : decode cX10_begin 42 = .ok (.iconst 0, 1) := by decide +kernel
theorem dX10_begin_43 : decode cX10_begin 43 = .ok (.putfield 110, 3) := by decide +kernel
theorem dX10_begin_46 : decode cX10_begin 46 = .ok (.iconst 0, 1) := by decide +kernel
theorem dX10_begin_47 : decode cX10_begin 47 = .ok (.istore_n 1, 1) := by decide +kernel
theorem dX10_begin_48 : decode cX10_begin 48 = .ok (.iload_n 1, 1) := by decide +kernel
theorem dX10_begin_49 : decode cX10_begin 49 = .ok (.bipush 40, 2) := by decide +kernel
theorem dX10_begin_51 : decode cX10_begin 51 = .ok (.if_icmp .ge 72, 3) := by decide +kernel
theorem dX10_begin_54 : decode cX10_begin 54 = .ok (.aload_n 0, 1) := by decide +kernel
theorem dX10_begin_55 : decode cX10_begin 55 = .ok (.getfield 19, 3) := by decide +kernel
theorem dX10_begin_58 : decode cX10_begin 58 = .ok (.iload_n 1, 1) := by decide +kernel
theorem dX10_begin_59 : decode cX10_begin 59 = .ok (.aload_n 0, 1) := by decide +kernel
theorem dX10_begin_60 : decode cX10_begin 60 = .ok (.getfield 15, 3) := by decide +kernel
theorem dX10_begin_63 : decode cX10_begin 63 = .ok (.iload_n 1, 1) := by decide +kernel
theorem dX10_begin_64 : decode cX10_begin 64 = .ok (.iaload, 1) := by decide +kernel
theorem dX10_begin_65 : decode cX10_begin 65 = .ok (.iastore, 1) := by decide +kernel
theorem dX10_begin_66 : decode cX10_begin 66 = .ok (.aload_n 0, 1) := by decide +kernel
theorem dX10_begin_67 : decode cX10_begin 67 = .ok (.getfield 15, 3) := by decide +kernel
theorem dX10_begin_70 : decode cX10_begin 70 = .ok (.iload_n 1, 1) := by decide +kernel
theorem dX10_begin_71 : decode cX10_begin 71 = .ok (.iaload, 1) := by decide +kernel
theorem dX10_begin_72 : decode cX10_begin 72 = .ok (.ifCond .le 45, 3) := by decide +kernel
theorem dX10_begin_75 : decode cX10_begin 75 = .ok (.iload_n 1, 1) := by decide +kernel
theorem dX10_begin_76 : decode cX10_begin 76 = .ok (.aload_n 0, 1) := by decide +kernel
theorem dX10_begin_77 : decode cX10_begin 77 = .ok (.getfield 3, 3) := by decide +kernel
theorem dX10_begin_80 : decode cX10_begin 80 = .ok (.getfield 52, 3) := by decide +kernel
theorem dX10_begin_83 : decode cX10_begin 83 = .ok (.invokevirtual 72, 3) := by decide +kernel
theorem dX10_begin_86 : decode cX10_begin 86 = .ok (.if_icmp .ge 31, 3) := by decide +kernel
theorem dX10_begin_89 : decode cX10_begin 89 = .ok (.aload_n 0, 1) := by decide +kernel
theorem dX10_begin_90 : decode cX10_begin 90 = .ok (.aload_n 0, 1) := by decide +kernel
theorem dX10_begin_91 : decode cX10_begin 91 = .ok (.getfield 107, 3) := by decide +kernel
theorem dX10_begin_94 : decode cX10_begin 94 = .ok (.aload_n 0, 1) := by decide +kernel
theorem dX10_begin_95 : decode cX10_begin 95 = .ok (.getfield 3, 3) := by decide +kernel
theorem dX10_begin_98 : decode cX10_begin 98 = .ok (.getfield 52, 3) := by decide +kernel
theorem dX10_begin_101 : decode cX10_begin 101 = .ok (.iload_n 1, 1) := by decide +kernel
theorem dX10_begin_102 : decode cX10_begin 102 = .ok (.invokevirtual 56, 3) := by decide +kernel
theorem dX10_begin_105 : decode cX10_begin 105 = .ok (.checkcast 62, 3) := by decide +kernel
theorem dX10_begin_108 : decode cX10_begin 108 = .ok (.getfield 113, 3) := by decide +kernel
theorem dX10_begin_111 : decode cX10_begin 111 = .ok (.invokestatic 116, 3) := by decide +kernel
theorem dX10_begin_114 : decode cX10_begin 114 = .ok (.putfield 107, 3) := by decide +kernel
theorem dX10_begin_117 : decode cX10_begin 117 = .ok (.iinc 1 1, 3) := by decide +kernel
theorem dX10_begin_120 : decode cX10_begin 120 = .ok (.goto (-72), 3) := by decide +kernel
theorem dX10_begin_123 : decode cX10_begin 123 = .ok (.aload_n 0, 1) := by decide +kernel
theorem dX10_begin_124 : decode cX10_begin 124 = .ok (.getfield 31, 3) := by decide +kernel
theorem dX10_begin_127 : decode cX10_begin 127 = .ok (.astore_n 1, 1) := by decide +kernel
theorem dX10_begin_128 : decode cX10_begin 128 = .ok (.aload_n 1, 1) := by decide +kernel
theorem dX10_begin_129 : decode cX10_begin 129 = .ok (.arraylength, 1) := by decide +kernel
theorem dX10_begin_130 : decode cX10_begin 130 = .ok (.istore_n 2, 1) := by decide +kernel
theorem dX10_begin_131 : decode cX10_begin 131 = .ok (.iconst 0, 1) := by decide +kernel
theorem dX10_begin_132 : decode cX10_begin 132 = .ok (.istore_n 3, 1) := by decide +kernel
theorem dX10_begin_133 : decode cX10_begin 133 = .ok (.iload_n 3, 1) := by decide +kernel
theorem dX10_begin_134 : decode cX10_begin 134 = .ok (.iload_n 2, 1) := by decide +kernel
theorem dX10_begin_135 : decode cX10_begin 135 = .ok (.if_icmp .ge 61, 3) := by decide +kernel
theorem dX10_begin_138 : decode cX10_begin 138 = .ok (.aload_n 1, 1) := by decide +kernel
theorem dX10_begin_139 : decode cX10_begin 139 = .ok (.iload_n 3, 1) := by decide +kernel
theorem dX10_begin_140 : decode cX10_begin 140 = .ok (.aaload, 1) := by decide +kernel
theorem dX10_begin_141 : decode cX10_begin 141 = .ok (.astore 4, 2) := by decide +kernel
theorem dX10_begin_143 : decode cX10_begin 143 = .ok (.aload 4, 2) := by decide +kernel
theorem dX10_begin_145 : decode cX10_begin 145 = .ok (.astore 5, 2) := by decide +kernel
theorem dX10_begin_147 : decode cX10_begin 147 = .ok (.aload 5, 2) := by decide +kernel
theorem dX10_begin_149 : decode cX10_begin 149 = .ok (.arraylength, 1) := by decide +kernel
theorem dX10_begin_150 : decode cX10_begin 150 = .ok (.istore 6, 2) := by decide +kernel
theorem dX10_begin_152 : decode cX10_begin 152 = .ok (.iconst 0, 1) := by decide +kernel
theorem dX10_begin_153 : decode cX10_begin 153 = .ok (.istore 7, 2) := by decide +kernel
theorem dX10_begin_155 : decode cX10_begin 155 = .ok (.iload 7, 2) := by decide +kernel
theorem dX10_begin_157 : decode cX10_begin 157 = .ok (.iload 6, 2) := by decide +kernel
theorem dX10_begin_159 : decode cX10_begin 159 = .ok (.if_icmp .ge 31, 3) := by decide +kernel
theorem dX10_begin_162 : decode cX10_begin 162 = .ok (.aload 5, 2) := by decide +kernel
theorem dX10_begin_164 : decode cX10_begin 164 = .ok (.iload 7, 2) := by decide +kernel
theorem dX10_begin_166 : decode cX10_begin 166 = .ok (.iaload, 1) := by decide +kernel
theorem dX10_begin_167 : decode cX10_begin 167 = .ok (.istore 8, 2) := by decide +kernel
theorem dX10_begin_169 : decode cX10_begin 169 = .ok (.iload 8, 2) := by decide +kernel
theorem dX10_begin_171 : decode cX10_begin 171 = .ok (.ifCond .ne 13, 3) := by decide +kernel
theorem dX10_begin_174 : decode cX10_begin 174 = .ok (.aload_n 0, 1) := by decide +kernel
theorem dX10_begin_175 : decode cX10_begin 175 = .ok (.dup, 1) := by decide +kernel
theorem dX10_begin_176 : decode cX10_begin 176 = .ok (.getfield 110, 3) := by decide +kernel
theorem dX10_begin_179 : decode cX10_begin 179 = .ok (.iconst 1, 1) := by decide +kernel
theorem dX10_begin_180 : decode cX10_begin 180 = .ok (.iadd, 1) := by decide +kernel
theorem dX10_begin_181 : decode cX10_begin 181 = .ok (.putfield 110, 3) := by decide +kernel
theorem dX10_begin_184 : decode cX10_begin 184 = .ok (.iinc 7 1, 3) := by decide +kernel
theorem dX10_begin_187 : decode cX10_begin 187 = .ok (.goto (-32), 3) := by decide +kernel
theorem dX10_begin_190 : decode cX10_begin 190 = .ok (.iinc 3 1, 3) := by decide +kernel
theorem dX10_begin_193 : decode cX10_begin 193 = .ok (.goto (-60), 3) := by decide +kernel
theorem dX10_begin_196 : decode cX10_begin 196 = .ok (.return_, 1) := by decide +kernel
theorem dX10_clear_0 : decode cX10_clear 0 = .ok (.iconst 0, 1) := by decide +kernel
theorem dX10_clear_1 : decode cX10_clear 1 = .ok (.istore_n 1, 1) := by decide +kernel
theorem dX10_clear_2 : decode cX10_clear 2 = .ok (.iload_n 1, 1) := by decide +kernel
theorem dX10_clear_3 : decode cX10_clear 3 = .ok (.aload_n 0, 1) := by decide +kernel
theorem dX10_clear_4 : decode cX10_clear 4 = .ok (.getfield 22, 3) := by decide +kernel
theorem dX10_clear_7 : decode cX10_clear 7 = .ok (.if_icmp .ge 46, 3) := by decide +kernel
theorem dX10_clear_10 : decode cX10_clear 10 = .ok (.iconst 0, 1) := by decide +kernel
theorem dX10_clear_11 : decode cX10_clear 11 = .ok (.istore_n 2, 1) := by decide +kernel
theorem dX10_clear_12 : decode cX10_clear 12 = .ok (.iload_n 2, 1) := by decide +kernel
theorem dX10_clear_13 : decode cX10_clear 13 = .ok (.aload_n 0, 1) := by decide +kernel
theorem dX10_clear_14 : decode cX10_clear 14 = .ok (.getfield 26, 3) := by decide +kernel
theorem dX10_clear_17 : decode cX10_clear 17 = .ok (.if_icmp .ge 30, 3) := by decide +kernel
theorem dX10_clear_20 : decode cX10_clear 20 = .ok (.aload_n 0, 1) := by decide +kernel
theorem dX10_clear_21 : decode cX10_clear 21 = .ok (.getfield 31, 3) := by decide +kernel
theorem dX10_clear_24 : decode cX10_clear 24 = .ok (.iload_n 1, 1) := by decide +kernel
theorem dX10_clear_25 : decode cX10_clear 25 = .ok (.aaload, 1) := by decide +kernel
theorem dX10_clear_26 : decode cX10_clear 26 = .ok (.iload_n 2, 1) := by decide +kernel
theorem dX10_clear_27 : decode cX10_clear 27 = .ok (.iaload, 1) := by decide +kernel
theorem dX10_clear_28 : decode cX10_clear 28 = .ok (.iconst 2, 1) := by decide +kernel
theorem dX10_clear_29 : decode cX10_clear 29 = .ok (.if_icmp .eq 12, 3) := by decide +kernel
theorem dX10_clear_32 : decode cX10_clear 32 = .ok (.aload_n 0, 1) := by decide +kernel
theorem dX10_clear_33 : decode cX10_clear 33 = .ok (.getfield 34, 3) := by decide +kernel
theorem dX10_clear_36 : decode cX10_clear 36 = .ok (.iload_n 1, 1) := by decide +kernel
theorem dX10_clear_37 : decode cX10_clear 37 = .ok (.aaload, 1) := by decide +kernel
theorem dX10_clear_38 : decode cX10_clear 38 = .ok (.iload_n 2, 1) := by decide +kernel
theorem dX10_clear_39 : decode cX10_clear 39 = .ok (.iconst (-1), 1) := by decide +kernel
theorem dX10_clear_40 : decode cX10_clear 40 = .ok (.iastore, 1) := by decide +kernel
theorem dX10_clear_41 : decode cX10_clear 41 = .ok (.iinc 2 1, 3) := by decide +kernel
theorem dX10_clear_44 : decode cX10_clear 44 = .ok (.goto (-32), 3) := by decide +kernel
theorem dX10_clear_47 : decode cX10_clear 47 = .ok (.iinc 1 1, 3) := by decide +kernel
theorem dX10_clear_50 : decode cX10_clear 50 = .ok (.goto (-48), 3) := by decide +kernel
theorem dX10_clear_53 : decode cX10_clear 53 = .ok (.return_, 1) := by decide +kernel
theorem dX10_isGood_0 : decode cX10_isGood 0 = .ok (.iconst 1, 1) := by decide +kernel
theorem dX10_isGood_1 : decode cX10_isGood 1 = .ok (.istore_n 1, 1) := by decide +kernel
theorem dX10_isGood_2 : decode cX10_isGood 2 = .ok (.iconst 0, 1) := by decide +kernel
theorem dX10_isGood_3 : decode cX10_isGood 3 = .ok (.istore_n 2, 1) := by decide +kernel
theorem dX10_isGood_4 : decode cX10_isGood 4 = .ok (.iload_n 2, 1) := by decide +kernel
theorem dX10_isGood_5 : decode cX10_isGood 5 = .ok (.aload_n 0, 1) := by decide +kernel
theorem dX10_isGood_6 : decode cX10_isGood 6 = .ok (.getfield 22, 3) := by decide +kernel
theorem dX10_isGood_9 : decode cX10_isGood 9 = .ok (.if_icmp .ge 77, 3) := by decide +kernel
theorem dX10_isGood_12 : decode cX10_isGood 12 = .ok (.iconst 0, 1) := by decide +kernel
theorem dX10_isGood_13 : decode cX10_isGood 13 = .ok (.istore_n 3, 1) := by decide +kernel
theorem dX10_isGood_14 : decode cX10_isGood 14 = .ok (.iload_n 3, 1) := by decide +kernel
theorem dX10_isGood_15 : decode cX10_isGood 15 = .ok (.aload_n 0, 1) := by decide +kernel
theorem dX10_isGood_16 : decode cX10_isGood 16 = .ok (.getfield 26, 3) := by decide +kernel
theorem dX10_isGood_19 : decode cX10_isGood 19 = .ok (.if_icmp .ge 61, 3) := by decide +kernel
theorem dX10_isGood_22 : decode cX10_isGood 22 = .ok (.iload_n 1, 1) := by decide +kernel
theorem dX10_isGood_23 : decode cX10_isGood 23 = .ok (.ifCond .eq 57, 3) := by decide +kernel
theorem dX10_isGood_26 : decode cX10_isGood 26 = .ok (.aload_n 0, 1) := by decide +kernel
theorem dX10_isGood_27 : decode cX10_isGood 27 = .ok (.getfield 31, 3) := by decide +kernel
theorem dX10_isGood_30 : decode cX10_isGood 30 = .ok (.iload_n 2, 1) := by decide +kernel
theorem dX10_isGood_31 : decode cX10_isGood 31 = .ok (.aaload, 1) := by decide +kernel
theorem dX10_isGood_32 : decode cX10_isGood 32 = .ok (.iload_n 3, 1) := by decide +kernel
theorem dX10_isGood_33 : decode cX10_isGood 33 = .ok (.iaload, 1) := by decide +kernel
theorem dX10_isGood_34 : decode cX10_isGood 34 = .ok (.iconst 2, 1) := by decide +kernel
theorem dX10_isGood_35 : decode cX10_isGood 35 = .ok (.if_icmp .ne 33, 3) := by decide +kernel
theorem dX10_isGood_38 : decode cX10_isGood 38 = .ok (.aload_n 0, 1) := by decide +kernel
theorem dX10_isGood_39 : decode cX10_isGood 39 = .ok (.iload_n 2, 1) := by decide +kernel
theorem dX10_isGood_40 : decode cX10_isGood 40 = .ok (.iload_n 3, 1) := by decide +kernel
theorem dX10_isGood_41 : decode cX10_isGood 41 = .ok (.aload_n 0, 1) := by decide +kernel
theorem dX10_isGood_42 : decode cX10_isGood 42 = .ok (.getfield 34, 3) := by decide +kernel
theorem dX10_isGood_45 : decode cX10_isGood 45 = .ok (.iload_n 2, 1) := by decide +kernel
theorem dX10_isGood_46 : decode cX10_isGood 46 = .ok (.aaload, 1) := by decide +kernel
theorem dX10_isGood_47 : decode cX10_isGood 47 = .ok (.iload_n 3, 1) := by decide +kernel
theorem dX10_isGood_48 : decode cX10_isGood 48 = .ok (.iaload, 1) := by decide +kernel
theorem dX10_isGood_49 : decode cX10_isGood 49 = .ok (.iconst 3, 1) := by decide +kernel
theorem dX10_isGood_50 : decode cX10_isGood 50 = .ok (.ishr, 1) := by decide +kernel
theorem dX10_isGood_51 : decode cX10_isGood 51 = .ok (.aload_n 0, 1) := by decide +kernel
theorem dX10_isGood_52 : decode cX10_isGood 52 = .ok (.getfield 34, 3) := by decide +kernel
theorem dX10_isGood_55 : decode cX10_isGood 55 = .ok (.iload_n 2, 1) := by decide +kernel
theorem dX10_isGood_56 : decode cX10_isGood 56 = .ok (.aaload, 1) := by decide +kernel
theorem dX10_isGood_57 : decode cX10_isGood 57 = .ok (.iload_n 3, 1) := by decide +kernel
theorem dX10_isGood_58 : decode cX10_isGood 58 = .ok (.iaload, 1) := by decide +kernel
theorem dX10_isGood_59 : decode cX10_isGood 59 = .ok (.bipush 7, 2) := by decide +kernel
theorem dX10_isGood_61 : decode cX10_isGood 61 = .ok (.iand, 1) := by decide +kernel
theorem dX10_isGood_62 : decode cX10_isGood 62 = .ok (.invokevirtual 79, 3) := by decide +kernel
theorem dX10_isGood_65 : decode cX10_isGood 65 = .ok (.ifCond .eq 7, 3) := by decide +kernel
theorem dX10_isGood_68 : decode cX10_isGood 68 = .ok (.iconst 1, 1) := by decide +kernel
theorem dX10_isGood_69 : decode cX10_isGood 69 = .ok (.goto 4, 3) := by decide +kernel
theorem dX10_isGood_72 : decode cX10_isGood 72 = .ok (.iconst 0, 1) := by decide +kernel
theorem dX10_isGood_73 : decode cX10_isGood 73 = .ok (.istore_n 1, 1) := by decide +kernel
theorem dX10_isGood_74 : decode cX10_isGood 74 = .ok (.iinc 3 1, 3) := by decide +kernel
theorem dX10_isGood_77 : decode cX10_isGood 77 = .ok (.goto (-63), 3) := by decide +kernel
theorem dX10_isGood_80 : decode cX10_isGood 80 = .ok (.iinc 2 1, 3) := by decide +kernel
theorem dX10_isGood_83 : decode cX10_isGood 83 = .ok (.goto (-79), 3) := by decide +kernel
theorem dX10_isGood_86 : decode cX10_isGood 86 = .ok (.iload_n 1, 1) := by decide +kernel
theorem dX10_isGood_87 : decode cX10_isGood 87 = .ok (.ireturn, 1) := by decide +kernel
theorem dX10_fits_0 : decode cX10_fits 0 = .ok (.aload_n 0, 1) := by decide +kernel
theorem dX10_fits_1 : decode cX10_fits 1 = .ok (.getfield 3, 3) := by decide +kernel
theorem dX10_fits_4 : decode cX10_fits 4 = .ok (.getfield 52, 3) := by decide +kernel
theorem dX10_fits_7 : decode cX10_fits 7 = .ok (.iload_n 3, 1) := by decide +kernel
theorem dX10_fits_8 : decode cX10_fits 8 = .ok (.invokevirtual 56, 3) := by decide +kernel
theorem dX10_fits_11 : decode cX10_fits 11 = .ok (.checkcast 62, 3) := by decide +kernel
theorem dX10_fits_14 : decode cX10_fits 14 = .ok (.astore 5, 2) := by decide +kernel
theorem dX10_fits_16 : decode cX10_fits 16 = .ok (.iconst 1, 1) := by decide +kernel
theorem dX10_fits_17 : decode cX10_fits 17 = .ok (.istore 6, 2) := by decide +kernel
theorem dX10_fits_19 : decode cX10_fits 19 = .ok (.iconst 0, 1) := by decide +kernel
theorem dX10_fits_20 : decode cX10_fits 20 = .ok (.istore 7, 2) := by decide +kernel
theorem dX10_fits_22 : decode cX10_fits 22 = .ok (.iload 7, 2) := by decide +kernel
theorem dX10_fits_24 : decode cX10_fits 24 = .ok (.iconst 4, 1) := by decide +kernel
theorem dX10_fits_25 : decode cX10_fits 25 = .ok (.if_icmp .ge 33, 3) := by decide +kernel
theorem dX10_fits_28 : decode cX10_fits 28 = .ok (.iload 6, 2) := by decide +kernel
theorem dX10_fits_30 : decode cX10_fits 30 = .ok (.ifCond .eq 28, 3) := by decide +kernel
theorem dX10_fits_33 : decode cX10_fits 33 = .ok (.aload_n 0, 1) := by decide +kernel
theorem dX10_fits_34 : decode cX10_fits 34 = .ok (.iload_n 1, 1) := by decide +kernel
theorem dX10_fits_35 : decode cX10_fits 35 = .ok (.iload_n 2, 1) := by decide +kernel
theorem dX10_fits_36 : decode cX10_fits 36 = .ok (.iload 7, 2) := by decide +kernel
theorem dX10_fits_38 : decode cX10_fits 38 = .ok (.aload 5, 2) := by decide +kernel
theorem dX10_fits_40 : decode cX10_fits 40 = .ok (.iload 4, 2) := by decide +kernel
theorem dX10_fits_42 : decode cX10_fits 42 = .ok (.iload 7, 2) := by decide +kernel
theorem dX10_fits_44 : decode cX10_fits 44 = .ok (.invokevirtual 64, 3) := by decide +kernel
theorem dX10_fits_47 : decode cX10_fits 47 = .ok (.invokevirtual 68, 3) := by decide +kernel
theorem dX10_fits_50 : decode cX10_fits 50 = .ok (.istore 6, 2) := by decide +kernel
theorem dX10_fits_52 : decode cX10_fits 52 = .ok (.iinc 7 1, 3) := by decide +kernel
theorem dX10_fits_55 : decode cX10_fits 55 = .ok (.goto (-33), 3) := by decide +kernel
theorem dX10_fits_58 : decode cX10_fits 58 = .ok (.iload 6, 2) := by decide +kernel
theorem dX10_fits_60 : decode cX10_fits 60 = .ok (.ireturn, 1) := by decide +kernel
theorem dX10_meets_0 : decode cX10_meets 0 = .ok (.iload_n 1, 1) := by decide +kernel
theorem dX10_meets_1 : decode cX10_meets 1 = .ok (.iload_n 3, 1) := by decide +kernel
theorem dX10_meets_2 : decode cX10_meets 2 = .ok (.ifCond .ne 7, 3) := by decide +kernel
theorem dX10_meets_5 : decode cX10_meets 5 = .ok (.iconst (-1), 1) := by decide +kernel
theorem dX10_meets_6 : decode cX10_meets 6 = .ok (.goto 13, 3) := by decide +kernel
theorem dX10_meets_9 : decode cX10_meets 9 = .ok (.iload_n 3, 1) := by decide +kernel
theorem dX10_meets_10 : decode cX10_meets 10 = .ok (.iconst 2, 1) := by decide +kernel
theorem dX10_meets_11 : decode cX10_meets 11 = .ok (.if_icmp .ne 7, 3) := by decide +kernel
theorem dX10_meets_14 : decode cX10_meets 14 = .ok (.iconst 1, 1) := by decide +kernel
theorem dX10_meets_15 : decode cX10_meets 15 = .ok (.goto 4, 3) := by decide +kernel
theorem dX10_meets_18 : decode cX10_meets 18 = .ok (.iconst 0, 1) := by decide +kernel
theorem dX10_meets_19 : decode cX10_meets 19 = .ok (.iadd, 1) := by decide +kernel
theorem dX10_meets_20 : decode cX10_meets 20 = .ok (.istore 5, 2) := by decide +kernel
theorem dX10_meets_22 : decode cX10_meets 22 = .ok (.iload_n 2, 1) := by decide +kernel
theorem dX10_meets_23 : decode cX10_meets 23 = .ok (.iload_n 3, 1) := by decide +kernel
theorem dX10_meets_24 : decode cX10_meets 24 = .ok (.iconst 1, 1) := by decide +kernel
theorem dX10_meets_25 : decode cX10_meets 25 = .ok (.if_icmp .ne 7, 3) := by decide +kernel
theorem dX10_meets_28 : decode cX10_meets 28 = .ok (.iconst 1, 1) := by decide +kernel
theorem dX10_meets_29 : decode cX10_meets 29 = .ok (.goto 13, 3) := by decide +kernel
theorem dX10_meets_32 : decode cX10_meets 32 = .ok (.iload_n 3, 1) := by decide +kernel
theorem dX10_meets_33 : decode cX10_meets 33 = .ok (.iconst 3, 1) := by decide +kernel
theorem dX10_meets_34 : decode cX10_meets 34 = .ok (.if_icmp .ne 7, 3) := by decide +kernel
theorem dX10_meets_37 : decode cX10_meets 37 = .ok (.iconst (-1), 1) := by decide +kernel
theorem dX10_meets_38 : decode cX10_meets 38 = .ok (.goto 4, 3) := by decide +kernel
theorem dX10_meets_41 : decode cX10_meets 41 = .ok (.iconst 0, 1) := by decide +kernel
theorem dX10_meets_42 : decode cX10_meets 42 = .ok (.iadd, 1) := by decide +kernel
theorem dX10_meets_43 : decode cX10_meets 43 = .ok (.istore 6, 2) := by decide +kernel
theorem dX10_meets_45 : decode cX10_meets 45 = .ok (.aload_n 0, 1) := by decide +kernel
theorem dX10_meets_46 : decode cX10_meets 46 = .ok (.iload 5, 2) := by decide +kernel
theorem dX10_meets_48 : decode cX10_meets 48 = .ok (.iload 6, 2) := by decide +kernel
theorem dX10_meets_50 : decode cX10_meets 50 = .ok (.invokevirtual 48, 3) := by decide +kernel
theorem dX10_meets_53 : decode cX10_meets 53 = .ok (.ifCond .eq 16, 3) := by decide +kernel
theorem dX10_meets_56 : decode cX10_meets 56 = .ok (.aload_n 0, 1) := by decide +kernel
theorem dX10_meets_57 : decode cX10_meets 57 = .ok (.getfield 34, 3) := by decide +kernel
theorem dX10_meets_60 : decode cX10_meets 60 = .ok (.iload 5, 2) := by decide +kernel
theorem dX10_meets_62 : decode cX10_meets 62 = .ok (.aaload, 1) := by decide +kernel
theorem dX10_meets_63 : decode cX10_meets 63 = .ok (.iload 6, 2) := by decide +kernel
theorem dX10_meets_65 : decode cX10_meets 65 = .ok (.iaload, 1) := by decide +kernel
theorem dX10_meets_66 : decode cX10_meets 66 = .ok (.ifCond .ge 5, 3) := by decide +kernel
theorem dX10_meets_69 : decode cX10_meets 69 = .ok (.iconst 1, 1) := by decide +kernel
theorem dX10_meets_70 : decode cX10_meets 70 = .ok (.ireturn, 1) := by decide +kernel
theorem dX10_meets_71 : decode cX10_meets 71 = .ok (.aload_n 0, 1) := by decide +kernel
theorem dX10_meets_72 : decode cX10_meets 72 = .ok (.getfield 3, 3) := by decide +kernel
theorem dX10_meets_75 : decode cX10_meets 75 = .ok (.getfield 52, 3) := by decide +kernel
theorem dX10_meets_78 : decode cX10_meets 78 = .ok (.aload_n 0, 1) := by decide +kernel
theorem dX10_meets_79 : decode cX10_meets 79 = .ok (.getfield 34, 3) := by decide +kernel
theorem dX10_meets_82 : decode cX10_meets 82 = .ok (.iload 5, 2) := by decide +kernel
theorem dX10_meets_84 : decode cX10_meets 84 = .ok (.aaload, 1) := by decide +kernel
theorem dX10_meets_85 : decode cX10_meets 85 = .ok (.iload 6, 2) := by decide +kernel
theorem dX10_meets_87 : decode cX10_meets 87 = .ok (.iaload, 1) := by decide +kernel
theorem dX10_meets_88 : decode cX10_meets 88 = .ok (.iconst 3, 1) := by decide +kernel
theorem dX10_meets_89 : decode cX10_meets 89 = .ok (.ishr, 1) := by decide +kernel
theorem dX10_meets_90 : decode cX10_meets 90 = .ok (.invokevirtual 56, 3) := by decide +kernel
theorem dX10_meets_93 : decode cX10_meets 93 = .ok (.checkcast 62, 3) := by decide +kernel
theorem dX10_meets_96 : decode cX10_meets 96 = .ok (.aload_n 0, 1) := by decide +kernel
theorem dX10_meets_97 : decode cX10_meets 97 = .ok (.getfield 34, 3) := by decide +kernel
theorem dX10_meets_100 : decode cX10_meets 100 = .ok (.iload 5, 2) := by decide +kernel
theorem dX10_meets_102 : decode cX10_meets 102 = .ok (.aaload, 1) := by decide +kernel
theorem dX10_meets_103 : decode cX10_meets 103 = .ok (.iload 6, 2) := by decide +kernel
theorem dX10_meets_105 : decode cX10_meets 105 = .ok (.iaload, 1) := by decide +kernel
theorem dX10_meets_106 : decode cX10_meets 106 = .ok (.bipush 7, 2) := by decide +kernel
theorem dX10_meets_108 : decode cX10_meets 108 = .ok (.iand, 1) := by decide +kernel
theorem dX10_meets_109 : decode cX10_meets 109 = .ok (.iload_n 3, 1) := by decide +kernel
theorem dX10_meets_110 : decode cX10_meets 110 = .ok (.iconst 2, 1) := by decide +kernel
theorem dX10_meets_111 : decode cX10_meets 111 = .ok (.iadd, 1) := by decide +kernel
theorem dX10_meets_112 : decode cX10_meets 112 = .ok (.iconst 3, 1) := by decide +kernel
theorem dX10_meets_113 : decode cX10_meets 113 = .ok (.iand, 1) := by decide +kernel
theorem dX10_meets_114 : decode cX10_meets 114 = .ok (.invokevirtual 64, 3) := by decide +kernel
theorem dX10_meets_117 : decode cX10_meets 117 = .ok (.iload 4, 2) := by decide +kernel
theorem dX10_meets_119 : decode cX10_meets 119 = .ok (.if_icmp .ne 7, 3) := by decide +kernel
theorem dX10_meets_122 : decode cX10_meets 122 = .ok (.iconst 1, 1) := by decide +kernel
theorem dX10_meets_123 : decode cX10_meets 123 = .ok (.goto 4, 3) := by decide +kernel
theorem dX10_meets_126 : decode cX10_meets 126 = .ok (.iconst 0, 1) := by decide +kernel
theorem dX10_meets_127 : decode cX10_meets 127 = .ok (.ireturn, 1) := by decide +kernel
theorem dX10_next_0 : decode cX10_next 0 = .ok (.aload_n 0, 1) := by decide +kernel
theorem dX10_next_1 : decode cX10_next 1 = .ok (.getfield 110, 3) := by decide +kernel
theorem dX10_next_4 : decode cX10_next 4 = .ok (.ifCond .ne 8, 3) := by decide +kernel
theorem dX10_next_7 : decode cX10_next 7 = .ok (.aload_n 0, 1) := by decide +kernel
theorem dX10_next_8 : decode cX10_next 8 = .ok (.invokevirtual 143, 3) := by decide +kernel
theorem dX10_next_11 : decode cX10_next 11 = .ok (.return_, 1) := by decide +kernel
theorem dX10_next_12 : decode cX10_next 12 = .ok (.iconst (-1), 1) := by decide +kernel
theorem dX10_next_13 : decode cX10_next 13 = .ok (.istore_n 1, 1) := by decide +kernel
theorem dX10_next_14 : decode cX10_next 14 = .ok (.iconst (-1), 1) := by decide +kernel
theorem dX10_next_15 : decode cX10_next 15 = .ok (.istore_n 2, 1) := by decide +kernel
theorem dX10_next_16 : decode cX10_next 16 = .ok (.ldc 100, 2) := by decide +kernel
theorem dX10_next_18 : decode cX10_next 18 = .ok (.istore_n 3, 1) := by decide +kernel
theorem dX10_next_19 : decode cX10_next 19 = .ok (.iconst 0, 1) := by decide +kernel
theorem dX10_next_20 : decode cX10_next 20 = .ok (.istore 4, 2) := by decide +kernel
theorem dX10_next_22 : decode cX10_next 22 = .ok (.iload 4, 2) := by decide +kernel
theorem dX10_next_24 : decode cX10_next 24 = .ok (.aload_n 0, 1) := by decide +kernel
theorem dX10_next_25 : decode cX10_next 25 = .ok (.getfield 22, 3) := by decide +kernel
theorem dX10_next_28 : decode cX10_next 28 = .ok (.if_icmp .ge 85, 3) := by decide +kernel
theorem dX10_next_31 : decode cX10_next 31 = .ok (.iconst 0, 1) := by decide +kernel
theorem dX10_next_32 : decode cX10_next 32 = .ok (.istore 5, 2) := by decide +kernel
theorem dX10_next_34 : decode cX10_next 34 = .ok (.iload 5, 2) := by decide +kernel
theorem dX10_next_36 : decode cX10_next 36 = .ok (.aload_n 0, 1) := by decide +kernel
theorem dX10_next_37 : decode cX10_next 37 = .ok (.getfield 26, 3) := by decide +kernel
theorem dX10_next_40 : decode cX10_next 40 = .ok (.if_icmp .ge 67, 3) := by decide +kernel
theorem dX10_next_43 : decode cX10_next 43 = .ok (.aload_n 0, 1) := by decide +kernel
theorem dX10_next_44 : decode cX10_next 44 = .ok (.getfield 31, 3) := by decide +kernel
theorem dX10_next_47 : decode cX10_next 47 = .ok (.iload 4, 2) := by decide +kernel
theorem dX10_next_49 : decode cX10_next 49 = .ok (.aaload, 1) := by decide +kernel
theorem dX10_next_50 : decode cX10_next 50 = .ok (.iload 5, 2) := by decide +kernel
theorem dX10_next_52 : decode cX10_next 52 = .ok (.iaload, 1) := by decide +kernel
theorem dX10_next_53 : decode cX10_next 53 = .ok (.ifCond .ne 48, 3) := by decide +kernel
theorem dX10_next_56 : decode cX10_next 56 = .ok (.aload_n 0, 1) := by decide +kernel
theorem dX10_next_57 : decode cX10_next 57 = .ok (.getfield 34, 3) := by decide +kernel
theorem dX10_next_60 : decode cX10_next 60 = .ok (.iload 4, 2) := by decide +kernel
theorem dX10_next_62 : decode cX10_next 62 = .ok (.aaload, 1) := by decide +kernel
theorem dX10_next_63 : decode cX10_next 63 = .ok (.iload 5, 2) := by decide +kernel
theorem dX10_next_65 : decode cX10_next 65 = .ok (.iaload, 1) := by decide +kernel
theorem dX10_next_66 : decode cX10_next 66 = .ok (.ifCond .lt 6, 3) := by decide +kernel
theorem dX10_next_69 : decode cX10_next 69 = .ok (.goto 32, 3) := by decide +kernel
theorem dX10_next_72 : decode cX10_next 72 = .ok (.aload_n 0, 1) := by decide +kernel
theorem dX10_next_73 : decode cX10_next 73 = .ok (.iload 4, 2) := by decide +kernel
theorem dX10_next_75 : decode cX10_next 75 = .ok (.iload 5, 2) := by decide +kernel
theorem dX10_next_77 : decode cX10_next 77 = .ok (.iload_n 3, 1) := by decide +kernel
theorem dX10_next_78 : decode cX10_next 78 = .ok (.invokevirtual 146, 3) := by decide +kernel
theorem dX10_next_81 : decode cX10_next 81 = .ok (.istore 6, 2) := by decide +kernel
theorem dX10_next_83 : decode cX10_next 83 = .ok (.iload 6, 2) := by decide +kernel
theorem dX10_next_85 : decode cX10_next 85 = .ok (.iload_n 3, 1) := by decide +kernel
theorem dX10_next_86 : decode cX10_next 86 = .ok (.if_icmp .lt 6, 3) := by decide +kernel
theorem dX10_next_89 : decode cX10_next 89 = .ok (.goto 12, 3) := by decide +kernel
theorem dX10_next_92 : decode cX10_next 92 = .ok (.iload 6, 2) := by decide +kernel
theorem dX10_next_94 : decode cX10_next 94 = .ok (.istore_n 3, 1) := by decide +kernel
theorem dX10_next_95 : decode cX10_next 95 = .ok (.iload 4, 2) := by decide +kernel
theorem dX10_next_97 : decode cX10_next 97 = .ok (.istore_n 1, 1) := by decide +kernel
theorem dX10_next_98 : decode cX10_next 98 = .ok (.iload 5, 2) := by decide +kernel
theorem dX10_next_100 : decode cX10_next 100 = .ok (.istore_n 2, 1) := by decide +kernel
theorem dX10_next_101 : decode cX10_next 101 = .ok (.iinc 5 1, 3) := by decide +kernel
theorem dX10_next_104 : decode cX10_next 104 = .ok (.goto (-70), 3) := by decide +kernel
theorem dX10_next_107 : decode cX10_next 107 = .ok (.iinc 4 1, 3) := by decide +kernel
theorem dX10_next_110 : decode cX10_next 110 = .ok (.goto (-88), 3) := by decide +kernel
theorem dX10_next_113 : decode cX10_next 113 = .ok (.iconst 0, 1) := by decide +kernel
theorem dX10_next_114 : decode cX10_next 114 = .ok (.istore 4, 2) := by decide +kernel
theorem dX10_next_116 : decode cX10_next 116 = .ok (.iload 4, 2) := by decide +kernel
theorem dX10_next_118 : decode cX10_next 118 = .ok (.aload_n 0, 1) := by decide +kernel
theorem dX10_next_119 : decode cX10_next 119 = .ok (.getfield 3, 3) := by decide +kernel
theorem dX10_next_122 : decode cX10_next 122 = .ok (.getfield 52, 3) := by decide +kernel
theorem dX10_next_125 : decode cX10_next 125 = .ok (.invokevirtual 72, 3) := by decide +kernel
theorem dX10_next_128 : decode cX10_next 128 = .ok (.if_icmp .ge 94, 3) := by decide +kernel
theorem dX10_next_131 : decode cX10_next 131 = .ok (.iload_n 3, 1) := by decide +kernel
theorem dX10_next_132 : decode cX10_next 132 = .ok (.ifCond .le 90, 3) := by decide +kernel
theorem dX10_next_135 : decode cX10_next 135 = .ok (.iconst 0, 1) := by decide +kernel
theorem dX10_next_136 : decode cX10_next 136 = .ok (.istore 5, 2) := by decide +kernel
theorem dX10_next_138 : decode cX10_next 138 = .ok (.iload 5, 2) := by decide +kernel
theorem dX10_next_140 : decode cX10_next 140 = .ok (.bipush 8, 2) := by decide +kernel
theorem dX10_next_142 : decode cX10_next 142 = .ok (.if_icmp .ge 74, 3) := by decide +kernel
theorem dX10_next_145 : decode cX10_next 145 = .ok (.aload_n 0, 1) := by decide +kernel
theorem dX10_next_146 : decode cX10_next 146 = .ok (.getfield 19, 3) := by decide +kernel
theorem dX10_next_149 : decode cX10_next 149 = .ok (.iload 4, 2) := by decide +kernel
theorem dX10_next_151 : decode cX10_next 151 = .ok (.iaload, 1) := by decide +kernel
theorem dX10_next_152 : decode cX10_next 152 = .ok (.ifCond .le 64, 3) := by decide +kernel
theorem dX10_next_155 : decode cX10_next 155 = .ok (.aload_n 0, 1) := by decide +kernel
theorem dX10_next_156 : decode cX10_next 156 = .ok (.invokevirtual 150, 3) := by decide +kernel
theorem dX10_next_159 : decode cX10_next 159 = .ok (.ifCond .ne 57, 3) := by decide +kernel
theorem dX10_next_162 : decode cX10_next 162 = .ok (.aload_n 0, 1) := by decide +kernel
theorem dX10_next_163 : decode cX10_next 163 = .ok (.getfield 3, 3) := by decide +kernel
theorem dX10_next_166 : decode cX10_next 166 = .ok (.getfield 52, 3) := by decide +kernel
theorem dX10_next_169 : decode cX10_next 169 = .ok (.iload 4, 2) := by decide +kernel
theorem dX10_next_171 : decode cX10_next 171 = .ok (.invokevirtual 56, 3) := by decide +kernel
theorem dX10_next_174 : decode cX10_next 174 = .ok (.checkcast 62, 3) := by decide +kernel
theorem dX10_next_177 : decode cX10_next 177 = .ok (.iload 5, 2) := by decide +kernel
theorem dX10_next_179 : decode cX10_next 179 = .ok (.invokevirtual 76, 3) := by decide +kernel
theorem dX10_next_182 : decode cX10_next 182 = .ok (.iload 5, 2) := by decide +kernel
theorem dX10_next_184 : decode cX10_next 184 = .ok (.if_icmp .ne 26, 3) := by decide +kernel
theorem dX10_next_187 : decode cX10_next 187 = .ok (.aload_n 0, 1) := by decide +kernel
theorem dX10_next_188 : decode cX10_next 188 = .ok (.iload_n 1, 1) := by decide +kernel
theorem dX10_next_189 : decode cX10_next 189 = .ok (.iload_n 2, 1) := by decide +kernel
theorem dX10_next_190 : decode cX10_next 190 = .ok (.iload 4, 2) := by decide +kernel
theorem dX10_next_192 : decode cX10_next 192 = .ok (.iload 5, 2) := by decide +kernel
theorem dX10_next_194 : decode cX10_next 194 = .ok (.invokevirtual 79, 3) := by decide +kernel
theorem dX10_next_197 : decode cX10_next 197 = .ok (.ifCond .eq 13, 3) := by decide +kernel
theorem dX10_next_200 : decode cX10_next 200 = .ok (.aload_n 0, 1) := by decide +kernel
theorem dX10_next_201 : decode cX10_next 201 = .ok (.iload_n 1, 1) := by decide +kernel
theorem dX10_next_202 : decode cX10_next 202 = .ok (.iload_n 2, 1) := by decide +kernel
theorem dX10_next_203 : decode cX10_next 203 = .ok (.iload 4, 2) := by decide +kernel
theorem dX10_next_205 : decode cX10_next 205 = .ok (.iload 5, 2) := by decide +kernel
theorem dX10_next_207 : decode cX10_next 207 = .ok (.invokevirtual 153, 3) := by decide +kernel
theorem dX10_next_210 : decode cX10_next 210 = .ok (.iinc 5 1, 3) := by decide +kernel
theorem dX10_next_213 : decode cX10_next 213 = .ok (.goto (-75), 3) := by decide +kernel
theorem dX10_next_216 : decode cX10_next 216 = .ok (.iinc 4 1, 3) := by decide +kernel
theorem dX10_next_219 : decode cX10_next 219 = .ok (.goto (-103), 3) := by decide +kernel
theorem dX10_next_222 : decode cX10_next 222 = .ok (.return_, 1) := by decide +kernel
theorem dX10_keep_0 : decode cX10_keep 0 = .ok (.aload_n 0, 1) := by decide +kernel
theorem dX10_keep_1 : decode cX10_keep 1 = .ok (.dup, 1) := by decide +kernel
theorem dX10_keep_2 : decode cX10_keep 2 = .ok (.getfield 92, 3) := by decide +kernel
theorem dX10_keep_5 : decode cX10_keep 5 = .ok (.iconst 1, 1) := by decide +kernel
theorem dX10_keep_6 : decode cX10_keep 6 = .ok (.iadd, 1) := by decide +kernel
theorem dX10_keep_7 : decode cX10_keep 7 = .ok (.putfield 92, 3) := by decide +kernel
theorem dX10_keep_10 : decode cX10_keep 10 = .ok (.aload_n 0, 1) := by decide +kernel
theorem dX10_keep_11 : decode cX10_keep 11 = .ok (.aload_n 0, 1) := by decide +kernel
theorem dX10_keep_12 : decode cX10_keep 12 = .ok (.getfield 95, 3) := by decide +kernel
theorem dX10_keep_15 : decode cX10_keep 15 = .ok (.putfield 101, 3) := by decide +kernel
theorem dX10_keep_18 : decode cX10_keep 18 = .ok (.aload_n 0, 1) := by decide +kernel
theorem dX10_keep_19 : decode cX10_keep 19 = .ok (.iconst 1, 1) := by decide +kernel
theorem dX10_keep_20 : decode cX10_keep 20 = .ok (.putfield 85, 3) := by decide +kernel
theorem dX10_keep_23 : decode cX10_keep 23 = .ok (.iconst 0, 1) := by decide +kernel
theorem dX10_keep_24 : decode cX10_keep 24 = .ok (.istore_n 1, 1) := by decide +kernel
theorem dX10_keep_25 : decode cX10_keep 25 = .ok (.iload_n 1, 1) := by decide +kernel
theorem dX10_keep_26 : decode cX10_keep 26 = .ok (.aload_n 0, 1) := by decide +kernel
theorem dX10_keep_27 : decode cX10_keep 27 = .ok (.getfield 22, 3) := by decide +kernel
theorem dX10_keep_30 : decode cX10_keep 30 = .ok (.if_icmp .ge 30, 3) := by decide +kernel
theorem dX10_keep_33 : decode cX10_keep 33 = .ok (.aload_n 0, 1) := by decide +kernel
theorem dX10_keep_34 : decode cX10_keep 34 = .ok (.getfield 34, 3) := by decide +kernel
theorem dX10_keep_37 : decode cX10_keep 37 = .ok (.iload_n 1, 1) := by decide +kernel
theorem dX10_keep_38 : decode cX10_keep 38 = .ok (.aaload, 1) := by decide +kernel
theorem dX10_keep_39 : decode cX10_keep 39 = .ok (.iconst 0, 1) := by decide +kernel
theorem dX10_keep_40 : decode cX10_keep 40 = .ok (.aload_n 0, 1) := by decide +kernel
theorem dX10_keep_41 : decode cX10_keep 41 = .ok (.getfield 37, 3) := by decide +kernel
theorem dX10_keep_44 : decode cX10_keep 44 = .ok (.iload_n 1, 1) := by decide +kernel
theorem dX10_keep_45 : decode cX10_keep 45 = .ok (.aaload, 1) := by decide +kernel
theorem dX10_keep_46 : decode cX10_keep 46 = .ok (.iconst 0, 1) := by decide +kernel
theorem dX10_keep_47 : decode cX10_keep 47 = .ok (.aload_n 0, 1) := by decide +kernel
theorem dX10_keep_48 : decode cX10_keep 48 = .ok (.getfield 26, 3) := by decide +kernel
theorem dX10_keep_51 : decode cX10_keep 51 = .ok (.invokestatic 137, 3) := by decide +kernel
theorem dX10_keep_54 : decode cX10_keep 54 = .ok (.iinc 1 1, 3) := by decide +kernel
theorem dX10_keep_57 : decode cX10_keep 57 = .ok (.goto (-32), 3) := by decide +kernel
theorem dX10_keep_60 : decode cX10_keep 60 = .ok (.return_, 1) := by decide +kernel
theorem dX10_fitting_0 : decode cX10_fitting 0 = .ok (.iconst 0, 1) := by decide +kernel
theorem dX10_fitting_1 : decode cX10_fitting 1 = .ok (.istore 4, 2) := by decide +kernel
theorem dX10_fitting_3 : decode cX10_fitting 3 = .ok (.iconst 0, 1) := by decide +kernel
theorem dX10_fitting_4 : decode cX10_fitting 4 = .ok (.istore 5, 2) := by decide +kernel
theorem dX10_fitting_6 : decode cX10_fitting 6 = .ok (.iload 5, 2) := by decide +kernel
theorem dX10_fitting_8 : decode cX10_fitting 8 = .ok (.aload_n 0, 1) := by decide +kernel
theorem dX10_fitting_9 : decode cX10_fitting 9 = .ok (.getfield 3, 3) := by decide +kernel
theorem dX10_fitting_12 : decode cX10_fitting 12 = .ok (.getfield 52, 3) := by decide +kernel
theorem dX10_fitting_15 : decode cX10_fitting 15 = .ok (.invokevirtual 72, 3) := by decide +kernel
theorem dX10_fitting_18 : decode cX10_fitting 18 = .ok (.if_icmp .ge 85, 3) := by decide +kernel
theorem dX10_fitting_21 : decode cX10_fitting 21 = .ok (.iload 4, 2) := by decide +kernel
theorem dX10_fitting_23 : decode cX10_fitting 23 = .ok (.iload_n 3, 1) := by decide +kernel
theorem dX10_fitting_24 : decode cX10_fitting 24 = .ok (.if_icmp .ge 79, 3) := by decide +kernel
theorem dX10_fitting_27 : decode cX10_fitting 27 = .ok (.aload_n 0, 1) := by decide +kernel
theorem dX10_fitting_28 : decode cX10_fitting 28 = .ok (.getfield 19, 3) := by decide +kernel
theorem dX10_fitting_31 : decode cX10_fitting 31 = .ok (.iload 5, 2) := by decide +kernel
theorem dX10_fitting_33 : decode cX10_fitting 33 = .ok (.iaload, 1) := by decide +kernel
theorem dX10_fitting_34 : decode cX10_fitting 34 = .ok (.ifCond .ne 6, 3) := by decide +kernel
theorem dX10_fitting_37 : decode cX10_fitting 37 = .ok (.goto 60, 3) := by decide +kernel
theorem dX10_fitting_40 : decode cX10_fitting 40 = .ok (.iconst 0, 1) := by decide +kernel
theorem dX10_fitting_41 : decode cX10_fitting 41 = .ok (.istore 6, 2) := by decide +kernel
theorem dX10_fitting_43 : decode cX10_fitting 43 = .ok (.iload 6, 2) := by decide +kernel
theorem dX10_fitting_45 : decode cX10_fitting 45 = .ok (.bipush 8, 2) := by decide +kernel
theorem dX10_fitting_47 : decode cX10_fitting 47 = .ok (.if_icmp .ge 50, 3) := by decide +kernel
theorem dX10_fitting_50 : decode cX10_fitting 50 = .ok (.aload_n 0, 1) := by decide +kernel
theorem dX10_fitting_51 : decode cX10_fitting 51 = .ok (.getfield 3, 3) := by decide +kernel
theorem dX10_fitting_54 : decode cX10_fitting 54 = .ok (.getfield 52, 3) := by decide +kernel
theorem dX10_fitting_57 : decode cX10_fitting 57 = .ok (.iload 5, 2) := by decide +kernel
theorem dX10_fitting_59 : decode cX10_fitting 59 = .ok (.invokevirtual 56, 3) := by decide +kernel
theorem dX10_fitting_62 : decode cX10_fitting 62 = .ok (.checkcast 62, 3) := by decide +kernel
theorem dX10_fitting_65 : decode cX10_fitting 65 = .ok (.iload 6, 2) := by decide +kernel
theorem dX10_fitting_67 : decode cX10_fitting 67 = .ok (.invokevirtual 76, 3) := by decide +kernel
theorem dX10_fitting_70 : decode cX10_fitting 70 = .ok (.iload 6, 2) := by decide +kernel
theorem dX10_fitting_72 : decode cX10_fitting 72 = .ok (.if_icmp .ne 19, 3) := by decide +kernel
theorem dX10_fitting_75 : decode cX10_fitting 75 = .ok (.aload_n 0, 1) := by decide +kernel
theorem dX10_fitting_76 : decode cX10_fitting 76 = .ok (.iload_n 1, 1) := by decide +kernel
theorem dX10_fitting_77 : decode cX10_fitting 77 = .ok (.iload_n 2, 1) := by decide +kernel
theorem dX10_fitting_78 : decode cX10_fitting 78 = .ok (.iload 5, 2) := by decide +kernel
theorem dX10_fitting_80 : decode cX10_fitting 80 = .ok (.iload 6, 2) := by decide +kernel
theorem dX10_fitting_82 : decode cX10_fitting 82 = .ok (.invokevirtual 79, 3) := by decide +kernel
theorem dX10_fitting_85 : decode cX10_fitting 85 = .ok (.ifCond .eq 6, 3) := by decide +kernel
theorem dX10_fitting_88 : decode cX10_fitting 88 = .ok (.iinc 4 1, 3) := by decide +kernel
theorem dX10_fitting_91 : decode cX10_fitting 91 = .ok (.iinc 6 1, 3) := by decide +kernel
theorem dX10_fitting_94 : decode cX10_fitting 94 = .ok (.goto (-51), 3) := by decide +kernel
theorem dX10_fitting_97 : decode cX10_fitting 97 = .ok (.iinc 5 1, 3) := by decide +kernel
theorem dX10_fitting_100 : decode cX10_fitting 100 = .ok (.goto (-94), 3) := by decide +kernel
theorem dX10_fitting_103 : decode cX10_fitting 103 = .ok (.iload 4, 2) := by decide +kernel
theorem dX10_fitting_105 : decode cX10_fitting 105 = .ok (.ireturn, 1) := by decide +kernel
theorem dX10_ends_0 : decode cX10_ends 0 = .ok (.aload_n 0, 1) := by decide +kernel
theorem dX10_ends_1 : decode cX10_ends 1 = .ok (.getfield 104, 3) := by decide +kernel
theorem dX10_ends_4 : decode cX10_ends 4 = .ok (.ifCond .ne 14, 3) := by decide +kernel
theorem dX10_ends_7 : decode cX10_ends 7 = .ok (.aload_n 0, 1) := by decide +kernel
theorem dX10_ends_8 : decode cX10_ends 8 = .ok (.getfield 92, 3) := by decide +kernel
theorem dX10_ends_11 : decode cX10_ends 11 = .ok (.aload_n 0, 1) := by decide +kernel
theorem dX10_ends_12 : decode cX10_ends 12 = .ok (.getfield 124, 3) := by decide +kernel
theorem dX10_ends_15 : decode cX10_ends 15 = .ok (.if_icmp .ne 7, 3) := by decide +kernel
theorem dX10_ends_18 : decode cX10_ends 18 = .ok (.iconst 1, 1) := by decide +kernel
theorem dX10_ends_19 : decode cX10_ends 19 = .ok (.goto 4, 3) := by decide +kernel
theorem dX10_ends_22 : decode cX10_ends 22 = .ok (.iconst 0, 1) := by decide +kernel
theorem dX10_ends_23 : decode cX10_ends 23 = .ok (.ireturn, 1) := by decide +kernel
theorem dX10_tries_0 : decode cX10_tries 0 = .ok (.aload_n 0, 1) := by decide +kernel
theorem dX10_tries_1 : decode cX10_tries 1 = .ok (.getfield 3, 3) := by decide +kernel
theorem dX10_tries_4 : decode cX10_tries 4 = .ok (.getfield 52, 3) := by decide +kernel
theorem dX10_tries_7 : decode cX10_tries 7 = .ok (.iload_n 3, 1) := by decide +kernel
theorem dX10_tries_8 : decode cX10_tries 8 = .ok (.invokevirtual 56, 3) := by decide +kernel
theorem dX10_tries_11 : decode cX10_tries 11 = .ok (.checkcast 62, 3) := by decide +kernel
theorem dX10_tries_14 : decode cX10_tries 14 = .ok (.getfield 113, 3) := by decide +kernel
theorem dX10_tries_17 : decode cX10_tries 17 = .ok (.istore 5, 2) := by decide +kernel
theorem dX10_tries_19 : decode cX10_tries 19 = .ok (.aload_n 0, 1) := by decide +kernel
theorem dX10_tries_20 : decode cX10_tries 20 = .ok (.getfield 127, 3) := by decide +kernel
theorem dX10_tries_23 : decode cX10_tries 23 = .ok (.ifCond .eq 47, 3) := by decide +kernel
theorem dX10_tries_26 : decode cX10_tries 26 = .ok (.aload_n 0, 1) := by decide +kernel
theorem dX10_tries_27 : decode cX10_tries 27 = .ok (.getfield 95, 3) := by decide +kernel
theorem dX10_tries_30 : decode cX10_tries 30 = .ok (.iload 5, 2) := by decide +kernel
theorem dX10_tries_32 : decode cX10_tries 32 = .ok (.iadd, 1) := by decide +kernel
theorem dX10_tries_33 : decode cX10_tries 33 = .ok (.i2l, 1) := by decide +kernel
theorem dX10_tries_34 : decode cX10_tries 34 = .ok (.aload_n 0, 1) := by decide +kernel
theorem dX10_tries_35 : decode cX10_tries 35 = .ok (.getfield 110, 3) := by decide +kernel
theorem dX10_tries_38 : decode cX10_tries 38 = .ok (.iconst 1, 1) := by decide +kernel
theorem dX10_tries_39 : decode cX10_tries 39 = .ok (.if_icmp .le 19, 3) := by decide +kernel
theorem dX10_tries_42 : decode cX10_tries 42 = .ok (.aload_n 0, 1) := by decide +kernel
theorem dX10_tries_43 : decode cX10_tries 43 = .ok (.getfield 110, 3) := by decide +kernel
theorem dX10_tries_46 : decode cX10_tries 46 = .ok (.iconst 1, 1) := by decide +kernel
theorem dX10_tries_47 : decode cX10_tries 47 = .ok (.isub, 1) := by decide +kernel
theorem dX10_tries_48 : decode cX10_tries 48 = .ok (.i2l, 1) := by decide +kernel
theorem dX10_tries_49 : decode cX10_tries 49 = .ok (.aload_n 0, 1) := by decide +kernel
theorem dX10_tries_50 : decode cX10_tries 50 = .ok (.getfield 107, 3) := by decide +kernel
theorem dX10_tries_53 : decode cX10_tries 53 = .ok (.i2l, 1) := by decide +kernel
theorem dX10_tries_54 : decode cX10_tries 54 = .ok (.lmul, 1) := by decide +kernel
theorem dX10_tries_55 : decode cX10_tries 55 = .ok (.goto 4, 3) := by decide +kernel
theorem dX10_tries_58 : decode cX10_tries 58 = .ok (.lconst 0, 1) := by decide +kernel
theorem dX10_tries_59 : decode cX10_tries 59 = .ok (.ladd, 1) := by decide +kernel
theorem dX10_tries_60 : decode cX10_tries 60 = .ok (.aload_n 0, 1) := by decide +kernel
theorem dX10_tries_61 : decode cX10_tries 61 = .ok (.getfield 101, 3) := by decide +kernel
theorem dX10_tries_64 : decode cX10_tries 64 = .ok (.i2l, 1) := by decide +kernel
theorem dX10_tries_65 : decode cX10_tries 65 = .ok (.lcmp, 1) := by decide +kernel
theorem dX10_tries_66 : decode cX10_tries 66 = .ok (.ifCond .lt 4, 3) := by decide +kernel
theorem dX10_tries_69 : decode cX10_tries 69 = .ok (.return_, 1) := by decide +kernel
theorem dX10_tries_70 : decode cX10_tries 70 = .ok (.aload_n 0, 1) := by decide +kernel
theorem dX10_tries_71 : decode cX10_tries 71 = .ok (.getfield 89, 3) := by decide +kernel
theorem dX10_tries_74 : decode cX10_tries 74 = .ok (.sipush 30000, 3) := by decide +kernel
theorem dX10_tries_77 : decode cX10_tries 77 = .ok (.if_icmp .eq 15, 3) := by decide +kernel
theorem dX10_tries_80 : decode cX10_tries 80 = .ok (.aload_n 0, 1) := by decide +kernel
theorem dX10_tries_81 : decode cX10_tries 81 = .ok (.getfield 3, 3) := by decide +kernel
theorem dX10_tries_84 : decode cX10_tries 84 = .ok (.getfield 157, 3) := by decide +kernel
theorem dX10_tries_87 : decode cX10_tries 87 = .ok (.ldc 160, 2) := by decide +kernel
theorem dX10_tries_89 : decode cX10_tries 89 = .ok (.if_icmp .ne 9, 3) := by decide +kernel
theorem dX10_tries_92 : decode cX10_tries 92 = .ok (.aload_n 0, 1) := by decide +kernel
theorem dX10_tries_93 : decode cX10_tries 93 = .ok (.iconst 1, 1) := by decide +kernel
theorem dX10_tries_94 : decode cX10_tries 94 = .ok (.putfield 104, 3) := by decide +kernel
theorem dX10_tries_97 : decode cX10_tries 97 = .ok (.return_, 1) := by decide +kernel
theorem dX10_tries_98 : decode cX10_tries 98 = .ok (.aload_n 0, 1) := by decide +kernel
theorem dX10_tries_99 : decode cX10_tries 99 = .ok (.dup, 1) := by decide +kernel
theorem dX10_tries_100 : decode cX10_tries 100 = .ok (.getfield 89, 3) := by decide +kernel
theorem dX10_tries_103 : decode cX10_tries 103 = .ok (.iconst 1, 1) := by decide +kernel
theorem dX10_tries_104 : decode cX10_tries 104 = .ok (.iadd, 1) := by decide +kernel
theorem dX10_tries_105 : decode cX10_tries 105 = .ok (.putfield 89, 3) := by decide +kernel
theorem dX10_tries_108 : decode cX10_tries 108 = .ok (.aload_n 0, 1) := by decide +kernel
theorem dX10_tries_109 : decode cX10_tries 109 = .ok (.getfield 3, 3) := by decide +kernel
theorem dX10_tries_112 : decode cX10_tries 112 = .ok (.dup, 1) := by decide +kernel
theorem dX10_tries_113 : decode cX10_tries 113 = .ok (.getfield 157, 3) := by decide +kernel
theorem dX10_tries_116 : decode cX10_tries 116 = .ok (.iconst 1, 1) := by decide +kernel
theorem dX10_tries_117 : decode cX10_tries 117 = .ok (.iadd, 1) := by decide +kernel
theorem dX10_tries_118 : decode cX10_tries 118 = .ok (.putfield 157, 3) := by decide +kernel
theorem dX10_tries_121 : decode cX10_tries 121 = .ok (.aload_n 0, 1) := by decide +kernel
theorem dX10_tries_122 : decode cX10_tries 122 = .ok (.getfield 34, 3) := by decide +kernel
theorem dX10_tries_125 : decode cX10_tries 125 = .ok (.iload_n 1, 1) := by decide +kernel
theorem dX10_tries_126 : decode cX10_tries 126 = .ok (.aaload, 1) := by decide +kernel
theorem dX10_tries_127 : decode cX10_tries 127 = .ok (.iload_n 2, 1) := by decide +kernel
theorem dX10_tries_128 : decode cX10_tries 128 = .ok (.bipush 8, 2) := by decide +kernel
theorem dX10_tries_130 : decode cX10_tries 130 = .ok (.iload_n 3, 1) := by decide +kernel
theorem dX10_tries_131 : decode cX10_tries 131 = .ok (.imul, 1) := by decide +kernel
theorem dX10_tries_132 : decode cX10_tries 132 = .ok (.iload 4, 2) := by decide +kernel
theorem dX10_tries_134 : decode cX10_tries 134 = .ok (.iadd, 1) := by decide +kernel
theorem dX10_tries_135 : decode cX10_tries 135 = .ok (.iastore, 1) := by decide +kernel
theorem dX10_tries_136 : decode cX10_tries 136 = .ok (.aload_n 0, 1) := by decide +kernel
theorem dX10_tries_137 : decode cX10_tries 137 = .ok (.getfield 19, 3) := by decide +kernel
theorem dX10_tries_140 : decode cX10_tries 140 = .ok (.iload_n 3, 1) := by decide +kernel
theorem dX10_tries_141 : decode cX10_tries 141 = .ok (.dup2, 1) := by decide +kernel
theorem dX10_tries_142 : decode cX10_tries 142 = .ok (.iaload, 1) := by decide +kernel
theorem dX10_tries_143 : decode cX10_tries 143 = .ok (.iconst 1, 1) := by decide +kernel
theorem dX10_tries_144 : decode cX10_tries 144 = .ok (.isub, 1) := by decide +kernel
theorem dX10_tries_145 : decode cX10_tries 145 = .ok (.iastore, 1) := by decide +kernel
theorem dX10_tries_146 : decode cX10_tries 146 = .ok (.aload_n 0, 1) := by decide +kernel
theorem dX10_tries_147 : decode cX10_tries 147 = .ok (.dup, 1) := by decide +kernel
theorem dX10_tries_148 : decode cX10_tries 148 = .ok (.getfield 95, 3) := by decide +kernel
theorem dX10_tries_151 : decode cX10_tries 151 = .ok (.iload 5, 2) := by decide +kernel
theorem dX10_tries_153 : decode cX10_tries 153 = .ok (.iadd, 1) := by decide +kernel
theorem dX10_tries_154 : decode cX10_tries 154 = .ok (.putfield 95, 3) := by decide +kernel
theorem dX10_tries_157 : decode cX10_tries 157 = .ok (.aload_n 0, 1) := by decide +kernel
theorem dX10_tries_158 : decode cX10_tries 158 = .ok (.dup, 1) := by decide +kernel
theorem dX10_tries_159 : decode cX10_tries 159 = .ok (.getfield 110, 3) := by decide +kernel
theorem dX10_tries_162 : decode cX10_tries 162 = .ok (.iconst 1, 1) := by decide +kernel
theorem dX10_tries_163 : decode cX10_tries 163 = .ok (.isub, 1) := by decide +kernel
theorem dX10_tries_164 : decode cX10_tries 164 = .ok (.putfield 110, 3) := by decide +kernel
theorem dX10_tries_167 : decode cX10_tries 167 = .ok (.aload_n 0, 1) := by decide +kernel
theorem dX10_tries_168 : decode cX10_tries 168 = .ok (.invokevirtual 134, 3) := by decide +kernel
theorem dX10_tries_171 : decode cX10_tries 171 = .ok (.aload_n 0, 1) := by decide +kernel
theorem dX10_tries_172 : decode cX10_tries 172 = .ok (.dup, 1) := by decide +kernel
theorem dX10_tries_173 : decode cX10_tries 173 = .ok (.getfield 110, 3) := by decide +kernel
theorem dX10_tries_176 : decode cX10_tries 176 = .ok (.iconst 1, 1) := by decide +kernel
theorem dX10_tries_177 : decode cX10_tries 177 = .ok (.iadd, 1) := by decide +kernel
theorem dX10_tries_178 : decode cX10_tries 178 = .ok (.putfield 110, 3) := by decide +kernel
theorem dX10_tries_181 : decode cX10_tries 181 = .ok (.aload_n 0, 1) := by decide +kernel
theorem dX10_tries_182 : decode cX10_tries 182 = .ok (.dup, 1) := by decide +kernel
theorem dX10_tries_183 : decode cX10_tries 183 = .ok (.getfield 95, 3) := by decide +kernel
theorem dX10_tries_186 : decode cX10_tries 186 = .ok (.iload 5, 2) := by decide +kernel
theorem dX10_tries_188 : decode cX10_tries 188 = .ok (.isub, 1) := by decide +kernel
theorem dX10_tries_189 : decode cX10_tries 189 = .ok (.putfield 95, 3) := by decide +kernel
theorem dX10_tries_192 : decode cX10_tries 192 = .ok (.aload_n 0, 1) := by decide +kernel
theorem dX10_tries_193 : decode cX10_tries 193 = .ok (.getfield 19, 3) := by decide +kernel
theorem dX10_tries_196 : decode cX10_tries 196 = .ok (.iload_n 3, 1) := by decide +kernel
theorem dX10_tries_197 : decode cX10_tries 197 = .ok (.dup2, 1) := by decide +kernel
theorem dX10_tries_198 : decode cX10_tries 198 = .ok (.iaload, 1) := by decide +kernel
theorem dX10_tries_199 : decode cX10_tries 199 = .ok (.iconst 1, 1) := by decide +kernel
theorem dX10_tries_200 : decode cX10_tries 200 = .ok (.iadd, 1) := by decide +kernel
theorem dX10_tries_201 : decode cX10_tries 201 = .ok (.iastore, 1) := by decide +kernel
theorem dX10_tries_202 : decode cX10_tries 202 = .ok (.aload_n 0, 1) := by decide +kernel
theorem dX10_tries_203 : decode cX10_tries 203 = .ok (.getfield 34, 3) := by decide +kernel
theorem dX10_tries_206 : decode cX10_tries 206 = .ok (.iload_n 1, 1) := by decide +kernel
theorem dX10_tries_207 : decode cX10_tries 207 = .ok (.aaload, 1) := by decide +kernel
theorem dX10_tries_208 : decode cX10_tries 208 = .ok (.iload_n 2, 1) := by decide +kernel
theorem dX10_tries_209 : decode cX10_tries 209 = .ok (.iconst (-1), 1) := by decide +kernel
theorem dX10_tries_210 : decode cX10_tries 210 = .ok (.iastore, 1) := by decide +kernel
theorem dX10_tries_211 : decode cX10_tries 211 = .ok (.return_, 1) := by decide +kernel
theorem dX10_fills_0 : decode cX10_fills 0 = .ok (.aload_n 0, 1) := by decide +kernel
theorem dX10_fills_1 : decode cX10_fills 1 = .ok (.iload_n 1, 1) := by decide +kernel
theorem dX10_fills_2 : decode cX10_fills 2 = .ok (.iconst 0, 1) := by decide +kernel
theorem dX10_fills_3 : decode cX10_fills 3 = .ok (.invokevirtual 161, 3) := by decide +kernel
theorem dX10_fills_6 : decode cX10_fills 6 = .ok (.aload_n 0, 1) := by decide +kernel
theorem dX10_fills_7 : decode cX10_fills 7 = .ok (.getfield 104, 3) := by decide +kernel
theorem dX10_fills_10 : decode cX10_fills 10 = .ok (.ifCond .eq 8, 3) := by decide +kernel
theorem dX10_fills_13 : decode cX10_fills 13 = .ok (.bipush (-2), 2) := by decide +kernel
theorem dX10_fills_15 : decode cX10_fills 15 = .ok (.goto 7, 3) := by decide +kernel
theorem dX10_fills_18 : decode cX10_fills 18 = .ok (.aload_n 0, 1) := by decide +kernel
theorem dX10_fills_19 : decode cX10_fills 19 = .ok (.getfield 92, 3) := by decide +kernel
theorem dX10_fills_22 : decode cX10_fills 22 = .ok (.ireturn, 1) := by decide +kernel
theorem dX10_cost_0 : decode cX10_cost 0 = .ok (.aload_n 0, 1) := by decide +kernel
theorem dX10_cost_1 : decode cX10_cost 1 = .ok (.ldc 100, 2) := by decide +kernel
theorem dX10_cost_3 : decode cX10_cost 3 = .ok (.iconst 1, 1) := by decide +kernel
theorem dX10_cost_4 : decode cX10_cost 4 = .ok (.invokevirtual 161, 3) := by decide +kernel
theorem dX10_cost_7 : decode cX10_cost 7 = .ok (.aload_n 0, 1) := by decide +kernel
theorem dX10_cost_8 : decode cX10_cost 8 = .ok (.getfield 104, 3) := by decide +kernel
theorem dX10_cost_11 : decode cX10_cost 11 = .ok (.ifCond .eq 8, 3) := by decide +kernel
theorem dX10_cost_14 : decode cX10_cost 14 = .ok (.bipush (-3), 2) := by decide +kernel
theorem dX10_cost_16 : decode cX10_cost 16 = .ok (.goto 19, 3) := by decide +kernel
theorem dX10_cost_19 : decode cX10_cost 19 = .ok (.aload_n 0, 1) := by decide +kernel
theorem dX10_cost_20 : decode cX10_cost 20 = .ok (.getfield 92, 3) := by decide +kernel
theorem dX10_cost_23 : decode cX10_cost 23 = .ok (.ifCond .le 10, 3) := by decide +kernel
theorem dX10_cost_26 : decode cX10_cost 26 = .ok (.aload_n 0, 1) := by decide +kernel
theorem dX10_cost_27 : decode cX10_cost 27 = .ok (.getfield 101, 3) := by decide +kernel
theorem dX10_cost_30 : decode cX10_cost 30 = .ok (.goto 5, 3) := by decide +kernel
theorem dX10_cost_33 : decode cX10_cost 33 = .ok (.bipush (-2), 2) := by decide +kernel
theorem dX10_cost_35 : decode cX10_cost 35 = .ok (.ireturn, 1) := by decide +kernel
theorem dX10_forced_0 : decode cX10_forced 0 = .ok (.aload_n 0, 1) := by decide +kernel
theorem dX10_forced_1 : decode cX10_forced 1 = .ok (.invokevirtual 121, 3) := by decide +kernel
theorem dX10_forced_4 : decode cX10_forced 4 = .ok (.iconst 0, 1) := by decide +kernel
theorem dX10_forced_5 : decode cX10_forced 5 = .ok (.istore_n 1, 1) := by decide +kernel
theorem dX10_forced_6 : decode cX10_forced 6 = .ok (.iconst (-1), 1) := by decide +kernel
theorem dX10_forced_7 : decode cX10_forced 7 = .ok (.istore_n 2, 1) := by decide +kernel
theorem dX10_forced_8 : decode cX10_forced 8 = .ok (.iload_n 1, 1) := by decide +kernel
theorem dX10_forced_9 : decode cX10_forced 9 = .ok (.iload_n 2, 1) := by decide +kernel
theorem dX10_forced_10 : decode cX10_forced 10 = .ok (.if_icmp .le 15, 3) := by decide +kernel
theorem dX10_forced_13 : decode cX10_forced 13 = .ok (.iload_n 1, 1) := by decide +kernel
theorem dX10_forced_14 : decode cX10_forced 14 = .ok (.istore_n 2, 1) := by decide +kernel
theorem dX10_forced_15 : decode cX10_forced 15 = .ok (.iload_n 1, 1) := by decide +kernel
theorem dX10_forced_16 : decode cX10_forced 16 = .ok (.aload_n 0, 1) := by decide +kernel
theorem dX10_forced_17 : decode cX10_forced 17 = .ok (.invokevirtual 165, 3) := by decide +kernel
theorem dX10_forced_20 : decode cX10_forced 20 = .ok (.iadd, 1) := by decide +kernel
theorem dX10_forced_21 : decode cX10_forced 21 = .ok (.istore_n 1, 1) := by decide +kernel
theorem dX10_forced_22 : decode cX10_forced 22 = .ok (.goto (-14), 3) := by decide +kernel
theorem dX10_forced_25 : decode cX10_forced 25 = .ok (.iload_n 1, 1) := by decide +kernel
theorem dX10_forced_26 : decode cX10_forced 26 = .ok (.ireturn, 1) := by decide +kernel
theorem dX10_round_0 : decode cX10_round 0 = .ok (.iconst 0, 1) := by decide +kernel
theorem dX10_round_1 : decode cX10_round 1 = .ok (.istore_n 1, 1) := by decide +kernel
theorem dX10_round_2 : decode cX10_round 2 = .ok (.iload_n 1, 1) := by decide +kernel
theorem dX10_round_3 : decode cX10_round 3 = .ok (.aload_n 0, 1) := by decide +kernel
theorem dX10_round_4 : decode cX10_round 4 = .ok (.getfield 22, 3) := by decide +kernel
theorem dX10_round_7 : decode cX10_round 7 = .ok (.if_icmp .ge 71, 3) := by decide +kernel
theorem dX10_round_10 : decode cX10_round 10 = .ok (.iconst 0, 1) := by decide +kernel
theorem dX10_round_11 : decode cX10_round 11 = .ok (.istore_n 2, 1) := by decide +kernel
theorem dX10_round_12 : decode cX10_round 12 = .ok (.iload_n 2, 1) := by decide +kernel
theorem dX10_round_13 : decode cX10_round 13 = .ok (.aload_n 0, 1) := by decide +kernel
theorem dX10_round_14 : decode cX10_round 14 = .ok (.getfield 26, 3) := by decide +kernel
theorem dX10_round_17 : decode cX10_round 17 = .ok (.if_icmp .ge 55, 3) := by decide +kernel
theorem dX10_round_20 : decode cX10_round 20 = .ok (.aload_n 0, 1) := by decide +kernel
theorem dX10_round_21 : decode cX10_round 21 = .ok (.getfield 45, 3) := by decide +kernel
theorem dX10_round_24 : decode cX10_round 24 = .ok (.iload_n 1, 1) := by decide +kernel
theorem dX10_round_25 : decode cX10_round 25 = .ok (.aaload, 1) := by decide +kernel
theorem dX10_round_26 : decode cX10_round 26 = .ok (.iload_n 2, 1) := by decide +kernel
theorem dX10_round_27 : decode cX10_round 27 = .ok (.aload_n 0, 1) := by decide +kernel
theorem dX10_round_28 : decode cX10_round 28 = .ok (.getfield 31, 3) := by decide +kernel
theorem dX10_round_31 : decode cX10_round 31 = .ok (.iload_n 1, 1) := by decide +kernel
theorem dX10_round_32 : decode cX10_round 32 = .ok (.aaload, 1) := by decide +kernel
theorem dX10_round_33 : decode cX10_round 33 = .ok (.iload_n 2, 1) := by decide +kernel
theorem dX10_round_34 : decode cX10_round 34 = .ok (.iaload, 1) := by decide +kernel
theorem dX10_round_35 : decode cX10_round 35 = .ok (.ifCond .ne 29, 3) := by decide +kernel
theorem dX10_round_38 : decode cX10_round 38 = .ok (.aload_n 0, 1) := by decide +kernel
theorem dX10_round_39 : decode cX10_round 39 = .ok (.getfield 34, 3) := by decide +kernel
theorem dX10_round_42 : decode cX10_round 42 = .ok (.iload_n 1, 1) := by decide +kernel
theorem dX10_round_43 : decode cX10_round 43 = .ok (.aaload, 1) := by decide +kernel
theorem dX10_round_44 : decode cX10_round 44 = .ok (.iload_n 2, 1) := by decide +kernel
theorem dX10_round_45 : decode cX10_round 45 = .ok (.iaload, 1) := by decide +kernel
theorem dX10_round_46 : decode cX10_round 46 = .ok (.ifCond .ge 18, 3) := by decide +kernel
theorem dX10_round_49 : decode cX10_round 49 = .ok (.aload_n 0, 1) := by decide +kernel
theorem dX10_round_50 : decode cX10_round 50 = .ok (.iload_n 1, 1) := by decide +kernel
theorem dX10_round_51 : decode cX10_round 51 = .ok (.iload_n 2, 1) := by decide +kernel
theorem dX10_round_52 : decode cX10_round 52 = .ok (.iconst 2, 1) := by decide +kernel
theorem dX10_round_53 : decode cX10_round 53 = .ok (.invokevirtual 146, 3) := by decide +kernel
theorem dX10_round_56 : decode cX10_round 56 = .ok (.iconst 1, 1) := by decide +kernel
theorem dX10_round_57 : decode cX10_round 57 = .ok (.if_icmp .ne 7, 3) := by decide +kernel
theorem dX10_round_60 : decode cX10_round 60 = .ok (.iconst 1, 1) := by decide +kernel
theorem dX10_round_61 : decode cX10_round 61 = .ok (.goto 4, 3) := by decide +kernel
theorem dX10_round_64 : decode cX10_round 64 = .ok (.iconst 0, 1) := by decide +kernel
theorem dX10_round_65 : decode cX10_round 65 = .ok (.bastore, 1) := by decide +kernel
theorem dX10_round_66 : decode cX10_round 66 = .ok (.iinc 2 1, 3) := by decide +kernel
theorem dX10_round_69 : decode cX10_round 69 = .ok (.goto (-57), 3) := by decide +kernel
theorem dX10_round_72 : decode cX10_round 72 = .ok (.iinc 1 1, 3) := by decide +kernel
theorem dX10_round_75 : decode cX10_round 75 = .ok (.goto (-73), 3) := by decide +kernel
theorem dX10_round_78 : decode cX10_round 78 = .ok (.iconst 0, 1) := by decide +kernel
theorem dX10_round_79 : decode cX10_round 79 = .ok (.istore_n 1, 1) := by decide +kernel
theorem dX10_round_80 : decode cX10_round 80 = .ok (.iload_n 1, 1) := by decide +kernel
theorem dX10_round_81 : decode cX10_round 81 = .ok (.aload_n 0, 1) := by decide +kernel
theorem dX10_round_82 : decode cX10_round 82 = .ok (.getfield 22, 3) := by decide +kernel
theorem dX10_round_85 : decode cX10_round 85 = .ok (.if_icmp .ge 50, 3) := by decide +kernel
theorem dX10_round_88 : decode cX10_round 88 = .ok (.iconst 0, 1) := by decide +kernel
theorem dX10_round_89 : decode cX10_round 89 = .ok (.istore_n 2, 1) := by decide +kernel
theorem dX10_round_90 : decode cX10_round 90 = .ok (.iload_n 2, 1) := by decide +kernel
theorem dX10_round_91 : decode cX10_round 91 = .ok (.aload_n 0, 1) := by decide +kernel
theorem dX10_round_92 : decode cX10_round 92 = .ok (.getfield 26, 3) := by decide +kernel
theorem dX10_round_95 : decode cX10_round 95 = .ok (.if_icmp .ge 34, 3) := by decide +kernel
theorem dX10_round_98 : decode cX10_round 98 = .ok (.aload_n 0, 1) := by decide +kernel
theorem dX10_round_99 : decode cX10_round 99 = .ok (.getfield 45, 3) := by decide +kernel
theorem dX10_round_102 : decode cX10_round 102 = .ok (.iload_n 1, 1) := by decide +kernel
theorem dX10_round_103 : decode cX10_round 103 = .ok (.aaload, 1) := by decide +kernel
theorem dX10_round_104 : decode cX10_round 104 = .ok (.iload_n 2, 1) := by decide +kernel
theorem dX10_round_105 : decode cX10_round 105 = .ok (.baload, 1) := by decide +kernel
theorem dX10_round_106 : decode cX10_round 106 = .ok (.ifCond .eq 17, 3) := by decide +kernel
theorem dX10_round_109 : decode cX10_round 109 = .ok (.aload_n 0, 1) := by decide +kernel
theorem dX10_round_110 : decode cX10_round 110 = .ok (.getfield 40, 3) := by decide +kernel
theorem dX10_round_113 : decode cX10_round 113 = .ok (.iload_n 1, 1) := by decide +kernel
theorem dX10_round_114 : decode cX10_round 114 = .ok (.aaload, 1) := by decide +kernel
theorem dX10_round_115 : decode cX10_round 115 = .ok (.iload_n 2, 1) := by decide +kernel
theorem dX10_round_116 : decode cX10_round 116 = .ok (.aload_n 0, 1) := by decide +kernel
theorem dX10_round_117 : decode cX10_round 117 = .ok (.iload_n 1, 1) := by decide +kernel
theorem dX10_round_118 : decode cX10_round 118 = .ok (.iload_n 2, 1) := by decide +kernel
theorem dX10_round_119 : decode cX10_round 119 = .ok (.invokevirtual 168, 3) := by decide +kernel
theorem dX10_round_122 : decode cX10_round 122 = .ok (.iastore, 1) := by decide +kernel
theorem dX10_round_123 : decode cX10_round 123 = .ok (.iinc 2 1, 3) := by decide +kernel
theorem dX10_round_126 : decode cX10_round 126 = .ok (.goto (-36), 3) := by decide +kernel
theorem dX10_round_129 : decode cX10_round 129 = .ok (.iinc 1 1, 3) := by decide +kernel
theorem dX10_round_132 : decode cX10_round 132 = .ok (.goto (-52), 3) := by decide +kernel
theorem dX10_round_135 : decode cX10_round 135 = .ok (.iconst 0, 1) := by decide +kernel
theorem dX10_round_136 : decode cX10_round 136 = .ok (.istore_n 1, 1) := by decide +kernel
theorem dX10_round_137 : decode cX10_round 137 = .ok (.iconst 0, 1) := by decide +kernel
theorem dX10_round_138 : decode cX10_round 138 = .ok (.istore_n 2, 1) := by decide +kernel
theorem dX10_round_139 : decode cX10_round 139 = .ok (.iload_n 2, 1) := by decide +kernel
theorem dX10_round_140 : decode cX10_round 140 = .ok (.aload_n 0, 1) := by decide +kernel
theorem dX10_round_141 : decode cX10_round 141 = .ok (.getfield 22, 3) := by decide +kernel
theorem dX10_round_144 : decode cX10_round 144 = .ok (.if_icmp .ge 113, 3) := by decide +kernel
theorem dX10_round_147 : decode cX10_round 147 = .ok (.iconst 0, 1) := by decide +kernel
theorem dX10_round_148 : decode cX10_round 148 = .ok (.istore_n 3, 1) := by decide +kernel
theorem dX10_round_149 : decode cX10_round 149 = .ok (.iload_n 3, 1) := by decide +kernel
theorem dX10_round_150 : decode cX10_round 150 = .ok (.aload_n 0, 1) := by decide +kernel
theorem dX10_round_151 : decode cX10_round 151 = .ok (.getfield 26, 3) := by decide +kernel
theorem dX10_round_154 : decode cX10_round 154 = .ok (.if_icmp .ge 97, 3) := by decide +kernel
theorem dX10_round_157 : decode cX10_round 157 = .ok (.aload_n 0, 1) := by decide +kernel
theorem dX10_round_158 : decode cX10_round 158 = .ok (.getfield 40, 3) := by decide +kernel
theorem dX10_round_161 : decode cX10_round 161 = .ok (.iload_n 2, 1) := by decide +kernel
theorem dX10_round_162 : decode cX10_round 162 = .ok (.aaload, 1) := by decide +kernel
theorem dX10_round_163 : decode cX10_round 163 = .ok (.iload_n 3, 1) := by decide +kernel
theorem dX10_round_164 : decode cX10_round 164 = .ok (.iaload, 1) := by decide +kernel
theorem dX10_round_165 : decode cX10_round 165 = .ok (.iconst 3, 1) := by decide +kernel
theorem dX10_round_166 : decode cX10_round 166 = .ok (.ishr, 1) := by decide +kernel
theorem dX10_round_167 : decode cX10_round 167 = .ok (.istore 4, 2) := by decide +kernel
theorem dX10_round_169 : decode cX10_round 169 = .ok (.aload_n 0, 1) := by decide +kernel
theorem dX10_round_170 : decode cX10_round 170 = .ok (.getfield 45, 3) := by decide +kernel
theorem dX10_round_173 : decode cX10_round 173 = .ok (.iload_n 2, 1) := by decide +kernel
theorem dX10_round_174 : decode cX10_round 174 = .ok (.aaload, 1) := by decide +kernel
theorem dX10_round_175 : decode cX10_round 175 = .ok (.iload_n 3, 1) := by decide +kernel
theorem dX10_round_176 : decode cX10_round 176 = .ok (.baload, 1) := by decide +kernel
theorem dX10_round_177 : decode cX10_round 177 = .ok (.ifCond .eq 68, 3) := by decide +kernel
theorem dX10_round_180 : decode cX10_round 180 = .ok (.aload_n 0, 1) := by decide +kernel
theorem dX10_round_181 : decode cX10_round 181 = .ok (.getfield 19, 3) := by decide +kernel
theorem dX10_round_184 : decode cX10_round 184 = .ok (.iload 4, 2) := by decide +kernel
theorem dX10_round_186 : decode cX10_round 186 = .ok (.iaload, 1) := by decide +kernel
theorem dX10_round_187 : decode cX10_round 187 = .ok (.ifCond .eq 58, 3) := by decide +kernel
theorem dX10_round_190 : decode cX10_round 190 = .ok (.aload_n 0, 1) := by decide +kernel
theorem dX10_round_191 : decode cX10_round 191 = .ok (.iload_n 2, 1) := by decide +kernel
theorem dX10_round_192 : decode cX10_round 192 = .ok (.iload_n 3, 1) := by decide +kernel
theorem dX10_round_193 : decode cX10_round 193 = .ok (.iload 4, 2) := by decide +kernel
theorem dX10_round_195 : decode cX10_round 195 = .ok (.aload_n 0, 1) := by decide +kernel
theorem dX10_round_196 : decode cX10_round 196 = .ok (.getfield 40, 3) := by decide +kernel
theorem dX10_round_199 : decode cX10_round 199 = .ok (.iload_n 2, 1) := by decide +kernel
theorem dX10_round_200 : decode cX10_round 200 = .ok (.aaload, 1) := by decide +kernel
theorem dX10_round_201 : decode cX10_round 201 = .ok (.iload_n 3, 1) := by decide +kernel
theorem dX10_round_202 : decode cX10_round 202 = .ok (.iaload, 1) := by decide +kernel
theorem dX10_round_203 : decode cX10_round 203 = .ok (.bipush 7, 2) := by decide +kernel
theorem dX10_round_205 : decode cX10_round 205 = .ok (.iand, 1) := by decide +kernel
theorem dX10_round_206 : decode cX10_round 206 = .ok (.invokevirtual 79, 3) := by decide +kernel
theorem dX10_round_209 : decode cX10_round 209 = .ok (.ifCond .ne 6, 3) := by decide +kernel
theorem dX10_round_212 : decode cX10_round 212 = .ok (.goto 33, 3) := by decide +kernel
theorem dX10_round_215 : decode cX10_round 215 = .ok (.aload_n 0, 1) := by decide +kernel
theorem dX10_round_216 : decode cX10_round 216 = .ok (.getfield 34, 3) := by decide +kernel
theorem dX10_round_219 : decode cX10_round 219 = .ok (.iload_n 2, 1) := by decide +kernel
theorem dX10_round_220 : decode cX10_round 220 = .ok (.aaload, 1) := by decide +kernel
theorem dX10_round_221 : decode cX10_round 221 = .ok (.iload_n 3, 1) := by decide +kernel
theorem dX10_round_222 : decode cX10_round 222 = .ok (.aload_n 0, 1) := by decide +kernel
theorem dX10_round_223 : decode cX10_round 223 = .ok (.getfield 40, 3) := by decide +kernel
theorem dX10_round_226 : decode cX10_round 226 = .ok (.iload_n 2, 1) := by decide +kernel
theorem dX10_round_227 : decode cX10_round 227 = .ok (.aaload, 1) := by decide +kernel
theorem dX10_round_228 : decode cX10_round 228 = .ok (.iload_n 3, 1) := by decide +kernel
theorem dX10_round_229 : decode cX10_round 229 = .ok (.iaload, 1) := by decide +kernel
theorem dX10_round_230 : decode cX10_round 230 = .ok (.iastore, 1) := by decide +kernel
theorem dX10_round_231 : decode cX10_round 231 = .ok (.aload_n 0, 1) := by decide +kernel
theorem dX10_round_232 : decode cX10_round 232 = .ok (.getfield 19, 3) := by decide +kernel
theorem dX10_round_235 : decode cX10_round 235 = .ok (.iload 4, 2) := by decide +kernel
theorem dX10_round_237 : decode cX10_round 237 = .ok (.dup2, 1) := by decide +kernel
theorem dX10_round_238 : decode cX10_round 238 = .ok (.iaload, 1) := by decide +kernel
theorem dX10_round_239 : decode cX10_round 239 = .ok (.iconst 1, 1) := by decide +kernel
theorem dX10_round_240 : decode cX10_round 240 = .ok (.isub, 1) := by decide +kernel
theorem dX10_round_241 : decode cX10_round 241 = .ok (.iastore, 1) := by decide +kernel
theorem dX10_round_242 : decode cX10_round 242 = .ok (.iinc 1 1, 3) := by decide +kernel
theorem dX10_round_245 : decode cX10_round 245 = .ok (.iinc 3 1, 3) := by decide +kernel
theorem dX10_round_248 : decode cX10_round 248 = .ok (.goto (-99), 3) := by decide +kernel
theorem dX10_round_251 : decode cX10_round 251 = .ok (.iinc 2 1, 3) := by decide +kernel
theorem dX10_round_254 : decode cX10_round 254 = .ok (.goto (-115), 3) := by decide +kernel
theorem dX10_round_257 : decode cX10_round 257 = .ok (.iload_n 1, 1) := by decide +kernel
theorem dX10_round_258 : decode cX10_round 258 = .ok (.ireturn, 1) := by decide +kernel
theorem dX10_way_0 : decode cX10_way 0 = .ok (.iconst 0, 1) := by decide +kernel
theorem dX10_way_1 : decode cX10_way 1 = .ok (.istore_n 3, 1) := by decide +kernel
theorem dX10_way_2 : decode cX10_way 2 = .ok (.iload_n 3, 1) := by decide +kernel
theorem dX10_way_3 : decode cX10_way 3 = .ok (.aload_n 0, 1) := by decide +kernel
theorem dX10_way_4 : decode cX10_way 4 = .ok (.getfield 3, 3) := by decide +kernel
theorem dX10_way_7 : decode cX10_way 7 = .ok (.getfield 52, 3) := by decide +kernel
theorem dX10_way_10 : decode cX10_way 10 = .ok (.invokevirtual 72, 3) := by decide +kernel
theorem dX10_way_13 : decode cX10_way 13 = .ok (.if_icmp .ge 78, 3) := by decide +kernel
theorem dX10_way_16 : decode cX10_way 16 = .ok (.iconst 0, 1) := by decide +kernel
theorem dX10_way_17 : decode cX10_way 17 = .ok (.istore 4, 2) := by decide +kernel
theorem dX10_way_19 : decode cX10_way 19 = .ok (.iload 4, 2) := by decide +kernel
theorem dX10_way_21 : decode cX10_way 21 = .ok (.bipush 8, 2) := by decide +kernel
theorem dX10_way_23 : decode cX10_way 23 = .ok (.if_icmp .ge 62, 3) := by decide +kernel
theorem dX10_way_26 : decode cX10_way 26 = .ok (.aload_n 0, 1) := by decide +kernel
theorem dX10_way_27 : decode cX10_way 27 = .ok (.getfield 19, 3) := by decide +kernel
theorem dX10_way_30 : decode cX10_way 30 = .ok (.iload_n 3, 1) := by decide +kernel
theorem dX10_way_31 : decode cX10_way 31 = .ok (.iaload, 1) := by decide +kernel
theorem dX10_way_32 : decode cX10_way 32 = .ok (.ifCond .le 53, 3) := by decide +kernel
theorem dX10_way_35 : decode cX10_way 35 = .ok (.aload_n 0, 1) := by decide +kernel
theorem dX10_way_36 : decode cX10_way 36 = .ok (.getfield 3, 3) := by decide +kernel
theorem dX10_way_39 : decode cX10_way 39 = .ok (.getfield 52, 3) := by decide +kernel
theorem dX10_way_42 : decode cX10_way 42 = .ok (.iload_n 3, 1) := by decide +kernel
theorem dX10_way_43 : decode cX10_way 43 = .ok (.invokevirtual 56, 3) := by decide +kernel
theorem dX10_way_46 : decode cX10_way 46 = .ok (.checkcast 62, 3) := by decide +kernel
theorem dX10_way_49 : decode cX10_way 49 = .ok (.iload 4, 2) := by decide +kernel
theorem dX10_way_51 : decode cX10_way 51 = .ok (.invokevirtual 76, 3) := by decide +kernel
theorem dX10_way_54 : decode cX10_way 54 = .ok (.iload 4, 2) := by decide +kernel
theorem dX10_way_56 : decode cX10_way 56 = .ok (.if_icmp .ne 23, 3) := by decide +kernel
theorem dX10_way_59 : decode cX10_way 59 = .ok (.aload_n 0, 1) := by decide +kernel
theorem dX10_way_60 : decode cX10_way 60 = .ok (.iload_n 1, 1) := by decide +kernel
theorem dX10_way_61 : decode cX10_way 61 = .ok (.iload_n 2, 1) := by decide +kernel
theorem dX10_way_62 : decode cX10_way 62 = .ok (.iload_n 3, 1) := by decide +kernel
theorem dX10_way_63 : decode cX10_way 63 = .ok (.iload 4, 2) := by decide +kernel
theorem dX10_way_65 : decode cX10_way 65 = .ok (.invokevirtual 79, 3) := by decide +kernel
theorem dX10_way_68 : decode cX10_way 68 = .ok (.ifCond .eq 11, 3) := by decide +kernel
theorem dX10_way_71 : decode cX10_way 71 = .ok (.bipush 8, 2) := by decide +kernel
theorem dX10_way_73 : decode cX10_way 73 = .ok (.iload_n 3, 1) := by decide +kernel
theorem dX10_way_74 : decode cX10_way 74 = .ok (.imul, 1) := by decide +kernel
theorem dX10_way_75 : decode cX10_way 75 = .ok (.iload 4, 2) := by decide +kernel
theorem dX10_way_77 : decode cX10_way 77 = .ok (.iadd, 1) := by decide +kernel
theorem dX10_way_78 : decode cX10_way 78 = .ok (.ireturn, 1) := by decide +kernel
theorem dX10_way_79 : decode cX10_way 79 = .ok (.iinc 4 1, 3) := by decide +kernel
theorem dX10_way_82 : decode cX10_way 82 = .ok (.goto (-63), 3) := by decide +kernel
theorem dX10_way_85 : decode cX10_way 85 = .ok (.iinc 3 1, 3) := by decide +kernel
theorem dX10_way_88 : decode cX10_way 88 = .ok (.goto (-86), 3) := by decide +kernel
theorem dX10_way_91 : decode cX10_way 91 = .ok (.iconst 0, 1) := by decide +kernel
theorem dX10_way_92 : decode cX10_way 92 = .ok (.ireturn, 1) := by decide +kernel
theorem dX10_shown_0 : decode cX10_shown 0 = .ok (.aload_n 0, 1) := by decide +kernel
theorem dX10_shown_1 : decode cX10_shown 1 = .ok (.iload_n 1, 1) := by decide +kernel
theorem dX10_shown_2 : decode cX10_shown 2 = .ok (.iload_n 2, 1) := by decide +kernel
theorem dX10_shown_3 : decode cX10_shown 3 = .ok (.invokevirtual 48, 3) := by decide +kernel
theorem dX10_shown_6 : decode cX10_shown 6 = .ok (.ifCond .eq 15, 3) := by decide +kernel
theorem dX10_shown_9 : decode cX10_shown 9 = .ok (.aload_n 0, 1) := by decide +kernel
theorem dX10_shown_10 : decode cX10_shown 10 = .ok (.getfield 31, 3) := by decide +kernel
theorem dX10_shown_13 : decode cX10_shown 13 = .ok (.iload_n 1, 1) := by decide +kernel
theorem dX10_shown_14 : decode cX10_shown 14 = .ok (.aaload, 1) := by decide +kernel
theorem dX10_shown_15 : decode cX10_shown 15 = .ok (.iload_n 2, 1) := by decide +kernel
theorem dX10_shown_16 : decode cX10_shown 16 = .ok (.iaload, 1) := by decide +kernel
theorem dX10_shown_17 : decode cX10_shown 17 = .ok (.iconst 1, 1) := by decide +kernel
theorem dX10_shown_18 : decode cX10_shown 18 = .ok (.if_icmp .ne 8, 3) := by decide +kernel
theorem dX10_shown_21 : decode cX10_shown 21 = .ok (.bipush (-2), 2) := by decide +kernel
theorem dX10_shown_23 : decode cX10_shown 23 = .ok (.goto 11, 3) := by decide +kernel
theorem dX10_shown_26 : decode cX10_shown 26 = .ok (.aload_n 0, 1) := by decide +kernel
theorem dX10_shown_27 : decode cX10_shown 27 = .ok (.getfield 34, 3) := by decide +kernel
theorem dX10_shown_30 : decode cX10_shown 30 = .ok (.iload_n 1, 1) := by decide +kernel
theorem dX10_shown_31 : decode cX10_shown 31 = .ok (.aaload, 1) := by decide +kernel
theorem dX10_shown_32 : decode cX10_shown 32 = .ok (.iload_n 2, 1) := by decide +kernel
theorem dX10_shown_33 : decode cX10_shown 33 = .ok (.iaload, 1) := by decide +kernel
theorem dX10_shown_34 : decode cX10_shown 34 = .ok (.ireturn, 1) := by decide +kernel
theorem dJ13_init_0 : decode cJ13_init 0 = .ok (.return_, 1) := by decide +kernel
