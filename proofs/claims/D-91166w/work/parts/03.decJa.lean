set_option maxRecDepth 100000
theorem dJ8_init_0 : decode cJ8_init 0 = .ok (.return_, 1) := by decide +kernel
theorem dJ0_init_0 : decode cJ0_init 0 = .ok (.aload_n 0, 1) := by decide +kernel
theorem dJ0_init_1 : decode cJ0_init 1 = .ok (.invokespecial 1, 3) := by decide +kernel
theorem dJ0_init_4 : decode cJ0_init 4 = .ok (.return_, 1) := by decide +kernel
theorem dJ1_init_0 : decode cJ1_init 0 = .ok (.aload_n 0, 1) := by decide +kernel
theorem dJ1_init_1 : decode cJ1_init 1 = .ok (.invokespecial 1, 3) := by decide +kernel
theorem dJ1_init_4 : decode cJ1_init 4 = .ok (.aload_n 0, 1) := by decide +kernel
theorem dJ1_init_5 : decode cJ1_init 5 = .ok (.iconst 0, 1) := by decide +kernel
theorem dJ1_init_6 : decode cJ1_init 6 = .ok (.putfield 7, 3) := by decide +kernel
theorem dJ1_init_9 : decode cJ1_init 9 = .ok (.return_, 1) := by decide +kernel
theorem dJ2_init_0 : decode cJ2_init 0 = .ok (.aload_n 0, 1) := by decide +kernel
theorem dJ2_init_1 : decode cJ2_init 1 = .ok (.invokespecial 1, 3) := by decide +kernel
theorem dJ2_init_4 : decode cJ2_init 4 = .ok (.aload_n 0, 1) := by decide +kernel
theorem dJ2_init_5 : decode cJ2_init 5 = .ok (.getstatic 39, 3) := by decide +kernel
theorem dJ2_init_8 : decode cJ2_init 8 = .ok (.putfield 9, 3) := by decide +kernel
theorem dJ2_init_11 : decode cJ2_init 11 = .ok (.return_, 1) := by decide +kernel
theorem dJ2_size_0 : decode cJ2_size 0 = .ok (.aload_n 0, 1) := by decide +kernel
theorem dJ2_size_1 : decode cJ2_size 1 = .ok (.getfield 48, 3) := by decide +kernel
theorem dJ2_size_4 : decode cJ2_size 4 = .ok (.ireturn, 1) := by decide +kernel
theorem dJ2_get_0 : decode cJ2_get 0 = .ok (.iload_n 1, 1) := by decide +kernel
theorem dJ2_get_1 : decode cJ2_get 1 = .ok (.aload_n 0, 1) := by decide +kernel
theorem dJ2_get_2 : decode cJ2_get 2 = .ok (.getfield 48, 3) := by decide +kernel
theorem dJ2_get_5 : decode cJ2_get 5 = .ok (.invokestatic 118, 3) := by decide +kernel
theorem dJ2_get_8 : decode cJ2_get 8 = .ok (.pop, 1) := by decide +kernel
theorem dJ2_get_9 : decode cJ2_get 9 = .ok (.aload_n 0, 1) := by decide +kernel
theorem dJ2_get_10 : decode cJ2_get 10 = .ok (.iload_n 1, 1) := by decide +kernel
theorem dJ2_get_11 : decode cJ2_get 11 = .ok (.invokevirtual 123, 3) := by decide +kernel
theorem dJ2_get_14 : decode cJ2_get 14 = .ok (.areturn, 1) := by decide +kernel
theorem dJ2_elementData_0 : decode cJ2_elementData 0 = .ok (.aload_n 0, 1) := by decide +kernel
theorem dJ2_elementData_1 : decode cJ2_elementData 1 = .ok (.getfield 9, 3) := by decide +kernel
theorem dJ2_elementData_4 : decode cJ2_elementData 4 = .ok (.iload_n 1, 1) := by decide +kernel
theorem dJ2_elementData_5 : decode cJ2_elementData 5 = .ok (.aaload, 1) := by decide +kernel
theorem dJ2_elementData_6 : decode cJ2_elementData 6 = .ok (.areturn, 1) := by decide +kernel
theorem dJ2_add_0 : decode cJ2_add 0 = .ok (.aload_n 0, 1) := by decide +kernel
theorem dJ2_add_1 : decode cJ2_add 1 = .ok (.dup, 1) := by decide +kernel
theorem dJ2_add_2 : decode cJ2_add 2 = .ok (.getfield 63, 3) := by decide +kernel
theorem dJ2_add_5 : decode cJ2_add 5 = .ok (.iconst 1, 1) := by decide +kernel
theorem dJ2_add_6 : decode cJ2_add 6 = .ok (.iadd, 1) := by decide +kernel
theorem dJ2_add_7 : decode cJ2_add 7 = .ok (.putfield 63, 3) := by decide +kernel
theorem dJ2_add_10 : decode cJ2_add 10 = .ok (.aload_n 0, 1) := by decide +kernel
theorem dJ2_add_11 : decode cJ2_add 11 = .ok (.aload_n 1, 1) := by decide +kernel
theorem dJ2_add_12 : decode cJ2_add 12 = .ok (.aload_n 0, 1) := by decide +kernel
theorem dJ2_add_13 : decode cJ2_add 13 = .ok (.getfield 9, 3) := by decide +kernel
theorem dJ2_add_16 : decode cJ2_add 16 = .ok (.aload_n 0, 1) := by decide +kernel
theorem dJ2_add_17 : decode cJ2_add 17 = .ok (.getfield 48, 3) := by decide +kernel
theorem dJ2_add_20 : decode cJ2_add 20 = .ok (.invokevirtual 131, 3) := by decide +kernel
theorem dJ2_add_23 : decode cJ2_add 23 = .ok (.iconst 1, 1) := by decide +kernel
theorem dJ2_add_24 : decode cJ2_add 24 = .ok (.ireturn, 1) := by decide +kernel
theorem dJ2_add_2_0 : decode cJ2_add_2 0 = .ok (.iload_n 3, 1) := by decide +kernel
theorem dJ2_add_2_1 : decode cJ2_add_2 1 = .ok (.aload_n 2, 1) := by decide +kernel
theorem dJ2_add_2_2 : decode cJ2_add_2 2 = .ok (.arraylength, 1) := by decide +kernel
theorem dJ2_add_2_3 : decode cJ2_add_2 3 = .ok (.if_icmp .ne 8, 3) := by decide +kernel
theorem dJ2_add_2_6 : decode cJ2_add_2 6 = .ok (.aload_n 0, 1) := by decide +kernel
theorem dJ2_add_2_7 : decode cJ2_add_2 7 = .ok (.invokevirtual 129, 3) := by decide +kernel
theorem dJ2_add_2_10 : decode cJ2_add_2 10 = .ok (.astore_n 2, 1) := by decide +kernel
theorem dJ2_add_2_11 : decode cJ2_add_2 11 = .ok (.aload_n 2, 1) := by decide +kernel
theorem dJ2_add_2_12 : decode cJ2_add_2 12 = .ok (.iload_n 3, 1) := by decide +kernel
theorem dJ2_add_2_13 : decode cJ2_add_2 13 = .ok (.aload_n 1, 1) := by decide +kernel
theorem dJ2_add_2_14 : decode cJ2_add_2 14 = .ok (.aastore, 1) := by decide +kernel
theorem dJ2_add_2_15 : decode cJ2_add_2 15 = .ok (.aload_n 0, 1) := by decide +kernel
theorem dJ2_add_2_16 : decode cJ2_add_2 16 = .ok (.iload_n 3, 1) := by decide +kernel
theorem dJ2_add_2_17 : decode cJ2_add_2 17 = .ok (.iconst 1, 1) := by decide +kernel
theorem dJ2_add_2_18 : decode cJ2_add_2 18 = .ok (.iadd, 1) := by decide +kernel
theorem dJ2_add_2_19 : decode cJ2_add_2 19 = .ok (.putfield 48, 3) := by decide +kernel
theorem dJ2_add_2_22 : decode cJ2_add_2 22 = .ok (.return_, 1) := by decide +kernel
theorem dJ2_grow_0 : decode cJ2_grow 0 = .ok (.aload_n 0, 1) := by decide +kernel
theorem dJ2_grow_1 : decode cJ2_grow 1 = .ok (.aload_n 0, 1) := by decide +kernel
theorem dJ2_grow_2 : decode cJ2_grow 2 = .ok (.getfield 48, 3) := by decide +kernel
theorem dJ2_grow_5 : decode cJ2_grow 5 = .ok (.iconst 1, 1) := by decide +kernel
theorem dJ2_grow_6 : decode cJ2_grow 6 = .ok (.iadd, 1) := by decide +kernel
theorem dJ2_grow_7 : decode cJ2_grow 7 = .ok (.invokevirtual 69, 3) := by decide +kernel
theorem dJ2_grow_10 : decode cJ2_grow 10 = .ok (.areturn, 1) := by decide +kernel
theorem dJ2_grow_2_0 : decode cJ2_grow_2 0 = .ok (.aload_n 0, 1) := by decide +kernel
theorem dJ2_grow_2_1 : decode cJ2_grow_2 1 = .ok (.getfield 9, 3) := by decide +kernel
theorem dJ2_grow_2_4 : decode cJ2_grow_2 4 = .ok (.arraylength, 1) := by decide +kernel
theorem dJ2_grow_2_5 : decode cJ2_grow_2 5 = .ok (.istore_n 2, 1) := by decide +kernel
theorem dJ2_grow_2_6 : decode cJ2_grow_2 6 = .ok (.iload_n 2, 1) := by decide +kernel
theorem dJ2_grow_2_7 : decode cJ2_grow_2 7 = .ok (.ifCond .gt 13, 3) := by decide +kernel
theorem dJ2_grow_2_10 : decode cJ2_grow_2 10 = .ok (.aload_n 0, 1) := by decide +kernel
theorem dJ2_grow_2_11 : decode cJ2_grow_2 11 = .ok (.getfield 9, 3) := by decide +kernel
theorem dJ2_grow_2_14 : decode cJ2_grow_2 14 = .ok (.getstatic 39, 3) := by decide +kernel
theorem dJ2_grow_2_17 : decode cJ2_grow_2 17 = .ok (.if_acmp .eq 28, 3) := by decide +kernel
theorem dJ2_grow_2_20 : decode cJ2_grow_2 20 = .ok (.iload_n 2, 1) := by decide +kernel
theorem dJ2_grow_2_21 : decode cJ2_grow_2 21 = .ok (.iload_n 1, 1) := by decide +kernel
theorem dJ2_grow_2_22 : decode cJ2_grow_2 22 = .ok (.iload_n 2, 1) := by decide +kernel
theorem dJ2_grow_2_23 : decode cJ2_grow_2 23 = .ok (.isub, 1) := by decide +kernel
theorem dJ2_grow_2_24 : decode cJ2_grow_2 24 = .ok (.iload_n 2, 1) := by decide +kernel
theorem dJ2_grow_2_25 : decode cJ2_grow_2 25 = .ok (.iconst 1, 1) := by decide +kernel
theorem dJ2_grow_2_26 : decode cJ2_grow_2 26 = .ok (.ishr, 1) := by decide +kernel
theorem dJ2_grow_2_27 : decode cJ2_grow_2 27 = .ok (.invokestatic 73, 3) := by decide +kernel
theorem dJ2_grow_2_30 : decode cJ2_grow_2 30 = .ok (.istore_n 3, 1) := by decide +kernel
theorem dJ2_grow_2_31 : decode cJ2_grow_2 31 = .ok (.aload_n 0, 1) := by decide +kernel
theorem dJ2_grow_2_32 : decode cJ2_grow_2 32 = .ok (.aload_n 0, 1) := by decide +kernel
theorem dJ2_grow_2_33 : decode cJ2_grow_2 33 = .ok (.getfield 9, 3) := by decide +kernel
theorem dJ2_grow_2_36 : decode cJ2_grow_2 36 = .ok (.iload_n 3, 1) := by decide +kernel
theorem dJ2_grow_2_37 : decode cJ2_grow_2 37 = .ok (.invokestatic 66, 3) := by decide +kernel
theorem dJ2_grow_2_40 : decode cJ2_grow_2 40 = .ok (.dup_x1, 1) := by decide +kernel
theorem dJ2_grow_2_41 : decode cJ2_grow_2 41 = .ok (.putfield 9, 3) := by decide +kernel
theorem dJ2_grow_2_44 : decode cJ2_grow_2 44 = .ok (.areturn, 1) := by decide +kernel
theorem dJ2_grow_2_45 : decode cJ2_grow_2 45 = .ok (.aload_n 0, 1) := by decide +kernel
theorem dJ2_grow_2_46 : decode cJ2_grow_2 46 = .ok (.bipush 10, 2) := by decide +kernel
theorem dJ2_grow_2_48 : decode cJ2_grow_2 48 = .ok (.iload_n 1, 1) := by decide +kernel
theorem dJ2_grow_2_49 : decode cJ2_grow_2 49 = .ok (.invokestatic 79, 3) := by decide +kernel
theorem dJ2_grow_2_52 : decode cJ2_grow_2 52 = .ok (.anewarray 7, 3) := by decide +kernel
theorem dJ2_grow_2_55 : decode cJ2_grow_2 55 = .ok (.dup_x1, 1) := by decide +kernel
theorem dJ2_grow_2_56 : decode cJ2_grow_2 56 = .ok (.putfield 9, 3) := by decide +kernel
theorem dJ2_grow_2_59 : decode cJ2_grow_2 59 = .ok (.areturn, 1) := by decide +kernel
theorem dJ2_clear_0 : decode cJ2_clear 0 = .ok (.aload_n 0, 1) := by decide +kernel
theorem dJ2_clear_1 : decode cJ2_clear 1 = .ok (.dup, 1) := by decide +kernel
theorem dJ2_clear_2 : decode cJ2_clear 2 = .ok (.getfield 63, 3) := by decide +kernel
theorem dJ2_clear_5 : decode cJ2_clear 5 = .ok (.iconst 1, 1) := by decide +kernel
theorem dJ2_clear_6 : decode cJ2_clear 6 = .ok (.iadd, 1) := by decide +kernel
theorem dJ2_clear_7 : decode cJ2_clear 7 = .ok (.putfield 63, 3) := by decide +kernel
theorem dJ2_clear_10 : decode cJ2_clear 10 = .ok (.aload_n 0, 1) := by decide +kernel
theorem dJ2_clear_11 : decode cJ2_clear 11 = .ok (.getfield 9, 3) := by decide +kernel
theorem dJ2_clear_14 : decode cJ2_clear 14 = .ok (.astore_n 1, 1) := by decide +kernel
theorem dJ2_clear_15 : decode cJ2_clear 15 = .ok (.aload_n 0, 1) := by decide +kernel
theorem dJ2_clear_16 : decode cJ2_clear 16 = .ok (.getfield 48, 3) := by decide +kernel
theorem dJ2_clear_19 : decode cJ2_clear 19 = .ok (.istore_n 2, 1) := by decide +kernel
theorem dJ2_clear_20 : decode cJ2_clear 20 = .ok (.aload_n 0, 1) := by decide +kernel
theorem dJ2_clear_21 : decode cJ2_clear 21 = .ok (.iconst 0, 1) := by decide +kernel
theorem dJ2_clear_22 : decode cJ2_clear 22 = .ok (.dup_x1, 1) := by decide +kernel
theorem dJ2_clear_23 : decode cJ2_clear 23 = .ok (.putfield 48, 3) := by decide +kernel
theorem dJ2_clear_26 : decode cJ2_clear 26 = .ok (.istore_n 3, 1) := by decide +kernel
theorem dJ2_clear_27 : decode cJ2_clear 27 = .ok (.iload_n 3, 1) := by decide +kernel
theorem dJ2_clear_28 : decode cJ2_clear 28 = .ok (.iload_n 2, 1) := by decide +kernel
theorem dJ2_clear_29 : decode cJ2_clear 29 = .ok (.if_icmp .ge 13, 3) := by decide +kernel
theorem dJ2_clear_32 : decode cJ2_clear 32 = .ok (.aload_n 1, 1) := by decide +kernel
theorem dJ2_clear_33 : decode cJ2_clear 33 = .ok (.iload_n 3, 1) := by decide +kernel
theorem dJ2_clear_34 : decode cJ2_clear 34 = .ok (.aconst_null, 1) := by decide +kernel
theorem dJ2_clear_35 : decode cJ2_clear 35 = .ok (.aastore, 1) := by decide +kernel
theorem dJ2_clear_36 : decode cJ2_clear 36 = .ok (.iinc 3 1, 3) := by decide +kernel
theorem dJ2_clear_39 : decode cJ2_clear 39 = .ok (.goto (-12), 3) := by decide +kernel
theorem dJ2_clear_42 : decode cJ2_clear 42 = .ok (.return_, 1) := by decide +kernel
theorem dJ2_set_0 : decode cJ2_set 0 = .ok (.iload_n 1, 1) := by decide +kernel
theorem dJ2_set_1 : decode cJ2_set 1 = .ok (.aload_n 0, 1) := by decide +kernel
theorem dJ2_set_2 : decode cJ2_set 2 = .ok (.getfield 48, 3) := by decide +kernel
theorem dJ2_set_5 : decode cJ2_set 5 = .ok (.invokestatic 118, 3) := by decide +kernel
theorem dJ2_set_8 : decode cJ2_set 8 = .ok (.pop, 1) := by decide +kernel
theorem dJ2_set_9 : decode cJ2_set 9 = .ok (.aload_n 0, 1) := by decide +kernel
theorem dJ2_set_10 : decode cJ2_set 10 = .ok (.iload_n 1, 1) := by decide +kernel
theorem dJ2_set_11 : decode cJ2_set 11 = .ok (.invokevirtual 123, 3) := by decide +kernel
theorem dJ2_set_14 : decode cJ2_set 14 = .ok (.astore_n 3, 1) := by decide +kernel
theorem dJ2_set_15 : decode cJ2_set 15 = .ok (.aload_n 0, 1) := by decide +kernel
theorem dJ2_set_16 : decode cJ2_set 16 = .ok (.getfield 9, 3) := by decide +kernel
theorem dJ2_set_19 : decode cJ2_set 19 = .ok (.iload_n 1, 1) := by decide +kernel
theorem dJ2_set_20 : decode cJ2_set 20 = .ok (.aload_n 2, 1) := by decide +kernel
theorem dJ2_set_21 : decode cJ2_set 21 = .ok (.aastore, 1) := by decide +kernel
theorem dJ2_set_22 : decode cJ2_set 22 = .ok (.aload_n 3, 1) := by decide +kernel
theorem dJ2_set_23 : decode cJ2_set 23 = .ok (.areturn, 1) := by decide +kernel
theorem dJ2_add_3_0 : decode cJ2_add_3 0 = .ok (.aload_n 0, 1) := by decide +kernel
theorem dJ2_add_3_1 : decode cJ2_add_3 1 = .ok (.iload_n 1, 1) := by decide +kernel
theorem dJ2_add_3_2 : decode cJ2_add_3 2 = .ok (.invokevirtual 135, 3) := by decide +kernel
theorem dJ2_add_3_5 : decode cJ2_add_3 5 = .ok (.aload_n 0, 1) := by decide +kernel
theorem dJ2_add_3_6 : decode cJ2_add_3 6 = .ok (.dup, 1) := by decide +kernel
theorem dJ2_add_3_7 : decode cJ2_add_3 7 = .ok (.getfield 63, 3) := by decide +kernel
theorem dJ2_add_3_10 : decode cJ2_add_3 10 = .ok (.iconst 1, 1) := by decide +kernel
theorem dJ2_add_3_11 : decode cJ2_add_3 11 = .ok (.iadd, 1) := by decide +kernel
theorem dJ2_add_3_12 : decode cJ2_add_3 12 = .ok (.putfield 63, 3) := by decide +kernel
theorem dJ2_add_3_15 : decode cJ2_add_3 15 = .ok (.aload_n 0, 1) := by decide +kernel
theorem dJ2_add_3_16 : decode cJ2_add_3 16 = .ok (.getfield 48, 3) := by decide +kernel
theorem dJ2_add_3_19 : decode cJ2_add_3 19 = .ok (.dup, 1) := by decide +kernel
theorem dJ2_add_3_20 : decode cJ2_add_3 20 = .ok (.istore_n 3, 1) := by decide +kernel
theorem dJ2_add_3_21 : decode cJ2_add_3 21 = .ok (.aload_n 0, 1) := by decide +kernel
theorem dJ2_add_3_22 : decode cJ2_add_3 22 = .ok (.getfield 9, 3) := by decide +kernel
theorem dJ2_add_3_25 : decode cJ2_add_3 25 = .ok (.dup, 1) := by decide +kernel
theorem dJ2_add_3_26 : decode cJ2_add_3 26 = .ok (.astore 4, 2) := by decide +kernel
theorem dJ2_add_3_28 : decode cJ2_add_3 28 = .ok (.arraylength, 1) := by decide +kernel
theorem dJ2_add_3_29 : decode cJ2_add_3 29 = .ok (.if_icmp .ne 9, 3) := by decide +kernel
theorem dJ2_add_3_32 : decode cJ2_add_3 32 = .ok (.aload_n 0, 1) := by decide +kernel
theorem dJ2_add_3_33 : decode cJ2_add_3 33 = .ok (.invokevirtual 129, 3) := by decide +kernel
theorem dJ2_add_3_36 : decode cJ2_add_3 36 = .ok (.astore 4, 2) := by decide +kernel
theorem dJ2_add_3_38 : decode cJ2_add_3 38 = .ok (.aload 4, 2) := by decide +kernel
theorem dJ2_add_3_40 : decode cJ2_add_3 40 = .ok (.iload_n 1, 1) := by decide +kernel
theorem dJ2_add_3_41 : decode cJ2_add_3 41 = .ok (.aload 4, 2) := by decide +kernel
theorem dJ2_add_3_43 : decode cJ2_add_3 43 = .ok (.iload_n 1, 1) := by decide +kernel
theorem dJ2_add_3_44 : decode cJ2_add_3 44 = .ok (.iconst 1, 1) := by decide +kernel
theorem dJ2_add_3_45 : decode cJ2_add_3 45 = .ok (.iadd, 1) := by decide +kernel
theorem dJ2_add_3_46 : decode cJ2_add_3 46 = .ok (.iload_n 3, 1) := by decide +kernel
theorem dJ2_add_3_47 : decode cJ2_add_3 47 = .ok (.iload_n 1, 1) := by decide +kernel
theorem dJ2_add_3_48 : decode cJ2_add_3 48 = .ok (.isub, 1) := by decide +kernel
theorem dJ2_add_3_49 : decode cJ2_add_3 49 = .ok (.invokestatic 112, 3) := by decide +kernel
theorem dJ2_add_3_52 : decode cJ2_add_3 52 = .ok (.aload 4, 2) := by decide +kernel
theorem dJ2_add_3_54 : decode cJ2_add_3 54 = .ok (.iload_n 1, 1) := by decide +kernel
theorem dJ2_add_3_55 : decode cJ2_add_3 55 = .ok (.aload_n 2, 1) := by decide +kernel
theorem dJ2_add_3_56 : decode cJ2_add_3 56 = .ok (.aastore, 1) := by decide +kernel
theorem dJ2_add_3_57 : decode cJ2_add_3 57 = .ok (.aload_n 0, 1) := by decide +kernel
theorem dJ2_add_3_58 : decode cJ2_add_3 58 = .ok (.iload_n 3, 1) := by decide +kernel
theorem dJ2_add_3_59 : decode cJ2_add_3 59 = .ok (.iconst 1, 1) := by decide +kernel
theorem dJ2_add_3_60 : decode cJ2_add_3 60 = .ok (.iadd, 1) := by decide +kernel
theorem dJ2_add_3_61 : decode cJ2_add_3 61 = .ok (.putfield 48, 3) := by decide +kernel
theorem dJ2_add_3_64 : decode cJ2_add_3 64 = .ok (.return_, 1) := by decide +kernel
theorem dJ2_rangeCheckForAdd_0 : decode cJ2_rangeCheckForAdd 0 = .ok (.iload_n 1, 1) := by decide +kernel
theorem dJ2_rangeCheckForAdd_1 : decode cJ2_rangeCheckForAdd 1 = .ok (.aload_n 0, 1) := by decide +kernel
theorem dJ2_rangeCheckForAdd_2 : decode cJ2_rangeCheckForAdd 2 = .ok (.getfield 48, 3) := by decide +kernel
theorem dJ2_rangeCheckForAdd_5 : decode cJ2_rangeCheckForAdd 5 = .ok (.if_icmp .gt 7, 3) := by decide +kernel
theorem dJ2_rangeCheckForAdd_8 : decode cJ2_rangeCheckForAdd 8 = .ok (.iload_n 1, 1) := by decide +kernel
theorem dJ2_rangeCheckForAdd_9 : decode cJ2_rangeCheckForAdd 9 = .ok (.ifCond .ge 16, 3) := by decide +kernel
theorem dJ2_rangeCheckForAdd_12 : decode cJ2_rangeCheckForAdd 12 = .ok (.new 187, 3) := by decide +kernel
theorem dJ2_rangeCheckForAdd_15 : decode cJ2_rangeCheckForAdd 15 = .ok (.dup, 1) := by decide +kernel
theorem dJ2_rangeCheckForAdd_16 : decode cJ2_rangeCheckForAdd 16 = .ok (.aload_n 0, 1) := by decide +kernel
theorem dJ2_rangeCheckForAdd_17 : decode cJ2_rangeCheckForAdd 17 = .ok (.iload_n 1, 1) := by decide +kernel
theorem dJ2_rangeCheckForAdd_18 : decode cJ2_rangeCheckForAdd 18 = .ok (.invokevirtual 198, 3) := by decide +kernel
theorem dJ2_rangeCheckForAdd_21 : decode cJ2_rangeCheckForAdd 21 = .ok (.invokespecial 193, 3) := by decide +kernel
theorem dJ2_rangeCheckForAdd_24 : decode cJ2_rangeCheckForAdd 24 = .ok (.athrow, 1) := by decide +kernel
theorem dJ2_rangeCheckForAdd_25 : decode cJ2_rangeCheckForAdd 25 = .ok (.return_, 1) := by decide +kernel
theorem dJ3_checkIndex_0 : decode cJ3_checkIndex 0 = .ok (.iload_n 0, 1) := by decide +kernel
theorem dJ3_checkIndex_1 : decode cJ3_checkIndex 1 = .ok (.iload_n 1, 1) := by decide +kernel
theorem dJ3_checkIndex_2 : decode cJ3_checkIndex 2 = .ok (.aconst_null, 1) := by decide +kernel
theorem dJ3_checkIndex_3 : decode cJ3_checkIndex 3 = .ok (.invokestatic 105, 3) := by decide +kernel
theorem dJ3_checkIndex_6 : decode cJ3_checkIndex 6 = .ok (.ireturn, 1) := by decide +kernel
theorem dJ4_checkIndex_0 : decode cJ4_checkIndex 0 = .ok (.iload_n 0, 1) := by decide +kernel
theorem dJ4_checkIndex_1 : decode cJ4_checkIndex 1 = .ok (.ifCond .lt 8, 3) := by decide +kernel
theorem dJ4_checkIndex_4 : decode cJ4_checkIndex 4 = .ok (.iload_n 0, 1) := by decide +kernel
theorem dJ4_checkIndex_5 : decode cJ4_checkIndex 5 = .ok (.iload_n 1, 1) := by decide +kernel
theorem dJ4_checkIndex_6 : decode cJ4_checkIndex 6 = .ok (.if_icmp .lt 10, 3) := by decide +kernel
theorem dJ4_checkIndex_9 : decode cJ4_checkIndex 9 = .ok (.aload_n 2, 1) := by decide +kernel
theorem dJ4_checkIndex_10 : decode cJ4_checkIndex 10 = .ok (.iload_n 0, 1) := by decide +kernel
theorem dJ4_checkIndex_11 : decode cJ4_checkIndex 11 = .ok (.iload_n 1, 1) := by decide +kernel
theorem dJ4_checkIndex_12 : decode cJ4_checkIndex 12 = .ok (.invokestatic 95, 3) := by decide +kernel
theorem dJ4_checkIndex_15 : decode cJ4_checkIndex 15 = .ok (.athrow, 1) := by decide +kernel
theorem dJ4_checkIndex_16 : decode cJ4_checkIndex 16 = .ok (.iload_n 0, 1) := by decide +kernel
theorem dJ4_checkIndex_17 : decode cJ4_checkIndex 17 = .ok (.ireturn, 1) := by decide +kernel
theorem dJ5_newLength_0 : decode cJ5_newLength 0 = .ok (.iload_n 0, 1) := by decide +kernel
theorem dJ5_newLength_1 : decode cJ5_newLength 1 = .ok (.iload_n 1, 1) := by decide +kernel
theorem dJ5_newLength_2 : decode cJ5_newLength 2 = .ok (.iload_n 2, 1) := by decide +kernel
theorem dJ5_newLength_3 : decode cJ5_newLength 3 = .ok (.invokestatic 194, 3) := by decide +kernel
theorem dJ5_newLength_6 : decode cJ5_newLength 6 = .ok (.iadd, 1) := by decide +kernel
theorem dJ5_newLength_7 : decode cJ5_newLength 7 = .ok (.istore_n 3, 1) := by decide +kernel
theorem dJ5_newLength_8 : decode cJ5_newLength 8 = .ok (.iconst 0, 1) := by decide +kernel
theorem dJ5_newLength_9 : decode cJ5_newLength 9 = .ok (.iload_n 3, 1) := by decide +kernel
theorem dJ5_newLength_10 : decode cJ5_newLength 10 = .ok (.if_icmp .ge 11, 3) := by decide +kernel
theorem dJ5_newLength_13 : decode cJ5_newLength 13 = .ok (.iload_n 3, 1) := by decide +kernel
theorem dJ5_newLength_14 : decode cJ5_newLength 14 = .ok (.ldc 200, 2) := by decide +kernel
theorem dJ5_newLength_16 : decode cJ5_newLength 16 = .ok (.if_icmp .gt 5, 3) := by decide +kernel
theorem dJ5_newLength_19 : decode cJ5_newLength 19 = .ok (.iload_n 3, 1) := by decide +kernel
theorem dJ5_newLength_20 : decode cJ5_newLength 20 = .ok (.ireturn, 1) := by decide +kernel
theorem dJ5_newLength_21 : decode cJ5_newLength 21 = .ok (.iload_n 0, 1) := by decide +kernel
theorem dJ5_newLength_22 : decode cJ5_newLength 22 = .ok (.iload_n 1, 1) := by decide +kernel
theorem dJ5_newLength_23 : decode cJ5_newLength 23 = .ok (.invokestatic 201, 3) := by decide +kernel
theorem dJ5_newLength_26 : decode cJ5_newLength 26 = .ok (.ireturn, 1) := by decide +kernel
theorem dJ5_hugeLength_0 : decode cJ5_hugeLength 0 = .ok (.iload_n 0, 1) := by decide +kernel
theorem dJ5_hugeLength_1 : decode cJ5_hugeLength 1 = .ok (.iload_n 1, 1) := by decide +kernel
theorem dJ5_hugeLength_2 : decode cJ5_hugeLength 2 = .ok (.iadd, 1) := by decide +kernel
theorem dJ5_hugeLength_3 : decode cJ5_hugeLength 3 = .ok (.istore_n 2, 1) := by decide +kernel
theorem dJ5_hugeLength_4 : decode cJ5_hugeLength 4 = .ok (.iload_n 2, 1) := by decide +kernel
theorem dJ5_hugeLength_5 : decode cJ5_hugeLength 5 = .ok (.ifCond .ge 44, 3) := by decide +kernel
theorem dJ5_hugeLength_8 : decode cJ5_hugeLength 8 = .ok (.new 204, 3) := by decide +kernel
theorem dJ5_hugeLength_11 : decode cJ5_hugeLength 11 = .ok (.dup, 1) := by decide +kernel
theorem dJ5_hugeLength_12 : decode cJ5_hugeLength 12 = .ok (.new 89, 3) := by decide +kernel
theorem dJ5_hugeLength_15 : decode cJ5_hugeLength 15 = .ok (.dup, 1) := by decide +kernel
theorem dJ5_hugeLength_16 : decode cJ5_hugeLength 16 = .ok (.invokespecial 91, 3) := by decide +kernel
theorem dJ5_hugeLength_19 : decode cJ5_hugeLength 19 = .ok (.ldc 206, 2) := by decide +kernel
theorem dJ5_hugeLength_21 : decode cJ5_hugeLength 21 = .ok (.invokevirtual 94, 3) := by decide +kernel
theorem dJ5_hugeLength_24 : decode cJ5_hugeLength 24 = .ok (.iload_n 0, 1) := by decide +kernel
theorem dJ5_hugeLength_25 : decode cJ5_hugeLength 25 = .ok (.invokevirtual 98, 3) := by decide +kernel
theorem dJ5_hugeLength_28 : decode cJ5_hugeLength 28 = .ok (.ldc 208, 2) := by decide +kernel
theorem dJ5_hugeLength_30 : decode cJ5_hugeLength 30 = .ok (.invokevirtual 94, 3) := by decide +kernel
theorem dJ5_hugeLength_33 : decode cJ5_hugeLength 33 = .ok (.iload_n 1, 1) := by decide +kernel
theorem dJ5_hugeLength_34 : decode cJ5_hugeLength 34 = .ok (.invokevirtual 98, 3) := by decide +kernel
theorem dJ5_hugeLength_37 : decode cJ5_hugeLength 37 = .ok (.ldc 210, 2) := by decide +kernel
theorem dJ5_hugeLength_39 : decode cJ5_hugeLength 39 = .ok (.invokevirtual 94, 3) := by decide +kernel
theorem dJ5_hugeLength_42 : decode cJ5_hugeLength 42 = .ok (.invokevirtual 101, 3) := by decide +kernel
theorem dJ5_hugeLength_45 : decode cJ5_hugeLength 45 = .ok (.invokespecial 212, 3) := by decide +kernel
theorem dJ5_hugeLength_48 : decode cJ5_hugeLength 48 = .ok (.athrow, 1) := by decide +kernel
theorem dJ5_hugeLength_49 : decode cJ5_hugeLength 49 = .ok (.iload_n 2, 1) := by decide +kernel
theorem dJ5_hugeLength_50 : decode cJ5_hugeLength 50 = .ok (.ldc 200, 2) := by decide +kernel
theorem dJ5_hugeLength_52 : decode cJ5_hugeLength 52 = .ok (.if_icmp .gt 6, 3) := by decide +kernel
theorem dJ5_hugeLength_55 : decode cJ5_hugeLength 55 = .ok (.ldc 200, 2) := by decide +kernel
theorem dJ5_hugeLength_57 : decode cJ5_hugeLength 57 = .ok (.ireturn, 1) := by decide +kernel
theorem dJ5_hugeLength_58 : decode cJ5_hugeLength 58 = .ok (.iload_n 2, 1) := by decide +kernel
theorem dJ5_hugeLength_59 : decode cJ5_hugeLength 59 = .ok (.ireturn, 1) := by decide +kernel
theorem dJ6_max_0 : decode cJ6_max 0 = .ok (.iload_n 0, 1) := by decide +kernel
theorem dJ6_max_1 : decode cJ6_max 1 = .ok (.iload_n 1, 1) := by decide +kernel
theorem dJ6_max_2 : decode cJ6_max 2 = .ok (.if_icmp .lt 7, 3) := by decide +kernel
theorem dJ6_max_5 : decode cJ6_max 5 = .ok (.iload_n 0, 1) := by decide +kernel
theorem dJ6_max_6 : decode cJ6_max 6 = .ok (.goto 4, 3) := by decide +kernel
theorem dJ6_max_9 : decode cJ6_max 9 = .ok (.iload_n 1, 1) := by decide +kernel
theorem dJ6_max_10 : decode cJ6_max 10 = .ok (.ireturn, 1) := by decide +kernel
theorem dJ6_min_0 : decode cJ6_min 0 = .ok (.iload_n 0, 1) := by decide +kernel
theorem dJ6_min_1 : decode cJ6_min 1 = .ok (.iload_n 1, 1) := by decide +kernel
theorem dJ6_min_2 : decode cJ6_min 2 = .ok (.if_icmp .gt 7, 3) := by decide +kernel
theorem dJ6_min_5 : decode cJ6_min 5 = .ok (.iload_n 0, 1) := by decide +kernel
theorem dJ6_min_6 : decode cJ6_min 6 = .ok (.goto 4, 3) := by decide +kernel
theorem dJ6_min_9 : decode cJ6_min 9 = .ok (.iload_n 1, 1) := by decide +kernel
theorem dJ6_min_10 : decode cJ6_min 10 = .ok (.ireturn, 1) := by decide +kernel
theorem dJ6_abs_0 : decode cJ6_abs 0 = .ok (.iload_n 0, 1) := by decide +kernel
theorem dJ6_abs_1 : decode cJ6_abs 1 = .ok (.ifCond .ge 8, 3) := by decide +kernel
theorem dJ6_abs_4 : decode cJ6_abs 4 = .ok (.iload_n 0, 1) := by decide +kernel
theorem dJ6_abs_5 : decode cJ6_abs 5 = .ok (.ineg, 1) := by decide +kernel
theorem dJ6_abs_6 : decode cJ6_abs 6 = .ok (.goto 4, 3) := by decide +kernel
theorem dJ6_abs_9 : decode cJ6_abs 9 = .ok (.iload_n 0, 1) := by decide +kernel
theorem dJ6_abs_10 : decode cJ6_abs 10 = .ok (.ireturn, 1) := by decide +kernel
theorem dJ7_copyOf_0 : decode cJ7_copyOf 0 = .ok (.aload_n 0, 1) := by decide +kernel
theorem dJ7_copyOf_1 : decode cJ7_copyOf 1 = .ok (.iload_n 1, 1) := by decide +kernel
theorem dJ7_copyOf_2 : decode cJ7_copyOf 2 = .ok (.aload_n 0, 1) := by decide +kernel
theorem dJ7_copyOf_3 : decode cJ7_copyOf 3 = .ok (.invokevirtual 86, 3) := by decide +kernel
theorem dJ7_copyOf_6 : decode cJ7_copyOf 6 = .ok (.invokestatic 300, 3) := by decide +kernel
theorem dJ7_copyOf_9 : decode cJ7_copyOf 9 = .ok (.areturn, 1) := by decide +kernel
theorem dJ7_copyOf_2_0 : decode cJ7_copyOf_2 0 = .ok (.aload_n 2, 1) := by decide +kernel
theorem dJ7_copyOf_2_1 : decode cJ7_copyOf_2 1 = .ok (.ldc 110, 2) := by decide +kernel
theorem dJ7_copyOf_2_3 : decode cJ7_copyOf_2 3 = .ok (.if_acmp .ne 10, 3) := by decide +kernel
theorem dJ7_copyOf_2_6 : decode cJ7_copyOf_2 6 = .ok (.iload_n 1, 1) := by decide +kernel
theorem dJ7_copyOf_2_7 : decode cJ7_copyOf_2 7 = .ok (.anewarray 2, 3) := by decide +kernel
theorem dJ7_copyOf_2_10 : decode cJ7_copyOf_2 10 = .ok (.goto 14, 3) := by decide +kernel
theorem dJ7_copyOf_2_13 : decode cJ7_copyOf_2 13 = .ok (.aload_n 2, 1) := by decide +kernel
theorem dJ7_copyOf_2_14 : decode cJ7_copyOf_2 14 = .ok (.invokevirtual 90, 3) := by decide +kernel
theorem dJ7_copyOf_2_17 : decode cJ7_copyOf_2 17 = .ok (.iload_n 1, 1) := by decide +kernel
theorem dJ7_copyOf_2_18 : decode cJ7_copyOf_2 18 = .ok (.invokestatic 95, 3) := by decide +kernel
theorem dJ7_copyOf_2_21 : decode cJ7_copyOf_2 21 = .ok (.checkcast 110, 3) := by decide +kernel
theorem dJ7_copyOf_2_24 : decode cJ7_copyOf_2 24 = .ok (.astore_n 3, 1) := by decide +kernel
theorem dJ7_copyOf_2_25 : decode cJ7_copyOf_2 25 = .ok (.aload_n 0, 1) := by decide +kernel
theorem dJ7_copyOf_2_26 : decode cJ7_copyOf_2 26 = .ok (.iconst 0, 1) := by decide +kernel
theorem dJ7_copyOf_2_27 : decode cJ7_copyOf_2 27 = .ok (.aload_n 3, 1) := by decide +kernel
theorem dJ7_copyOf_2_28 : decode cJ7_copyOf_2 28 = .ok (.iconst 0, 1) := by decide +kernel
theorem dJ7_copyOf_2_29 : decode cJ7_copyOf_2 29 = .ok (.aload_n 0, 1) := by decide +kernel
theorem dJ7_copyOf_2_30 : decode cJ7_copyOf_2 30 = .ok (.arraylength, 1) := by decide +kernel
theorem dJ7_copyOf_2_31 : decode cJ7_copyOf_2 31 = .ok (.iload_n 1, 1) := by decide +kernel
theorem dJ7_copyOf_2_32 : decode cJ7_copyOf_2 32 = .ok (.invokestatic 304, 3) := by decide +kernel
theorem dJ7_copyOf_2_35 : decode cJ7_copyOf_2 35 = .ok (.invokestatic 150, 3) := by decide +kernel
theorem dJ7_copyOf_2_38 : decode cJ7_copyOf_2 38 = .ok (.aload_n 3, 1) := by decide +kernel
theorem dJ7_copyOf_2_39 : decode cJ7_copyOf_2 39 = .ok (.areturn, 1) := by decide +kernel
theorem dX2_isLike_0 : decode cX2_isLike 0 = .ok (.aload_n 0, 1) := by decide +kernel
theorem dX2_isLike_1 : decode cX2_isLike 1 = .ok (.getfield 25, 3) := by decide +kernel
theorem dX2_isLike_4 : decode cX2_isLike 4 = .ok (.iload_n 1, 1) := by decide +kernel
theorem dX2_isLike_5 : decode cX2_isLike 5 = .ok (.if_icmp .ne 23, 3) := by decide +kernel
theorem dX2_isLike_8 : decode cX2_isLike 8 = .ok (.aload_n 0, 1) := by decide +kernel
theorem dX2_isLike_9 : decode cX2_isLike 9 = .ok (.getfield 28, 3) := by decide +kernel
theorem dX2_isLike_12 : decode cX2_isLike 12 = .ok (.iload_n 2, 1) := by decide +kernel
theorem dX2_isLike_13 : decode cX2_isLike 13 = .ok (.if_icmp .ne 15, 3) := by decide +kernel
theorem dX2_isLike_16 : decode cX2_isLike 16 = .ok (.aload_n 0, 1) := by decide +kernel
theorem dX2_isLike_17 : decode cX2_isLike 17 = .ok (.getfield 31, 3) := by decide +kernel
theorem dX2_isLike_20 : decode cX2_isLike 20 = .ok (.iload_n 3, 1) := by decide +kernel
theorem dX2_isLike_21 : decode cX2_isLike 21 = .ok (.if_icmp .ne 7, 3) := by decide +kernel
theorem dX2_isLike_24 : decode cX2_isLike 24 = .ok (.iconst 1, 1) := by decide +kernel
theorem dX2_isLike_25 : decode cX2_isLike 25 = .ok (.goto 4, 3) := by decide +kernel
theorem dX2_isLike_28 : decode cX2_isLike 28 = .ok (.iconst 0, 1) := by decide +kernel
theorem dX2_isLike_29 : decode cX2_isLike 29 = .ok (.ireturn, 1) := by decide +kernel
theorem dX2_isWaiting_0 : decode cX2_isWaiting 0 = .ok (.aload_n 0, 1) := by decide +kernel
theorem dX2_isWaiting_1 : decode cX2_isWaiting 1 = .ok (.invokevirtual 47, 3) := by decide +kernel
theorem dX2_isWaiting_4 : decode cX2_isWaiting 4 = .ok (.ifCond .eq 14, 3) := by decide +kernel
theorem dX2_isWaiting_7 : decode cX2_isWaiting 7 = .ok (.aload_n 0, 1) := by decide +kernel
theorem dX2_isWaiting_8 : decode cX2_isWaiting 8 = .ok (.getfield 51, 3) := by decide +kernel
theorem dX2_isWaiting_11 : decode cX2_isWaiting 11 = .ok (.ifCond .ne 7, 3) := by decide +kernel
theorem dX2_isWaiting_14 : decode cX2_isWaiting 14 = .ok (.iconst 1, 1) := by decide +kernel
theorem dX2_isWaiting_15 : decode cX2_isWaiting 15 = .ok (.goto 4, 3) := by decide +kernel
theorem dX2_isWaiting_18 : decode cX2_isWaiting 18 = .ok (.iconst 0, 1) := by decide +kernel
theorem dX2_isWaiting_19 : decode cX2_isWaiting 19 = .ok (.ireturn, 1) := by decide +kernel
theorem dX2_isHeard_0 : decode cX2_isHeard 0 = .ok (.aload_n 0, 1) := by decide +kernel
theorem dX2_isHeard_1 : decode cX2_isHeard 1 = .ok (.getfield 37, 3) := by decide +kernel
theorem dX2_isHeard_4 : decode cX2_isHeard 4 = .ok (.ifCond .ne 14, 3) := by decide +kernel
theorem dX2_isHeard_7 : decode cX2_isHeard 7 = .ok (.aload_n 0, 1) := by decide +kernel
theorem dX2_isHeard_8 : decode cX2_isHeard 8 = .ok (.getfield 41, 3) := by decide +kernel
theorem dX2_isHeard_11 : decode cX2_isHeard 11 = .ok (.ifCond .ne 7, 3) := by decide +kernel
theorem dX2_isHeard_14 : decode cX2_isHeard 14 = .ok (.iconst 1, 1) := by decide +kernel
theorem dX2_isHeard_15 : decode cX2_isHeard 15 = .ok (.goto 4, 3) := by decide +kernel
theorem dX2_isHeard_18 : decode cX2_isHeard 18 = .ok (.iconst 0, 1) := by decide +kernel
theorem dX2_isHeard_19 : decode cX2_isHeard 19 = .ok (.ireturn, 1) := by decide +kernel
theorem dX2_init_0 : decode cX2_init 0 = .ok (.aload_n 0, 1) := by decide +kernel
theorem dX2_init_1 : decode cX2_init 1 = .ok (.invokespecial 3, 3) := by decide +kernel
theorem dX2_init_4 : decode cX2_init 4 = .ok (.aload_n 0, 1) := by decide +kernel
theorem dX2_init_5 : decode cX2_init 5 = .ok (.new 9, 3) := by decide +kernel
theorem dX2_init_8 : decode cX2_init 8 = .ok (.dup, 1) := by decide +kernel
theorem dX2_init_9 : decode cX2_init 9 = .ok (.invokespecial 11, 3) := by decide +kernel
theorem dX2_init_12 : decode cX2_init 12 = .ok (.putfield 12, 3) := by decide +kernel
theorem dX2_init_15 : decode cX2_init 15 = .ok (.aload_n 0, 1) := by decide +kernel
theorem dX2_init_16 : decode cX2_init 16 = .ok (.iload_n 1, 1) := by decide +kernel
theorem dX2_init_17 : decode cX2_init 17 = .ok (.putfield 18, 3) := by decide +kernel
theorem dX2_init_20 : decode cX2_init 20 = .ok (.aload_n 0, 1) := by decide +kernel
theorem dX2_init_21 : decode cX2_init 21 = .ok (.iload_n 2, 1) := by decide +kernel
theorem dX2_init_22 : decode cX2_init 22 = .ok (.putfield 22, 3) := by decide +kernel
theorem dX2_init_25 : decode cX2_init 25 = .ok (.aload_n 0, 1) := by decide +kernel
theorem dX2_init_26 : decode cX2_init 26 = .ok (.iload_n 3, 1) := by decide +kernel
theorem dX2_init_27 : decode cX2_init 27 = .ok (.putfield 25, 3) := by decide +kernel
theorem dX2_init_30 : decode cX2_init 30 = .ok (.aload_n 0, 1) := by decide +kernel
theorem dX2_init_31 : decode cX2_init 31 = .ok (.iload 4, 2) := by decide +kernel
theorem dX2_init_33 : decode cX2_init 33 = .ok (.putfield 28, 3) := by decide +kernel
theorem dX2_init_36 : decode cX2_init 36 = .ok (.aload_n 0, 1) := by decide +kernel
theorem dX2_init_37 : decode cX2_init 37 = .ok (.iload 5, 2) := by decide +kernel
theorem dX2_init_39 : decode cX2_init 39 = .ok (.putfield 31, 3) := by decide +kernel
theorem dX2_init_42 : decode cX2_init 42 = .ok (.aload_n 0, 1) := by decide +kernel
theorem dX2_init_43 : decode cX2_init 43 = .ok (.iload 6, 2) := by decide +kernel
theorem dX2_init_45 : decode cX2_init 45 = .ok (.putfield 34, 3) := by decide +kernel
theorem dX2_init_48 : decode cX2_init 48 = .ok (.aload_n 0, 1) := by decide +kernel
theorem dX2_init_49 : decode cX2_init 49 = .ok (.iload 7, 2) := by decide +kernel
theorem dX2_init_51 : decode cX2_init 51 = .ok (.putfield 37, 3) := by decide +kernel
theorem dX2_init_54 : decode cX2_init 54 = .ok (.aload_n 0, 1) := by decide +kernel
theorem dX2_init_55 : decode cX2_init 55 = .ok (.iload 8, 2) := by decide +kernel
theorem dX2_init_57 : decode cX2_init 57 = .ok (.putfield 41, 3) := by decide +kernel
theorem dX2_init_60 : decode cX2_init 60 = .ok (.aload_n 0, 1) := by decide +kernel
theorem dX2_init_61 : decode cX2_init 61 = .ok (.iload_n 2, 1) := by decide +kernel
theorem dX2_init_62 : decode cX2_init 62 = .ok (.putfield 44, 3) := by decide +kernel
theorem dX2_init_65 : decode cX2_init 65 = .ok (.return_, 1) := by decide +kernel
theorem dX2_isAt_0 : decode cX2_isAt 0 = .ok (.aload_n 0, 1) := by decide +kernel
theorem dX2_isAt_1 : decode cX2_isAt 1 = .ok (.getfield 31, 3) := by decide +kernel
theorem dX2_isAt_4 : decode cX2_isAt 4 = .ok (.iconst 3, 1) := by decide +kernel
theorem dX2_isAt_5 : decode cX2_isAt 5 = .ok (.iconst 4, 1) := by decide +kernel
theorem dX2_isAt_6 : decode cX2_isAt 6 = .ok (.iload_n 1, 1) := by decide +kernel
theorem dX2_isAt_7 : decode cX2_isAt 7 = .ok (.isub, 1) := by decide +kernel
theorem dX2_isAt_8 : decode cX2_isAt 8 = .ok (.imul, 1) := by decide +kernel
theorem dX2_isAt_9 : decode cX2_isAt 9 = .ok (.ishr, 1) := by decide +kernel
theorem dX2_isAt_10 : decode cX2_isAt 10 = .ok (.iload_n 2, 1) := by decide +kernel
theorem dX2_isAt_11 : decode cX2_isAt 11 = .ok (.iconst 3, 1) := by decide +kernel
theorem dX2_isAt_12 : decode cX2_isAt 12 = .ok (.iconst 4, 1) := by decide +kernel
theorem dX2_isAt_13 : decode cX2_isAt 13 = .ok (.iload_n 1, 1) := by decide +kernel
theorem dX2_isAt_14 : decode cX2_isAt 14 = .ok (.isub, 1) := by decide +kernel
theorem dX2_isAt_15 : decode cX2_isAt 15 = .ok (.imul, 1) := by decide +kernel
theorem dX2_isAt_16 : decode cX2_isAt 16 = .ok (.ishr, 1) := by decide +kernel
theorem dX2_isAt_17 : decode cX2_isAt 17 = .ok (.if_icmp .ne 7, 3) := by decide +kernel
theorem dX2_isAt_20 : decode cX2_isAt 20 = .ok (.iconst 1, 1) := by decide +kernel
theorem dX2_isAt_21 : decode cX2_isAt 21 = .ok (.goto 4, 3) := by decide +kernel
theorem dX2_isAt_24 : decode cX2_isAt 24 = .ok (.iconst 0, 1) := by decide +kernel
theorem dX2_isAt_25 : decode cX2_isAt 25 = .ok (.ireturn, 1) := by decide +kernel
theorem dX3_init_0 : decode cX3_init 0 = .ok (.aload_n 0, 1) := by decide +kernel
theorem dX3_init_1 : decode cX3_init 1 = .ok (.invokespecial 1, 3) := by decide +kernel
theorem dX3_init_4 : decode cX3_init 4 = .ok (.aload_n 0, 1) := by decide +kernel
theorem dX3_init_5 : decode cX3_init 5 = .ok (.iload_n 1, 1) := by decide +kernel
theorem dX3_init_6 : decode cX3_init 6 = .ok (.putfield 7, 3) := by decide +kernel
theorem dX3_init_9 : decode cX3_init 9 = .ok (.aload_n 0, 1) := by decide +kernel
theorem dX3_init_10 : decode cX3_init 10 = .ok (.iload_n 2, 1) := by decide +kernel
theorem dX3_init_11 : decode cX3_init 11 = .ok (.putfield 13, 3) := by decide +kernel
theorem dX3_init_14 : decode cX3_init 14 = .ok (.return_, 1) := by decide +kernel
theorem dX4_init_0 : decode cX4_init 0 = .ok (.aload_n 0, 1) := by decide +kernel
theorem dX4_init_1 : decode cX4_init 1 = .ok (.invokespecial 1, 3) := by decide +kernel
theorem dX4_init_4 : decode cX4_init 4 = .ok (.aload_n 0, 1) := by decide +kernel
theorem dX4_init_5 : decode cX4_init 5 = .ok (.new 7, 3) := by decide +kernel
theorem dX4_init_8 : decode cX4_init 8 = .ok (.dup, 1) := by decide +kernel
theorem dX4_init_9 : decode cX4_init 9 = .ok (.invokespecial 9, 3) := by decide +kernel
theorem dX4_init_12 : decode cX4_init 12 = .ok (.putfield 10, 3) := by decide +kernel
theorem dX4_init_15 : decode cX4_init 15 = .ok (.return_, 1) := by decide +kernel
theorem dX4_number_0 : decode cX4_number 0 = .ok (.aload_n 0, 1) := by decide +kernel
theorem dX4_number_1 : decode cX4_number 1 = .ok (.getfield 10, 3) := by decide +kernel
theorem dX4_number_4 : decode cX4_number 4 = .ok (.iconst 0, 1) := by decide +kernel
theorem dX4_number_5 : decode cX4_number 5 = .ok (.invokevirtual 16, 3) := by decide +kernel
theorem dX4_number_8 : decode cX4_number 8 = .ok (.checkcast 20, 3) := by decide +kernel
theorem dX4_number_11 : decode cX4_number 11 = .ok (.getfield 22, 3) := by decide +kernel
theorem dX4_number_14 : decode cX4_number 14 = .ok (.ireturn, 1) := by decide +kernel
theorem dX4_minutes_0 : decode cX4_minutes 0 = .ok (.iconst 5, 1) := by decide +kernel
theorem dX4_minutes_1 : decode cX4_minutes 1 = .ok (.iconst 2, 1) := by decide +kernel
theorem dX4_minutes_2 : decode cX4_minutes 2 = .ok (.aload_n 0, 1) := by decide +kernel
theorem dX4_minutes_3 : decode cX4_minutes 3 = .ok (.getfield 10, 3) := by decide +kernel
theorem dX4_minutes_6 : decode cX4_minutes 6 = .ok (.invokevirtual 26, 3) := by decide +kernel
theorem dX4_minutes_9 : decode cX4_minutes 9 = .ok (.imul, 1) := by decide +kernel
theorem dX4_minutes_10 : decode cX4_minutes 10 = .ok (.iadd, 1) := by decide +kernel
theorem dX4_minutes_11 : decode cX4_minutes 11 = .ok (.ireturn, 1) := by decide +kernel
theorem dL_law_0 : decode cL_law 0 = .ok (.new 7, 3) := by decide +kernel
theorem dL_law_3 : decode cL_law 3 = .ok (.dup, 1) := by decide +kernel
theorem dL_law_4 : decode cL_law 4 = .ok (.invokespecial 9, 3) := by decide +kernel
theorem dL_law_7 : decode cL_law 7 = .ok (.astore_n 1, 1) := by decide +kernel
theorem dL_law_8 : decode cL_law 8 = .ok (.new 10, 3) := by decide +kernel
theorem dL_law_11 : decode cL_law 11 = .ok (.dup, 1) := by decide +kernel
theorem dL_law_12 : decode cL_law 12 = .ok (.invokespecial 12, 3) := by decide +kernel
theorem dL_law_15 : decode cL_law 15 = .ok (.astore_n 2, 1) := by decide +kernel
theorem dL_law_16 : decode cL_law 16 = .ok (.iconst 0, 1) := by decide +kernel
theorem dL_law_17 : decode cL_law 17 = .ok (.istore_n 3, 1) := by decide +kernel
theorem dL_law_18 : decode cL_law 18 = .ok (.iload_n 3, 1) := by decide +kernel
theorem dL_law_19 : decode cL_law 19 = .ok (.aload_n 0, 1) := by decide +kernel
theorem dL_law_20 : decode cL_law 20 = .ok (.arraylength, 1) := by decide +kernel
theorem dL_law_21 : decode cL_law 21 = .ok (.iconst 5, 1) := by decide +kernel
theorem dL_law_22 : decode cL_law 22 = .ok (.isub, 1) := by decide +kernel
theorem dL_law_23 : decode cL_law 23 = .ok (.if_icmp .gt 675, 3) := by decide +kernel
theorem dL_law_26 : decode cL_law 26 = .ok (.aload_n 0, 1) := by decide +kernel
theorem dL_law_27 : decode cL_law 27 = .ok (.iload_n 3, 1) := by decide +kernel
theorem dL_law_28 : decode cL_law 28 = .ok (.iaload, 1) := by decide +kernel
theorem dL_law_29 : decode cL_law 29 = .ok (.bipush 15, 2) := by decide +kernel
theorem dL_law_31 : decode cL_law 31 = .ok (.iand, 1) := by decide +kernel
theorem dL_law_32 : decode cL_law 32 = .ok (.tableswitch 660 0 15 #[80, 103, 156, 199, 232, 291, 350, 383, 426, 459, 482, 515, 538, 571, 604, 637], 80) := by decide +kernel
theorem dL_law_112 : decode cL_law 112 = .ok (.aload_n 1, 1) := by decide +kernel
theorem dL_law_113 : decode cL_law 113 = .ok (.aload_n 0, 1) := by decide +kernel
theorem dL_law_114 : decode cL_law 114 = .ok (.iload_n 3, 1) := by decide +kernel
theorem dL_law_115 : decode cL_law 115 = .ok (.iconst 1, 1) := by decide +kernel
theorem dL_law_116 : decode cL_law 116 = .ok (.iadd, 1) := by decide +kernel
theorem dL_law_117 : decode cL_law 117 = .ok (.iaload, 1) := by decide +kernel
theorem dL_law_118 : decode cL_law 118 = .ok (.invokevirtual 13, 3) := by decide +kernel
theorem dL_law_121 : decode cL_law 121 = .ok (.aload_n 2, 1) := by decide +kernel
theorem dL_law_122 : decode cL_law 122 = .ok (.aload_n 0, 1) := by decide +kernel
theorem dL_law_123 : decode cL_law 123 = .ok (.iload_n 3, 1) := by decide +kernel
theorem dL_law_124 : decode cL_law 124 = .ok (.iconst 1, 1) := by decide +kernel
theorem dL_law_125 : decode cL_law 125 = .ok (.iadd, 1) := by decide +kernel
theorem dL_law_126 : decode cL_law 126 = .ok (.iaload, 1) := by decide +kernel
theorem dL_law_127 : decode cL_law 127 = .ok (.invokevirtual 17, 3) := by decide +kernel
theorem dL_law_130 : decode cL_law 130 = .ok (.if_icmp .eq 562, 3) := by decide +kernel
theorem dL_law_133 : decode cL_law 133 = .ok (.iconst 0, 1) := by decide +kernel
theorem dL_law_134 : decode cL_law 134 = .ok (.ireturn, 1) := by decide +kernel
theorem dL_law_135 : decode cL_law 135 = .ok (.aload_n 1, 1) := by decide +kernel
theorem dL_law_136 : decode cL_law 136 = .ok (.aload_n 0, 1) := by decide +kernel
theorem dL_law_137 : decode cL_law 137 = .ok (.iload_n 3, 1) := by decide +kernel
theorem dL_law_138 : decode cL_law 138 = .ok (.iconst 1, 1) := by decide +kernel
theorem dL_law_139 : decode cL_law 139 = .ok (.iadd, 1) := by decide +kernel
theorem dL_law_140 : decode cL_law 140 = .ok (.iaload, 1) := by decide +kernel
theorem dL_law_141 : decode cL_law 141 = .ok (.aload_n 0, 1) := by decide +kernel
theorem dL_law_142 : decode cL_law 142 = .ok (.iload_n 3, 1) := by decide +kernel
theorem dL_law_143 : decode cL_law 143 = .ok (.iconst 2, 1) := by decide +kernel
theorem dL_law_144 : decode cL_law 144 = .ok (.iadd, 1) := by decide +kernel
theorem dL_law_145 : decode cL_law 145 = .ok (.iaload, 1) := by decide +kernel
theorem dL_law_146 : decode cL_law 146 = .ok (.aload_n 0, 1) := by decide +kernel
theorem dL_law_147 : decode cL_law 147 = .ok (.iload_n 3, 1) := by decide +kernel
theorem dL_law_148 : decode cL_law 148 = .ok (.iconst 3, 1) := by decide +kernel
theorem dL_law_149 : decode cL_law 149 = .ok (.iadd, 1) := by decide +kernel
theorem dL_law_150 : decode cL_law 150 = .ok (.iaload, 1) := by decide +kernel
theorem dL_law_151 : decode cL_law 151 = .ok (.aload_n 0, 1) := by decide +kernel
theorem dL_law_152 : decode cL_law 152 = .ok (.iload_n 3, 1) := by decide +kernel
theorem dL_law_153 : decode cL_law 153 = .ok (.iconst 4, 1) := by decide +kernel
theorem dL_law_154 : decode cL_law 154 = .ok (.iadd, 1) := by decide +kernel
theorem dL_law_155 : decode cL_law 155 = .ok (.iaload, 1) := by decide +kernel
theorem dL_law_156 : decode cL_law 156 = .ok (.invokevirtual 18, 3) := by decide +kernel
theorem dL_law_159 : decode cL_law 159 = .ok (.aload_n 2, 1) := by decide +kernel
theorem dL_law_160 : decode cL_law 160 = .ok (.aload_n 0, 1) := by decide +kernel
theorem dL_law_161 : decode cL_law 161 = .ok (.iload_n 3, 1) := by decide +kernel
theorem dL_law_162 : decode cL_law 162 = .ok (.iconst 1, 1) := by decide +kernel
theorem dL_law_163 : decode cL_law 163 = .ok (.iadd, 1) := by decide +kernel
theorem dL_law_164 : decode cL_law 164 = .ok (.iaload, 1) := by decide +kernel
theorem dL_law_165 : decode cL_law 165 = .ok (.aload_n 0, 1) := by decide +kernel
theorem dL_law_166 : decode cL_law 166 = .ok (.iload_n 3, 1) := by decide +kernel
theorem dL_law_167 : decode cL_law 167 = .ok (.iconst 2, 1) := by decide +kernel
theorem dL_law_168 : decode cL_law 168 = .ok (.iadd, 1) := by decide +kernel
theorem dL_law_169 : decode cL_law 169 = .ok (.iaload, 1) := by decide +kernel
theorem dL_law_170 : decode cL_law 170 = .ok (.aload_n 0, 1) := by decide +kernel
theorem dL_law_171 : decode cL_law 171 = .ok (.iload_n 3, 1) := by decide +kernel
theorem dL_law_172 : decode cL_law 172 = .ok (.iconst 3, 1) := by decide +kernel
theorem dL_law_173 : decode cL_law 173 = .ok (.iadd, 1) := by decide +kernel
theorem dL_law_174 : decode cL_law 174 = .ok (.iaload, 1) := by decide +kernel
theorem dL_law_175 : decode cL_law 175 = .ok (.aload_n 0, 1) := by decide +kernel
theorem dL_law_176 : decode cL_law 176 = .ok (.iload_n 3, 1) := by decide +kernel
theorem dL_law_177 : decode cL_law 177 = .ok (.iconst 4, 1) := by decide +kernel
theorem dL_law_178 : decode cL_law 178 = .ok (.iadd, 1) := by decide +kernel
theorem dL_law_179 : decode cL_law 179 = .ok (.iaload, 1) := by decide +kernel
theorem dL_law_180 : decode cL_law 180 = .ok (.invokevirtual 22, 3) := by decide +kernel
theorem dL_law_183 : decode cL_law 183 = .ok (.if_icmp .eq 509, 3) := by decide +kernel
theorem dL_law_186 : decode cL_law 186 = .ok (.iconst 0, 1) := by decide +kernel
theorem dL_law_187 : decode cL_law 187 = .ok (.ireturn, 1) := by decide +kernel
theorem dL_law_188 : decode cL_law 188 = .ok (.aload_n 1, 1) := by decide +kernel
theorem dL_law_189 : decode cL_law 189 = .ok (.aload_n 0, 1) := by decide +kernel
theorem dL_law_190 : decode cL_law 190 = .ok (.iload_n 3, 1) := by decide +kernel
theorem dL_law_191 : decode cL_law 191 = .ok (.iconst 1, 1) := by decide +kernel
theorem dL_law_192 : decode cL_law 192 = .ok (.iadd, 1) := by decide +kernel
theorem dL_law_193 : decode cL_law 193 = .ok (.iaload, 1) := by decide +kernel
theorem dL_law_194 : decode cL_law 194 = .ok (.aload_n 0, 1) := by decide +kernel
theorem dL_law_195 : decode cL_law 195 = .ok (.iload_n 3, 1) := by decide +kernel
theorem dL_law_196 : decode cL_law 196 = .ok (.iconst 2, 1) := by decide +kernel
theorem dL_law_197 : decode cL_law 197 = .ok (.iadd, 1) := by decide +kernel
theorem dL_law_198 : decode cL_law 198 = .ok (.iaload, 1) := by decide +kernel
theorem dL_law_199 : decode cL_law 199 = .ok (.aload_n 0, 1) := by decide +kernel
theorem dL_law_200 : decode cL_law 200 = .ok (.iload_n 3, 1) := by decide +kernel
theorem dL_law_201 : decode cL_law 201 = .ok (.iconst 3, 1) := by decide +kernel
theorem dL_law_202 : decode cL_law 202 = .ok (.iadd, 1) := by decide +kernel
theorem dL_law_203 : decode cL_law 203 = .ok (.iaload, 1) := by decide +kernel
theorem dL_law_204 : decode cL_law 204 = .ok (.invokevirtual 23, 3) := by decide +kernel
theorem dL_law_207 : decode cL_law 207 = .ok (.aload_n 2, 1) := by decide +kernel
theorem dL_law_208 : decode cL_law 208 = .ok (.aload_n 0, 1) := by decide +kernel
theorem dL_law_209 : decode cL_law 209 = .ok (.iload_n 3, 1) := by decide +kernel
theorem dL_law_210 : decode cL_law 210 = .ok (.iconst 1, 1) := by decide +kernel
theorem dL_law_211 : decode cL_law 211 = .ok (.iadd, 1) := by decide +kernel
theorem dL_law_212 : decode cL_law 212 = .ok (.iaload, 1) := by decide +kernel
theorem dL_law_213 : decode cL_law 213 = .ok (.aload_n 0, 1) := by decide +kernel
theorem dL_law_214 : decode cL_law 214 = .ok (.iload_n 3, 1) := by decide +kernel
theorem dL_law_215 : decode cL_law 215 = .ok (.iconst 2, 1) := by decide +kernel
theorem dL_law_216 : decode cL_law 216 = .ok (.iadd, 1) := by decide +kernel
theorem dL_law_217 : decode cL_law 217 = .ok (.iaload, 1) := by decide +kernel
theorem dL_law_218 : decode cL_law 218 = .ok (.aload_n 0, 1) := by decide +kernel
theorem dL_law_219 : decode cL_law 219 = .ok (.iload_n 3, 1) := by decide +kernel
theorem dL_law_220 : decode cL_law 220 = .ok (.iconst 3, 1) := by decide +kernel
theorem dL_law_221 : decode cL_law 221 = .ok (.iadd, 1) := by decide +kernel
theorem dL_law_222 : decode cL_law 222 = .ok (.iaload, 1) := by decide +kernel
theorem dL_law_223 : decode cL_law 223 = .ok (.invokevirtual 27, 3) := by decide +kernel
theorem dL_law_226 : decode cL_law 226 = .ok (.if_icmp .eq 466, 3) := by decide +kernel
theorem dL_law_229 : decode cL_law 229 = .ok (.iconst 0, 1) := by decide +kernel
theorem dL_law_230 : decode cL_law 230 = .ok (.ireturn, 1) := by decide +kernel
theorem dL_law_231 : decode cL_law 231 = .ok (.aload_n 1, 1) := by decide +kernel
theorem dL_law_232 : decode cL_law 232 = .ok (.aload_n 0, 1) := by decide +kernel
theorem dL_law_233 : decode cL_law 233 = .ok (.iload_n 3, 1) := by decide +kernel
theorem dL_law_234 : decode cL_law 234 = .ok (.iconst 1, 1) := by decide +kernel
theorem dL_law_235 : decode cL_law 235 = .ok (.iadd, 1) := by decide +kernel
theorem dL_law_236 : decode cL_law 236 = .ok (.iaload, 1) := by decide +kernel
theorem dL_law_237 : decode cL_law 237 = .ok (.aload_n 0, 1) := by decide +kernel
theorem dL_law_238 : decode cL_law 238 = .ok (.iload_n 3, 1) := by decide +kernel
theorem dL_law_239 : decode cL_law 239 = .ok (.iconst 2, 1) := by decide +kernel
theorem dL_law_240 : decode cL_law 240 = .ok (.iadd, 1) := by decide +kernel
theorem dL_law_241 : decode cL_law 241 = .ok (.iaload, 1) := by decide +kernel
theorem dL_law_242 : decode cL_law 242 = .ok (.invokevirtual 28, 3) := by decide +kernel
theorem dL_law_245 : decode cL_law 245 = .ok (.aload_n 2, 1) := by decide +kernel
theorem dL_law_246 : decode cL_law 246 = .ok (.aload_n 0, 1) := by decide +kernel
theorem dL_law_247 : decode cL_law 247 = .ok (.iload_n 3, 1) := by decide +kernel
theorem dL_law_248 : decode cL_law 248 = .ok (.iconst 1, 1) := by decide +kernel
theorem dL_law_249 : decode cL_law 249 = .ok (.iadd, 1) := by decide +kernel
theorem dL_law_250 : decode cL_law 250 = .ok (.iaload, 1) := by decide +kernel
theorem dL_law_251 : decode cL_law 251 = .ok (.aload_n 0, 1) := by decide +kernel
theorem dL_law_252 : decode cL_law 252 = .ok (.iload_n 3, 1) := by decide +kernel
theorem dL_law_253 : decode cL_law 253 = .ok (.iconst 2, 1) := by decide +kernel
theorem dL_law_254 : decode cL_law 254 = .ok (.iadd, 1) := by decide +kernel
theorem dL_law_255 : decode cL_law 255 = .ok (.iaload, 1) := by decide +kernel
theorem dL_law_256 : decode cL_law 256 = .ok (.invokevirtual 32, 3) := by decide +kernel
theorem dL_law_259 : decode cL_law 259 = .ok (.if_icmp .eq 433, 3) := by decide +kernel
theorem dL_law_262 : decode cL_law 262 = .ok (.iconst 0, 1) := by decide +kernel
theorem dL_law_263 : decode cL_law 263 = .ok (.ireturn, 1) := by decide +kernel
theorem dL_law_264 : decode cL_law 264 = .ok (.aload_n 1, 1) := by decide +kernel
theorem dL_law_265 : decode cL_law 265 = .ok (.aload_n 0, 1) := by decide +kernel
theorem dL_law_266 : decode cL_law 266 = .ok (.iload_n 3, 1) := by decide +kernel
theorem dL_law_267 : decode cL_law 267 = .ok (.iconst 1, 1) := by decide +kernel
theorem dL_law_268 : decode cL_law 268 = .ok (.iadd, 1) := by decide +kernel
theorem dL_law_269 : decode cL_law 269 = .ok (.iaload, 1) := by decide +kernel
theorem dL_law_270 : decode cL_law 270 = .ok (.aload_n 0, 1) := by decide +kernel
theorem dL_law_271 : decode cL_law 271 = .ok (.iload_n 3, 1) := by decide +kernel
theorem dL_law_272 : decode cL_law 272 = .ok (.iconst 2, 1) := by decide +kernel
theorem dL_law_273 : decode cL_law 273 = .ok (.iadd, 1) := by decide +kernel
theorem dL_law_274 : decode cL_law 274 = .ok (.iaload, 1) := by decide +kernel
theorem dL_law_275 : decode cL_law 275 = .ok (.aload_n 0, 1) := by decide +kernel
theorem dL_law_276 : decode cL_law 276 = .ok (.iload_n 3, 1) := by decide +kernel
theorem dL_law_277 : decode cL_law 277 = .ok (.iconst 3, 1) := by decide +kernel
theorem dL_law_278 : decode cL_law 278 = .ok (.iadd, 1) := by decide +kernel
theorem dL_law_279 : decode cL_law 279 = .ok (.iaload, 1) := by decide +kernel
theorem dL_law_280 : decode cL_law 280 = .ok (.ifCond .eq 7, 3) := by decide +kernel
theorem dL_law_283 : decode cL_law 283 = .ok (.iconst 1, 1) := by decide +kernel
theorem dL_law_284 : decode cL_law 284 = .ok (.goto 4, 3) := by decide +kernel
theorem dL_law_287 : decode cL_law 287 = .ok (.iconst 0, 1) := by decide +kernel
theorem dL_law_288 : decode cL_law 288 = .ok (.invokevirtual 33, 3) := by decide +kernel
theorem dL_law_291 : decode cL_law 291 = .ok (.aload_n 2, 1) := by decide +kernel
theorem dL_law_292 : decode cL_law 292 = .ok (.aload_n 0, 1) := by decide +kernel
theorem dL_law_293 : decode cL_law 293 = .ok (.iload_n 3, 1) := by decide +kernel
theorem dL_law_294 : decode cL_law 294 = .ok (.iconst 1, 1) := by decide +kernel
theorem dL_law_295 : decode cL_law 295 = .ok (.iadd, 1) := by decide +kernel
theorem dL_law_296 : decode cL_law 296 = .ok (.iaload, 1) := by decide +kernel
theorem dL_law_297 : decode cL_law 297 = .ok (.aload_n 0, 1) := by decide +kernel
theorem dL_law_298 : decode cL_law 298 = .ok (.iload_n 3, 1) := by decide +kernel
theorem dL_law_299 : decode cL_law 299 = .ok (.iconst 2, 1) := by decide +kernel
theorem dL_law_300 : decode cL_law 300 = .ok (.iadd, 1) := by decide +kernel
theorem dL_law_301 : decode cL_law 301 = .ok (.iaload, 1) := by decide +kernel
theorem dL_law_302 : decode cL_law 302 = .ok (.aload_n 0, 1) := by decide +kernel
theorem dL_law_303 : decode cL_law 303 = .ok (.iload_n 3, 1) := by decide +kernel
theorem dL_law_304 : decode cL_law 304 = .ok (.iconst 3, 1) := by decide +kernel
theorem dL_law_305 : decode cL_law 305 = .ok (.iadd, 1) := by decide +kernel
theorem dL_law_306 : decode cL_law 306 = .ok (.iaload, 1) := by decide +kernel
theorem dL_law_307 : decode cL_law 307 = .ok (.ifCond .eq 7, 3) := by decide +kernel
theorem dL_law_310 : decode cL_law 310 = .ok (.iconst 1, 1) := by decide +kernel
theorem dL_law_311 : decode cL_law 311 = .ok (.goto 4, 3) := by decide +kernel
theorem dL_law_314 : decode cL_law 314 = .ok (.iconst 0, 1) := by decide +kernel
theorem dL_law_315 : decode cL_law 315 = .ok (.invokevirtual 37, 3) := by decide +kernel
theorem dL_law_318 : decode cL_law 318 = .ok (.if_icmp .eq 374, 3) := by decide +kernel
theorem dL_law_321 : decode cL_law 321 = .ok (.iconst 0, 1) := by decide +kernel
theorem dL_law_322 : decode cL_law 322 = .ok (.ireturn, 1) := by decide +kernel
theorem dL_law_323 : decode cL_law 323 = .ok (.aload_n 1, 1) := by decide +kernel
theorem dL_law_324 : decode cL_law 324 = .ok (.aload_n 0, 1) := by decide +kernel
theorem dL_law_325 : decode cL_law 325 = .ok (.iload_n 3, 1) := by decide +kernel
theorem dL_law_326 : decode cL_law 326 = .ok (.iconst 1, 1) := by decide +kernel
theorem dL_law_327 : decode cL_law 327 = .ok (.iadd, 1) := by decide +kernel
theorem dL_law_328 : decode cL_law 328 = .ok (.iaload, 1) := by decide +kernel
theorem dL_law_329 : decode cL_law 329 = .ok (.aload_n 0, 1) := by decide +kernel
theorem dL_law_330 : decode cL_law 330 = .ok (.iload_n 3, 1) := by decide +kernel
theorem dL_law_331 : decode cL_law 331 = .ok (.iconst 2, 1) := by decide +kernel
theorem dL_law_332 : decode cL_law 332 = .ok (.iadd, 1) := by decide +kernel
theorem dL_law_333 : decode cL_law 333 = .ok (.iaload, 1) := by decide +kernel
theorem dL_law_334 : decode cL_law 334 = .ok (.aload_n 0, 1) := by decide +kernel
theorem dL_law_335 : decode cL_law 335 = .ok (.iload_n 3, 1) := by decide +kernel
theorem dL_law_336 : decode cL_law 336 = .ok (.iconst 3, 1) := by decide +kernel
theorem dL_law_337 : decode cL_law 337 = .ok (.iadd, 1) := by decide +kernel
theorem dL_law_338 : decode cL_law 338 = .ok (.iaload, 1) := by decide +kernel
theorem dL_law_339 : decode cL_law 339 = .ok (.ifCond .eq 7, 3) := by decide +kernel
theorem dL_law_342 : decode cL_law 342 = .ok (.iconst 1, 1) := by decide +kernel
theorem dL_law_343 : decode cL_law 343 = .ok (.goto 4, 3) := by decide +kernel
theorem dL_law_346 : decode cL_law 346 = .ok (.iconst 0, 1) := by decide +kernel
theorem dL_law_347 : decode cL_law 347 = .ok (.invokevirtual 38, 3) := by decide +kernel
theorem dL_law_350 : decode cL_law 350 = .ok (.aload_n 2, 1) := by decide +kernel
theorem dL_law_351 : decode cL_law 351 = .ok (.aload_n 0, 1) := by decide +kernel
theorem dL_law_352 : decode cL_law 352 = .ok (.iload_n 3, 1) := by decide +kernel
theorem dL_law_353 : decode cL_law 353 = .ok (.iconst 1, 1) := by decide +kernel
theorem dL_law_354 : decode cL_law 354 = .ok (.iadd, 1) := by decide +kernel
theorem dL_law_355 : decode cL_law 355 = .ok (.iaload, 1) := by decide +kernel
theorem dL_law_356 : decode cL_law 356 = .ok (.aload_n 0, 1) := by decide +kernel
theorem dL_law_357 : decode cL_law 357 = .ok (.iload_n 3, 1) := by decide +kernel
theorem dL_law_358 : decode cL_law 358 = .ok (.iconst 2, 1) := by decide +kernel
theorem dL_law_359 : decode cL_law 359 = .ok (.iadd, 1) := by decide +kernel
theorem dL_law_360 : decode cL_law 360 = .ok (.iaload, 1) := by decide +kernel
theorem dL_law_361 : decode cL_law 361 = .ok (.aload_n 0, 1) := by decide +kernel
theorem dL_law_362 : decode cL_law 362 = .ok (.iload_n 3, 1) := by decide +kernel
theorem dL_law_363 : decode cL_law 363 = .ok (.iconst 3, 1) := by decide +kernel
theorem dL_law_364 : decode cL_law 364 = .ok (.iadd, 1) := by decide +kernel
theorem dL_law_365 : decode cL_law 365 = .ok (.iaload, 1) := by decide +kernel
theorem dL_law_366 : decode cL_law 366 = .ok (.ifCond .eq 7, 3) := by decide +kernel
theorem dL_law_369 : decode cL_law 369 = .ok (.iconst 1, 1) := by decide +kernel
theorem dL_law_370 : decode cL_law 370 = .ok (.goto 4, 3) := by decide +kernel
theorem dL_law_373 : decode cL_law 373 = .ok (.iconst 0, 1) := by decide +kernel
theorem dL_law_374 : decode cL_law 374 = .ok (.invokevirtual 42, 3) := by decide +kernel
theorem dL_law_377 : decode cL_law 377 = .ok (.if_icmp .eq 315, 3) := by decide +kernel
theorem dL_law_380 : decode cL_law 380 = .ok (.iconst 0, 1) := by decide +kernel
theorem dL_law_381 : decode cL_law 381 = .ok (.ireturn, 1) := by decide +kernel
theorem dL_law_382 : decode cL_law 382 = .ok (.aload_n 1, 1) := by decide +kernel
theorem dL_law_383 : decode cL_law 383 = .ok (.aload_n 0, 1) := by decide +kernel
theorem dL_law_384 : decode cL_law 384 = .ok (.iload_n 3, 1) := by decide +kernel
theorem dL_law_385 : decode cL_law 385 = .ok (.iconst 1, 1) := by decide +kernel
theorem dL_law_386 : decode cL_law 386 = .ok (.iadd, 1) := by decide +kernel
theorem dL_law_387 : decode cL_law 387 = .ok (.iaload, 1) := by decide +kernel
theorem dL_law_388 : decode cL_law 388 = .ok (.aload_n 0, 1) := by decide +kernel
theorem dL_law_389 : decode cL_law 389 = .ok (.iload_n 3, 1) := by decide +kernel
theorem dL_law_390 : decode cL_law 390 = .ok (.iconst 2, 1) := by decide +kernel
theorem dL_law_391 : decode cL_law 391 = .ok (.iadd, 1) := by decide +kernel
theorem dL_law_392 : decode cL_law 392 = .ok (.iaload, 1) := by decide +kernel
theorem dL_law_393 : decode cL_law 393 = .ok (.invokevirtual 43, 3) := by decide +kernel
theorem dL_law_396 : decode cL_law 396 = .ok (.aload_n 2, 1) := by decide +kernel
theorem dL_law_397 : decode cL_law 397 = .ok (.aload_n 0, 1) := by decide +kernel
theorem dL_law_398 : decode cL_law 398 = .ok (.iload_n 3, 1) := by decide +kernel
