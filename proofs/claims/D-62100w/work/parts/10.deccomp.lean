theorem d_Ker_init_0 : decode b_Ker_init 0 = .ok (.aload_n 0, 1) := by decide +kernel
theorem d_Ker_init_1 : decode b_Ker_init 1 = .ok (.invokespecial 1, 3) := by decide +kernel
theorem d_Ker_init_4 : decode b_Ker_init 4 = .ok (.aload_n 0, 1) := by decide +kernel
theorem d_Ker_init_5 : decode b_Ker_init 5 = .ok (.new 7, 3) := by decide +kernel
theorem d_Ker_init_8 : decode b_Ker_init 8 = .ok (.dup, 1) := by decide +kernel
theorem d_Ker_init_9 : decode b_Ker_init 9 = .ok (.invokespecial 9, 3) := by decide +kernel
theorem d_Ker_init_12 : decode b_Ker_init 12 = .ok (.putfield 10, 3) := by decide +kernel
theorem d_Ker_init_15 : decode b_Ker_init 15 = .ok (.aload_n 0, 1) := by decide +kernel
theorem d_Ker_init_16 : decode b_Ker_init 16 = .ok (.new 16, 3) := by decide +kernel
theorem d_Ker_init_19 : decode b_Ker_init 19 = .ok (.dup, 1) := by decide +kernel
theorem d_Ker_init_20 : decode b_Ker_init 20 = .ok (.invokespecial 18, 3) := by decide +kernel
theorem d_Ker_init_23 : decode b_Ker_init 23 = .ok (.putfield 19, 3) := by decide +kernel
theorem d_Ker_init_26 : decode b_Ker_init 26 = .ok (.return_, 1) := by decide +kernel
theorem d_Machine_init_0 : decode b_Machine_init 0 = .ok (.aload_n 0, 1) := by decide +kernel
theorem d_Machine_init_1 : decode b_Machine_init 1 = .ok (.invokespecial 3, 3) := by decide +kernel
theorem d_Machine_init_4 : decode b_Machine_init 4 = .ok (.aload_n 0, 1) := by decide +kernel
theorem d_Machine_init_5 : decode b_Machine_init 5 = .ok (.iconst 4, 1) := by decide +kernel
theorem d_Machine_init_6 : decode b_Machine_init 6 = .ok (.anewarray 9, 3) := by decide +kernel
theorem d_Machine_init_9 : decode b_Machine_init 9 = .ok (.dup, 1) := by decide +kernel
theorem d_Machine_init_10 : decode b_Machine_init 10 = .ok (.iconst 0, 1) := by decide +kernel
theorem d_Machine_init_11 : decode b_Machine_init 11 = .ok (.new 9, 3) := by decide +kernel
theorem d_Machine_init_14 : decode b_Machine_init 14 = .ok (.dup, 1) := by decide +kernel
theorem d_Machine_init_15 : decode b_Machine_init 15 = .ok (.iconst 0, 1) := by decide +kernel
theorem d_Machine_init_16 : decode b_Machine_init 16 = .ok (.invokespecial 11, 3) := by decide +kernel
theorem d_Machine_init_19 : decode b_Machine_init 19 = .ok (.aastore, 1) := by decide +kernel
theorem d_Machine_init_20 : decode b_Machine_init 20 = .ok (.dup, 1) := by decide +kernel
theorem d_Machine_init_21 : decode b_Machine_init 21 = .ok (.iconst 1, 1) := by decide +kernel
theorem d_Machine_init_22 : decode b_Machine_init 22 = .ok (.new 9, 3) := by decide +kernel
theorem d_Machine_init_25 : decode b_Machine_init 25 = .ok (.dup, 1) := by decide +kernel
theorem d_Machine_init_26 : decode b_Machine_init 26 = .ok (.iconst 1, 1) := by decide +kernel
theorem d_Machine_init_27 : decode b_Machine_init 27 = .ok (.invokespecial 11, 3) := by decide +kernel
theorem d_Machine_init_30 : decode b_Machine_init 30 = .ok (.aastore, 1) := by decide +kernel
theorem d_Machine_init_31 : decode b_Machine_init 31 = .ok (.dup, 1) := by decide +kernel
theorem d_Machine_init_32 : decode b_Machine_init 32 = .ok (.iconst 2, 1) := by decide +kernel
theorem d_Machine_init_33 : decode b_Machine_init 33 = .ok (.new 9, 3) := by decide +kernel
theorem d_Machine_init_36 : decode b_Machine_init 36 = .ok (.dup, 1) := by decide +kernel
theorem d_Machine_init_37 : decode b_Machine_init 37 = .ok (.iconst 2, 1) := by decide +kernel
theorem d_Machine_init_38 : decode b_Machine_init 38 = .ok (.invokespecial 11, 3) := by decide +kernel
theorem d_Machine_init_41 : decode b_Machine_init 41 = .ok (.aastore, 1) := by decide +kernel
theorem d_Machine_init_42 : decode b_Machine_init 42 = .ok (.dup, 1) := by decide +kernel
theorem d_Machine_init_43 : decode b_Machine_init 43 = .ok (.iconst 3, 1) := by decide +kernel
theorem d_Machine_init_44 : decode b_Machine_init 44 = .ok (.new 9, 3) := by decide +kernel
theorem d_Machine_init_47 : decode b_Machine_init 47 = .ok (.dup, 1) := by decide +kernel
theorem d_Machine_init_48 : decode b_Machine_init 48 = .ok (.iconst 3, 1) := by decide +kernel
theorem d_Machine_init_49 : decode b_Machine_init 49 = .ok (.invokespecial 11, 3) := by decide +kernel
theorem d_Machine_init_52 : decode b_Machine_init 52 = .ok (.aastore, 1) := by decide +kernel
theorem d_Machine_init_53 : decode b_Machine_init 53 = .ok (.putfield 14, 3) := by decide +kernel
theorem d_Machine_init_56 : decode b_Machine_init 56 = .ok (.aload_n 0, 1) := by decide +kernel
theorem d_Machine_init_57 : decode b_Machine_init 57 = .ok (.iconst 4, 1) := by decide +kernel
theorem d_Machine_init_58 : decode b_Machine_init 58 = .ok (.anewarray 20, 3) := by decide +kernel
theorem d_Machine_init_61 : decode b_Machine_init 61 = .ok (.putfield 22, 3) := by decide +kernel
theorem d_Machine_init_64 : decode b_Machine_init 64 = .ok (.aload_n 0, 1) := by decide +kernel
theorem d_Machine_init_65 : decode b_Machine_init 65 = .ok (.new 26, 3) := by decide +kernel
theorem d_Machine_init_68 : decode b_Machine_init 68 = .ok (.dup, 1) := by decide +kernel
theorem d_Machine_init_69 : decode b_Machine_init 69 = .ok (.invokespecial 28, 3) := by decide +kernel
theorem d_Machine_init_72 : decode b_Machine_init 72 = .ok (.putfield 29, 3) := by decide +kernel
theorem d_Machine_init_75 : decode b_Machine_init 75 = .ok (.aload_n 0, 1) := by decide +kernel
theorem d_Machine_init_76 : decode b_Machine_init 76 = .ok (.bipush 10, 2) := by decide +kernel
theorem d_Machine_init_78 : decode b_Machine_init 78 = .ok (.newarray .int, 2) := by decide +kernel
theorem d_Machine_init_80 : decode b_Machine_init 80 = .ok (.putfield 33, 3) := by decide +kernel
theorem d_Machine_init_83 : decode b_Machine_init 83 = .ok (.iconst 0, 1) := by decide +kernel
theorem d_Machine_init_84 : decode b_Machine_init 84 = .ok (.istore_n 1, 1) := by decide +kernel
theorem d_Machine_init_85 : decode b_Machine_init 85 = .ok (.iload_n 1, 1) := by decide +kernel
theorem d_Machine_init_86 : decode b_Machine_init 86 = .ok (.bipush 10, 2) := by decide +kernel
theorem d_Machine_init_88 : decode b_Machine_init 88 = .ok (.if_icmp .ge 20, 3) := by decide +kernel
theorem d_Machine_init_91 : decode b_Machine_init 91 = .ok (.aload_n 0, 1) := by decide +kernel
theorem d_Machine_init_92 : decode b_Machine_init 92 = .ok (.getfield 29, 3) := by decide +kernel
theorem d_Machine_init_95 : decode b_Machine_init 95 = .ok (.iload_n 1, 1) := by decide +kernel
theorem d_Machine_init_96 : decode b_Machine_init 96 = .ok (.invokestatic 37, 3) := by decide +kernel
theorem d_Machine_init_99 : decode b_Machine_init 99 = .ok (.invokevirtual 43, 3) := by decide +kernel
theorem d_Machine_init_102 : decode b_Machine_init 102 = .ok (.iinc 1 1, 3) := by decide +kernel
theorem d_Machine_init_105 : decode b_Machine_init 105 = .ok (.goto (-20), 3) := by decide +kernel
theorem d_Machine_init_108 : decode b_Machine_init 108 = .ok (.return_, 1) := by decide +kernel
theorem d_Processor_init_0 : decode b_Processor_init 0 = .ok (.aload_n 0, 1) := by decide +kernel
theorem d_Processor_init_1 : decode b_Processor_init 1 = .ok (.invokespecial 3, 3) := by decide +kernel
theorem d_Processor_init_4 : decode b_Processor_init 4 = .ok (.aload_n 0, 1) := by decide +kernel
theorem d_Processor_init_5 : decode b_Processor_init 5 = .ok (.iconst 2, 1) := by decide +kernel
theorem d_Processor_init_6 : decode b_Processor_init 6 = .ok (.newarray .int, 2) := by decide +kernel
theorem d_Processor_init_8 : decode b_Processor_init 8 = .ok (.putfield 9, 3) := by decide +kernel
theorem d_Processor_init_11 : decode b_Processor_init 11 = .ok (.aload_n 0, 1) := by decide +kernel
theorem d_Processor_init_12 : decode b_Processor_init 12 = .ok (.new 15, 3) := by decide +kernel
theorem d_Processor_init_15 : decode b_Processor_init 15 = .ok (.dup, 1) := by decide +kernel
theorem d_Processor_init_16 : decode b_Processor_init 16 = .ok (.invokespecial 17, 3) := by decide +kernel
theorem d_Processor_init_19 : decode b_Processor_init 19 = .ok (.putfield 18, 3) := by decide +kernel
theorem d_Processor_init_22 : decode b_Processor_init 22 = .ok (.aload_n 0, 1) := by decide +kernel
theorem d_Processor_init_23 : decode b_Processor_init 23 = .ok (.new 15, 3) := by decide +kernel
theorem d_Processor_init_26 : decode b_Processor_init 26 = .ok (.dup, 1) := by decide +kernel
theorem d_Processor_init_27 : decode b_Processor_init 27 = .ok (.invokespecial 17, 3) := by decide +kernel
theorem d_Processor_init_30 : decode b_Processor_init 30 = .ok (.putfield 22, 3) := by decide +kernel
theorem d_Processor_init_33 : decode b_Processor_init 33 = .ok (.aload_n 0, 1) := by decide +kernel
theorem d_Processor_init_34 : decode b_Processor_init 34 = .ok (.iload_n 1, 1) := by decide +kernel
theorem d_Processor_init_35 : decode b_Processor_init 35 = .ok (.putfield 25, 3) := by decide +kernel
theorem d_Processor_init_38 : decode b_Processor_init 38 = .ok (.return_, 1) := by decide +kernel
theorem d_Line_init_0 : decode b_Line_init 0 = .ok (.aload_n 0, 1) := by decide +kernel
theorem d_Line_init_1 : decode b_Line_init 1 = .ok (.invokespecial 1, 3) := by decide +kernel
theorem d_Line_init_4 : decode b_Line_init 4 = .ok (.return_, 1) := by decide +kernel
theorem d_Int_valueOf_0 : decode b_Int_valueOf 0 = .ok (.iload_n 0, 1) := by decide +kernel
theorem d_Int_valueOf_1 : decode b_Int_valueOf 1 = .ok (.bipush (-128), 2) := by decide +kernel
theorem d_Int_valueOf_3 : decode b_Int_valueOf 3 = .ok (.if_icmp .lt 20, 3) := by decide +kernel
theorem d_Int_valueOf_6 : decode b_Int_valueOf 6 = .ok (.iload_n 0, 1) := by decide +kernel
theorem d_Int_valueOf_7 : decode b_Int_valueOf 7 = .ok (.getstatic 191, 3) := by decide +kernel
theorem d_Int_valueOf_10 : decode b_Int_valueOf 10 = .ok (.if_icmp .gt 13, 3) := by decide +kernel
theorem d_Int_valueOf_13 : decode b_Int_valueOf 13 = .ok (.getstatic 195, 3) := by decide +kernel
theorem d_Int_valueOf_16 : decode b_Int_valueOf 16 = .ok (.iload_n 0, 1) := by decide +kernel
theorem d_Int_valueOf_17 : decode b_Int_valueOf 17 = .ok (.sipush 128, 3) := by decide +kernel
theorem d_Int_valueOf_20 : decode b_Int_valueOf 20 = .ok (.iadd, 1) := by decide +kernel
theorem d_Int_valueOf_21 : decode b_Int_valueOf 21 = .ok (.aaload, 1) := by decide +kernel
theorem d_Int_valueOf_22 : decode b_Int_valueOf 22 = .ok (.areturn, 1) := by decide +kernel
theorem d_Int_valueOf_23 : decode b_Int_valueOf 23 = .ok (.new 1, 3) := by decide +kernel
theorem d_Int_valueOf_26 : decode b_Int_valueOf 26 = .ok (.dup, 1) := by decide +kernel
theorem d_Int_valueOf_27 : decode b_Int_valueOf 27 = .ok (.iload_n 0, 1) := by decide +kernel
theorem d_Int_valueOf_28 : decode b_Int_valueOf 28 = .ok (.invokespecial 199, 3) := by decide +kernel
theorem d_Int_valueOf_31 : decode b_Int_valueOf 31 = .ok (.areturn, 1) := by decide +kernel
theorem d_Line_add_0 : decode b_Line_add 0 = .ok (.new 7, 3) := by decide +kernel
theorem d_Line_add_3 : decode b_Line_add 3 = .ok (.dup, 1) := by decide +kernel
theorem d_Line_add_4 : decode b_Line_add 4 = .ok (.aload_n 1, 1) := by decide +kernel
theorem d_Line_add_5 : decode b_Line_add 5 = .ok (.invokespecial 9, 3) := by decide +kernel
theorem d_Line_add_8 : decode b_Line_add 8 = .ok (.astore_n 2, 1) := by decide +kernel
theorem d_Line_add_9 : decode b_Line_add 9 = .ok (.aload_n 0, 1) := by decide +kernel
theorem d_Line_add_10 : decode b_Line_add 10 = .ok (.getfield 12, 3) := by decide +kernel
theorem d_Line_add_13 : decode b_Line_add 13 = .ok (.ifnonnull 11, 3) := by decide +kernel
theorem d_Line_add_16 : decode b_Line_add 16 = .ok (.aload_n 0, 1) := by decide +kernel
theorem d_Line_add_17 : decode b_Line_add 17 = .ok (.aload_n 2, 1) := by decide +kernel
theorem d_Line_add_18 : decode b_Line_add 18 = .ok (.putfield 18, 3) := by decide +kernel
theorem d_Line_add_21 : decode b_Line_add 21 = .ok (.goto 11, 3) := by decide +kernel
theorem d_Line_add_24 : decode b_Line_add 24 = .ok (.aload_n 0, 1) := by decide +kernel
theorem d_Line_add_25 : decode b_Line_add 25 = .ok (.getfield 12, 3) := by decide +kernel
theorem d_Line_add_28 : decode b_Line_add 28 = .ok (.aload_n 2, 1) := by decide +kernel
theorem d_Line_add_29 : decode b_Line_add 29 = .ok (.putfield 21, 3) := by decide +kernel
theorem d_Line_add_32 : decode b_Line_add 32 = .ok (.aload_n 0, 1) := by decide +kernel
theorem d_Line_add_33 : decode b_Line_add 33 = .ok (.aload_n 2, 1) := by decide +kernel
theorem d_Line_add_34 : decode b_Line_add 34 = .ok (.putfield 12, 3) := by decide +kernel
theorem d_Line_add_37 : decode b_Line_add 37 = .ok (.aload_n 0, 1) := by decide +kernel
theorem d_Line_add_38 : decode b_Line_add 38 = .ok (.dup, 1) := by decide +kernel
theorem d_Line_add_39 : decode b_Line_add 39 = .ok (.getfield 24, 3) := by decide +kernel
theorem d_Line_add_42 : decode b_Line_add 42 = .ok (.iconst 1, 1) := by decide +kernel
theorem d_Line_add_43 : decode b_Line_add 43 = .ok (.iadd, 1) := by decide +kernel
theorem d_Line_add_44 : decode b_Line_add 44 = .ok (.putfield 24, 3) := by decide +kernel
theorem d_Line_add_47 : decode b_Line_add 47 = .ok (.return_, 1) := by decide +kernel
theorem d_Cell_init_0 : decode b_Cell_init 0 = .ok (.aload_n 0, 1) := by decide +kernel
theorem d_Cell_init_1 : decode b_Cell_init 1 = .ok (.invokespecial 1, 3) := by decide +kernel
theorem d_Cell_init_4 : decode b_Cell_init 4 = .ok (.aload_n 0, 1) := by decide +kernel
theorem d_Cell_init_5 : decode b_Cell_init 5 = .ok (.aload_n 1, 1) := by decide +kernel
theorem d_Cell_init_6 : decode b_Cell_init 6 = .ok (.putfield 7, 3) := by decide +kernel
theorem d_Cell_init_9 : decode b_Cell_init 9 = .ok (.return_, 1) := by decide +kernel
theorem d_AL_init_0 : decode b_AL_init 0 = .ok (.aload_n 0, 1) := by decide +kernel
theorem d_AL_init_1 : decode b_AL_init 1 = .ok (.invokespecial 1, 3) := by decide +kernel
theorem d_AL_init_4 : decode b_AL_init 4 = .ok (.aload_n 0, 1) := by decide +kernel
theorem d_AL_init_5 : decode b_AL_init 5 = .ok (.getstatic 39, 3) := by decide +kernel
theorem d_AL_init_8 : decode b_AL_init 8 = .ok (.putfield 9, 3) := by decide +kernel
theorem d_AL_init_11 : decode b_AL_init 11 = .ok (.return_, 1) := by decide +kernel
theorem d_AbL_init_0 : decode b_AbL_init 0 = .ok (.aload_n 0, 1) := by decide +kernel
theorem d_AbL_init_1 : decode b_AbL_init 1 = .ok (.invokespecial 1, 3) := by decide +kernel
theorem d_AbL_init_4 : decode b_AbL_init 4 = .ok (.aload_n 0, 1) := by decide +kernel
theorem d_AbL_init_5 : decode b_AbL_init 5 = .ok (.iconst 0, 1) := by decide +kernel
theorem d_AbL_init_6 : decode b_AbL_init 6 = .ok (.putfield 7, 3) := by decide +kernel
theorem d_AbL_init_9 : decode b_AbL_init 9 = .ok (.return_, 1) := by decide +kernel
theorem d_AbC_init_0 : decode b_AbC_init 0 = .ok (.aload_n 0, 1) := by decide +kernel
theorem d_AbC_init_1 : decode b_AbC_init 1 = .ok (.invokespecial 1, 3) := by decide +kernel
theorem d_AbC_init_4 : decode b_AbC_init 4 = .ok (.return_, 1) := by decide +kernel
theorem d_Ker_thread_0 : decode b_Ker_thread 0 = .ok (.aload_n 0, 1) := by decide +kernel
theorem d_Ker_thread_1 : decode b_Ker_thread 1 = .ok (.iload_n 1, 1) := by decide +kernel
theorem d_Ker_thread_2 : decode b_Ker_thread 2 = .ok (.invokevirtual 27, 3) := by decide +kernel
theorem d_Ker_thread_5 : decode b_Ker_thread 5 = .ok (.astore_n 2, 1) := by decide +kernel
theorem d_Ker_thread_6 : decode b_Ker_thread 6 = .ok (.aload_n 2, 1) := by decide +kernel
theorem d_Ker_thread_7 : decode b_Ker_thread 7 = .ok (.ifnull 15, 3) := by decide +kernel
theorem d_Ker_thread_10 : decode b_Ker_thread 10 = .ok (.aload_n 0, 1) := by decide +kernel
theorem d_Ker_thread_11 : decode b_Ker_thread 11 = .ok (.getfield 19, 3) := by decide +kernel
theorem d_Ker_thread_14 : decode b_Ker_thread 14 = .ok (.invokevirtual 31, 3) := by decide +kernel
theorem d_Ker_thread_17 : decode b_Ker_thread 17 = .ok (.bipush 8, 2) := by decide +kernel
theorem d_Ker_thread_19 : decode b_Ker_thread 19 = .ok (.if_icmp .lt 5, 3) := by decide +kernel
theorem d_Ker_thread_22 : decode b_Ker_thread 22 = .ok (.iconst (-1), 1) := by decide +kernel
theorem d_Ker_thread_23 : decode b_Ker_thread 23 = .ok (.ireturn, 1) := by decide +kernel
theorem d_Ker_thread_24 : decode b_Ker_thread 24 = .ok (.aload_n 0, 1) := by decide +kernel
theorem d_Ker_thread_25 : decode b_Ker_thread 25 = .ok (.getfield 19, 3) := by decide +kernel
theorem d_Ker_thread_28 : decode b_Ker_thread 28 = .ok (.new 35, 3) := by decide +kernel
theorem d_Ker_thread_31 : decode b_Ker_thread 31 = .ok (.dup, 1) := by decide +kernel
theorem d_Ker_thread_32 : decode b_Ker_thread 32 = .ok (.aload_n 0, 1) := by decide +kernel
theorem d_Ker_thread_33 : decode b_Ker_thread 33 = .ok (.getfield 19, 3) := by decide +kernel
theorem d_Ker_thread_36 : decode b_Ker_thread 36 = .ok (.invokevirtual 31, 3) := by decide +kernel
theorem d_Ker_thread_39 : decode b_Ker_thread 39 = .ok (.aload_n 2, 1) := by decide +kernel
theorem d_Ker_thread_40 : decode b_Ker_thread 40 = .ok (.invokespecial 37, 3) := by decide +kernel
theorem d_Ker_thread_43 : decode b_Ker_thread 43 = .ok (.invokevirtual 40, 3) := by decide +kernel
theorem d_Ker_thread_46 : decode b_Ker_thread 46 = .ok (.pop, 1) := by decide +kernel
theorem d_Ker_thread_47 : decode b_Ker_thread 47 = .ok (.aload_n 0, 1) := by decide +kernel
theorem d_Ker_thread_48 : decode b_Ker_thread 48 = .ok (.getfield 19, 3) := by decide +kernel
theorem d_Ker_thread_51 : decode b_Ker_thread 51 = .ok (.invokevirtual 31, 3) := by decide +kernel
theorem d_Ker_thread_54 : decode b_Ker_thread 54 = .ok (.iconst 1, 1) := by decide +kernel
theorem d_Ker_thread_55 : decode b_Ker_thread 55 = .ok (.isub, 1) := by decide +kernel
theorem d_Ker_thread_56 : decode b_Ker_thread 56 = .ok (.ireturn, 1) := by decide +kernel
theorem d_Ker_processor_0 : decode b_Ker_processor 0 = .ok (.iload_n 1, 1) := by decide +kernel
theorem d_Ker_processor_1 : decode b_Ker_processor 1 = .ok (.ifCond .lt 8, 3) := by decide +kernel
theorem d_Ker_processor_4 : decode b_Ker_processor 4 = .ok (.iload_n 1, 1) := by decide +kernel
theorem d_Ker_processor_5 : decode b_Ker_processor 5 = .ok (.iconst 4, 1) := by decide +kernel
theorem d_Ker_processor_6 : decode b_Ker_processor 6 = .ok (.if_icmp .lt 7, 3) := by decide +kernel
theorem d_Ker_processor_9 : decode b_Ker_processor 9 = .ok (.aconst_null, 1) := by decide +kernel
theorem d_Ker_processor_10 : decode b_Ker_processor 10 = .ok (.goto 12, 3) := by decide +kernel
theorem d_Ker_processor_13 : decode b_Ker_processor 13 = .ok (.aload_n 0, 1) := by decide +kernel
theorem d_Ker_processor_14 : decode b_Ker_processor 14 = .ok (.getfield 10, 3) := by decide +kernel
theorem d_Ker_processor_17 : decode b_Ker_processor 17 = .ok (.getfield 23, 3) := by decide +kernel
theorem d_Ker_processor_20 : decode b_Ker_processor 20 = .ok (.iload_n 1, 1) := by decide +kernel
theorem d_Ker_processor_21 : decode b_Ker_processor 21 = .ok (.aaload, 1) := by decide +kernel
theorem d_Ker_processor_22 : decode b_Ker_processor 22 = .ok (.areturn, 1) := by decide +kernel
theorem d_AL_size_0 : decode b_AL_size 0 = .ok (.aload_n 0, 1) := by decide +kernel
theorem d_AL_size_1 : decode b_AL_size 1 = .ok (.getfield 48, 3) := by decide +kernel
theorem d_AL_size_4 : decode b_AL_size 4 = .ok (.ireturn, 1) := by decide +kernel
theorem d_Task_init_0 : decode b_Task_init 0 = .ok (.aload_n 0, 1) := by decide +kernel
theorem d_Task_init_1 : decode b_Task_init 1 = .ok (.invokespecial 1, 3) := by decide +kernel
theorem d_Task_init_4 : decode b_Task_init 4 = .ok (.aload_n 0, 1) := by decide +kernel
theorem d_Task_init_5 : decode b_Task_init 5 = .ok (.new 7, 3) := by decide +kernel
theorem d_Task_init_8 : decode b_Task_init 8 = .ok (.dup, 1) := by decide +kernel
theorem d_Task_init_9 : decode b_Task_init 9 = .ok (.invokespecial 9, 3) := by decide +kernel
theorem d_Task_init_12 : decode b_Task_init 12 = .ok (.putfield 10, 3) := by decide +kernel
theorem d_Task_init_15 : decode b_Task_init 15 = .ok (.aload_n 0, 1) := by decide +kernel
theorem d_Task_init_16 : decode b_Task_init 16 = .ok (.iload_n 1, 1) := by decide +kernel
theorem d_Task_init_17 : decode b_Task_init 17 = .ok (.putfield 16, 3) := by decide +kernel
theorem d_Task_init_20 : decode b_Task_init 20 = .ok (.aload_n 0, 1) := by decide +kernel
theorem d_Task_init_21 : decode b_Task_init 21 = .ok (.aload_n 2, 1) := by decide +kernel
theorem d_Task_init_22 : decode b_Task_init 22 = .ok (.putfield 20, 3) := by decide +kernel
theorem d_Task_init_25 : decode b_Task_init 25 = .ok (.return_, 1) := by decide +kernel
theorem d_AL_add_1_0 : decode b_AL_add_1 0 = .ok (.aload_n 0, 1) := by decide +kernel
theorem d_AL_add_1_1 : decode b_AL_add_1 1 = .ok (.dup, 1) := by decide +kernel
theorem d_AL_add_1_2 : decode b_AL_add_1 2 = .ok (.getfield 63, 3) := by decide +kernel
theorem d_AL_add_1_5 : decode b_AL_add_1 5 = .ok (.iconst 1, 1) := by decide +kernel
theorem d_AL_add_1_6 : decode b_AL_add_1 6 = .ok (.iadd, 1) := by decide +kernel
theorem d_AL_add_1_7 : decode b_AL_add_1 7 = .ok (.putfield 63, 3) := by decide +kernel
theorem d_AL_add_1_10 : decode b_AL_add_1 10 = .ok (.aload_n 0, 1) := by decide +kernel
theorem d_AL_add_1_11 : decode b_AL_add_1 11 = .ok (.aload_n 1, 1) := by decide +kernel
theorem d_AL_add_1_12 : decode b_AL_add_1 12 = .ok (.aload_n 0, 1) := by decide +kernel
theorem d_AL_add_1_13 : decode b_AL_add_1 13 = .ok (.getfield 9, 3) := by decide +kernel
theorem d_AL_add_1_16 : decode b_AL_add_1 16 = .ok (.aload_n 0, 1) := by decide +kernel
theorem d_AL_add_1_17 : decode b_AL_add_1 17 = .ok (.getfield 48, 3) := by decide +kernel
theorem d_AL_add_1_20 : decode b_AL_add_1 20 = .ok (.invokevirtual 131, 3) := by decide +kernel
theorem d_AL_add_1_23 : decode b_AL_add_1 23 = .ok (.iconst 1, 1) := by decide +kernel
theorem d_AL_add_1_24 : decode b_AL_add_1 24 = .ok (.ireturn, 1) := by decide +kernel
theorem d_AL_add_3_0 : decode b_AL_add_3 0 = .ok (.iload_n 3, 1) := by decide +kernel
theorem d_AL_add_3_1 : decode b_AL_add_3 1 = .ok (.aload_n 2, 1) := by decide +kernel
theorem d_AL_add_3_2 : decode b_AL_add_3 2 = .ok (.arraylength, 1) := by decide +kernel
theorem d_AL_add_3_3 : decode b_AL_add_3 3 = .ok (.if_icmp .ne 8, 3) := by decide +kernel
theorem d_AL_add_3_6 : decode b_AL_add_3 6 = .ok (.aload_n 0, 1) := by decide +kernel
theorem d_AL_add_3_7 : decode b_AL_add_3 7 = .ok (.invokevirtual 129, 3) := by decide +kernel
theorem d_AL_add_3_10 : decode b_AL_add_3 10 = .ok (.astore_n 2, 1) := by decide +kernel
theorem d_AL_add_3_11 : decode b_AL_add_3 11 = .ok (.aload_n 2, 1) := by decide +kernel
theorem d_AL_add_3_12 : decode b_AL_add_3 12 = .ok (.iload_n 3, 1) := by decide +kernel
theorem d_AL_add_3_13 : decode b_AL_add_3 13 = .ok (.aload_n 1, 1) := by decide +kernel
theorem d_AL_add_3_14 : decode b_AL_add_3 14 = .ok (.aastore, 1) := by decide +kernel
theorem d_AL_add_3_15 : decode b_AL_add_3 15 = .ok (.aload_n 0, 1) := by decide +kernel
theorem d_AL_add_3_16 : decode b_AL_add_3 16 = .ok (.iload_n 3, 1) := by decide +kernel
theorem d_AL_add_3_17 : decode b_AL_add_3 17 = .ok (.iconst 1, 1) := by decide +kernel
theorem d_AL_add_3_18 : decode b_AL_add_3 18 = .ok (.iadd, 1) := by decide +kernel
theorem d_AL_add_3_19 : decode b_AL_add_3 19 = .ok (.putfield 48, 3) := by decide +kernel
theorem d_AL_add_3_22 : decode b_AL_add_3 22 = .ok (.return_, 1) := by decide +kernel
theorem d_AL_grow_0_0 : decode b_AL_grow_0 0 = .ok (.aload_n 0, 1) := by decide +kernel
theorem d_AL_grow_0_1 : decode b_AL_grow_0 1 = .ok (.aload_n 0, 1) := by decide +kernel
theorem d_AL_grow_0_2 : decode b_AL_grow_0 2 = .ok (.getfield 48, 3) := by decide +kernel
theorem d_AL_grow_0_5 : decode b_AL_grow_0 5 = .ok (.iconst 1, 1) := by decide +kernel
theorem d_AL_grow_0_6 : decode b_AL_grow_0 6 = .ok (.iadd, 1) := by decide +kernel
theorem d_AL_grow_0_7 : decode b_AL_grow_0 7 = .ok (.invokevirtual 69, 3) := by decide +kernel
theorem d_AL_grow_0_10 : decode b_AL_grow_0 10 = .ok (.areturn, 1) := by decide +kernel
theorem d_AL_grow_1_0 : decode b_AL_grow_1 0 = .ok (.aload_n 0, 1) := by decide +kernel
theorem d_AL_grow_1_1 : decode b_AL_grow_1 1 = .ok (.getfield 9, 3) := by decide +kernel
theorem d_AL_grow_1_4 : decode b_AL_grow_1 4 = .ok (.arraylength, 1) := by decide +kernel
theorem d_AL_grow_1_5 : decode b_AL_grow_1 5 = .ok (.istore_n 2, 1) := by decide +kernel
theorem d_AL_grow_1_6 : decode b_AL_grow_1 6 = .ok (.iload_n 2, 1) := by decide +kernel
theorem d_AL_grow_1_7 : decode b_AL_grow_1 7 = .ok (.ifCond .gt 13, 3) := by decide +kernel
theorem d_AL_grow_1_10 : decode b_AL_grow_1 10 = .ok (.aload_n 0, 1) := by decide +kernel
theorem d_AL_grow_1_11 : decode b_AL_grow_1 11 = .ok (.getfield 9, 3) := by decide +kernel
theorem d_AL_grow_1_14 : decode b_AL_grow_1 14 = .ok (.getstatic 39, 3) := by decide +kernel
theorem d_AL_grow_1_17 : decode b_AL_grow_1 17 = .ok (.if_acmp .eq 28, 3) := by decide +kernel
theorem d_AL_grow_1_20 : decode b_AL_grow_1 20 = .ok (.iload_n 2, 1) := by decide +kernel
theorem d_AL_grow_1_21 : decode b_AL_grow_1 21 = .ok (.iload_n 1, 1) := by decide +kernel
theorem d_AL_grow_1_22 : decode b_AL_grow_1 22 = .ok (.iload_n 2, 1) := by decide +kernel
theorem d_AL_grow_1_23 : decode b_AL_grow_1 23 = .ok (.isub, 1) := by decide +kernel
theorem d_AL_grow_1_24 : decode b_AL_grow_1 24 = .ok (.iload_n 2, 1) := by decide +kernel
theorem d_AL_grow_1_25 : decode b_AL_grow_1 25 = .ok (.iconst 1, 1) := by decide +kernel
theorem d_AL_grow_1_26 : decode b_AL_grow_1 26 = .ok (.ishr, 1) := by decide +kernel
theorem d_AL_grow_1_27 : decode b_AL_grow_1 27 = .ok (.invokestatic 73, 3) := by decide +kernel
theorem d_AL_grow_1_30 : decode b_AL_grow_1 30 = .ok (.istore_n 3, 1) := by decide +kernel
theorem d_AL_grow_1_31 : decode b_AL_grow_1 31 = .ok (.aload_n 0, 1) := by decide +kernel
theorem d_AL_grow_1_32 : decode b_AL_grow_1 32 = .ok (.aload_n 0, 1) := by decide +kernel
theorem d_AL_grow_1_33 : decode b_AL_grow_1 33 = .ok (.getfield 9, 3) := by decide +kernel
theorem d_AL_grow_1_36 : decode b_AL_grow_1 36 = .ok (.iload_n 3, 1) := by decide +kernel
theorem d_AL_grow_1_37 : decode b_AL_grow_1 37 = .ok (.invokestatic 66, 3) := by decide +kernel
theorem d_AL_grow_1_40 : decode b_AL_grow_1 40 = .ok (.dup_x1, 1) := by decide +kernel
theorem d_AL_grow_1_41 : decode b_AL_grow_1 41 = .ok (.putfield 9, 3) := by decide +kernel
theorem d_AL_grow_1_44 : decode b_AL_grow_1 44 = .ok (.areturn, 1) := by decide +kernel
theorem d_AL_grow_1_45 : decode b_AL_grow_1 45 = .ok (.aload_n 0, 1) := by decide +kernel
theorem d_AL_grow_1_46 : decode b_AL_grow_1 46 = .ok (.bipush 10, 2) := by decide +kernel
theorem d_AL_grow_1_48 : decode b_AL_grow_1 48 = .ok (.iload_n 1, 1) := by decide +kernel
theorem d_AL_grow_1_49 : decode b_AL_grow_1 49 = .ok (.invokestatic 79, 3) := by decide +kernel
theorem d_AL_grow_1_52 : decode b_AL_grow_1 52 = .ok (.anewarray 7, 3) := by decide +kernel
theorem d_AL_grow_1_55 : decode b_AL_grow_1 55 = .ok (.dup_x1, 1) := by decide +kernel
theorem d_AL_grow_1_56 : decode b_AL_grow_1 56 = .ok (.putfield 9, 3) := by decide +kernel
theorem d_AL_grow_1_59 : decode b_AL_grow_1 59 = .ok (.areturn, 1) := by decide +kernel
theorem d_Math_max_0 : decode b_Math_max 0 = .ok (.iload_n 0, 1) := by decide +kernel
theorem d_Math_max_1 : decode b_Math_max 1 = .ok (.iload_n 1, 1) := by decide +kernel
theorem d_Math_max_2 : decode b_Math_max 2 = .ok (.if_icmp .lt 7, 3) := by decide +kernel
theorem d_Math_max_5 : decode b_Math_max 5 = .ok (.iload_n 0, 1) := by decide +kernel
theorem d_Math_max_6 : decode b_Math_max 6 = .ok (.goto 4, 3) := by decide +kernel
theorem d_Math_max_9 : decode b_Math_max 9 = .ok (.iload_n 1, 1) := by decide +kernel
theorem d_Math_max_10 : decode b_Math_max 10 = .ok (.ireturn, 1) := by decide +kernel
theorem d_Ker_load_0 : decode b_Ker_load 0 = .ok (.aload_n 0, 1) := by decide +kernel
theorem d_Ker_load_1 : decode b_Ker_load 1 = .ok (.iload_n 1, 1) := by decide +kernel
theorem d_Ker_load_2 : decode b_Ker_load 2 = .ok (.invokevirtual 66, 3) := by decide +kernel
theorem d_Ker_load_5 : decode b_Ker_load 5 = .ok (.ifCond .ne 11, 3) := by decide +kernel
theorem d_Ker_load_8 : decode b_Ker_load 8 = .ok (.iload_n 2, 1) := by decide +kernel
theorem d_Ker_load_9 : decode b_Ker_load 9 = .ok (.iconst 1, 1) := by decide +kernel
theorem d_Ker_load_10 : decode b_Ker_load 10 = .ok (.invokestatic 70, 3) := by decide +kernel
theorem d_Ker_load_13 : decode b_Ker_load 13 = .ok (.ifCond .eq 7, 3) := by decide +kernel
theorem d_Ker_load_16 : decode b_Ker_load 16 = .ok (.iconst (-1), 1) := by decide +kernel
theorem d_Ker_load_17 : decode b_Ker_load 17 = .ok (.goto 17, 3) := by decide +kernel
theorem d_Ker_load_20 : decode b_Ker_load 20 = .ok (.aload_n 0, 1) := by decide +kernel
theorem d_Ker_load_21 : decode b_Ker_load 21 = .ok (.iload_n 1, 1) := by decide +kernel
theorem d_Ker_load_22 : decode b_Ker_load 22 = .ok (.new 74, 3) := by decide +kernel
theorem d_Ker_load_25 : decode b_Ker_load 25 = .ok (.dup, 1) := by decide +kernel
theorem d_Ker_load_26 : decode b_Ker_load 26 = .ok (.iload_n 2, 1) := by decide +kernel
theorem d_Ker_load_27 : decode b_Ker_load 27 = .ok (.iconst (-1), 1) := by decide +kernel
theorem d_Ker_load_28 : decode b_Ker_load 28 = .ok (.invokespecial 76, 3) := by decide +kernel
theorem d_Ker_load_31 : decode b_Ker_load 31 = .ok (.invokevirtual 79, 3) := by decide +kernel
theorem d_Ker_load_34 : decode b_Ker_load 34 = .ok (.ireturn, 1) := by decide +kernel
theorem d_Ker_full_0 : decode b_Ker_full 0 = .ok (.iload_n 1, 1) := by decide +kernel
theorem d_Ker_full_1 : decode b_Ker_full 1 = .ok (.ifCond .lt 36, 3) := by decide +kernel
theorem d_Ker_full_4 : decode b_Ker_full 4 = .ok (.iload_n 1, 1) := by decide +kernel
theorem d_Ker_full_5 : decode b_Ker_full 5 = .ok (.aload_n 0, 1) := by decide +kernel
theorem d_Ker_full_6 : decode b_Ker_full 6 = .ok (.getfield 19, 3) := by decide +kernel
theorem d_Ker_full_9 : decode b_Ker_full 9 = .ok (.invokevirtual 31, 3) := by decide +kernel
theorem d_Ker_full_12 : decode b_Ker_full 12 = .ok (.if_icmp .ge 25, 3) := by decide +kernel
theorem d_Ker_full_15 : decode b_Ker_full 15 = .ok (.aload_n 0, 1) := by decide +kernel
theorem d_Ker_full_16 : decode b_Ker_full 16 = .ok (.getfield 19, 3) := by decide +kernel
theorem d_Ker_full_19 : decode b_Ker_full 19 = .ok (.iload_n 1, 1) := by decide +kernel
theorem d_Ker_full_20 : decode b_Ker_full 20 = .ok (.invokevirtual 44, 3) := by decide +kernel
theorem d_Ker_full_23 : decode b_Ker_full 23 = .ok (.checkcast 35, 3) := by decide +kernel
theorem d_Ker_full_26 : decode b_Ker_full 26 = .ok (.getfield 48, 3) := by decide +kernel
theorem d_Ker_full_29 : decode b_Ker_full 29 = .ok (.invokevirtual 31, 3) := by decide +kernel
theorem d_Ker_full_32 : decode b_Ker_full 32 = .ok (.bipush 10, 2) := by decide +kernel
theorem d_Ker_full_34 : decode b_Ker_full 34 = .ok (.if_icmp .lt 7, 3) := by decide +kernel
theorem d_Ker_full_37 : decode b_Ker_full 37 = .ok (.iconst 1, 1) := by decide +kernel
theorem d_Ker_full_38 : decode b_Ker_full 38 = .ok (.goto 4, 3) := by decide +kernel
theorem d_Ker_full_41 : decode b_Ker_full 41 = .ok (.iconst 0, 1) := by decide +kernel
theorem d_Ker_full_42 : decode b_Ker_full 42 = .ok (.ireturn, 1) := by decide +kernel
theorem d_AL_get_0 : decode b_AL_get 0 = .ok (.iload_n 1, 1) := by decide +kernel
theorem d_AL_get_1 : decode b_AL_get 1 = .ok (.aload_n 0, 1) := by decide +kernel
theorem d_AL_get_2 : decode b_AL_get 2 = .ok (.getfield 48, 3) := by decide +kernel
theorem d_AL_get_5 : decode b_AL_get 5 = .ok (.invokestatic 118, 3) := by decide +kernel
theorem d_AL_get_8 : decode b_AL_get 8 = .ok (.pop, 1) := by decide +kernel
theorem d_AL_get_9 : decode b_AL_get 9 = .ok (.aload_n 0, 1) := by decide +kernel
theorem d_AL_get_10 : decode b_AL_get 10 = .ok (.iload_n 1, 1) := by decide +kernel
theorem d_AL_get_11 : decode b_AL_get 11 = .ok (.invokevirtual 123, 3) := by decide +kernel
theorem d_AL_get_14 : decode b_AL_get 14 = .ok (.areturn, 1) := by decide +kernel
theorem d_Objs_checkIndex_0 : decode b_Objs_checkIndex 0 = .ok (.iload_n 0, 1) := by decide +kernel
theorem d_Objs_checkIndex_1 : decode b_Objs_checkIndex 1 = .ok (.iload_n 1, 1) := by decide +kernel
theorem d_Objs_checkIndex_2 : decode b_Objs_checkIndex 2 = .ok (.aconst_null, 1) := by decide +kernel
theorem d_Objs_checkIndex_3 : decode b_Objs_checkIndex 3 = .ok (.invokestatic 105, 3) := by decide +kernel
theorem d_Objs_checkIndex_6 : decode b_Objs_checkIndex 6 = .ok (.ireturn, 1) := by decide +kernel
theorem d_Prec_checkIndex_0 : decode b_Prec_checkIndex 0 = .ok (.iload_n 0, 1) := by decide +kernel
theorem d_Prec_checkIndex_1 : decode b_Prec_checkIndex 1 = .ok (.ifCond .lt 8, 3) := by decide +kernel
theorem d_Prec_checkIndex_4 : decode b_Prec_checkIndex 4 = .ok (.iload_n 0, 1) := by decide +kernel
theorem d_Prec_checkIndex_5 : decode b_Prec_checkIndex 5 = .ok (.iload_n 1, 1) := by decide +kernel
theorem d_Prec_checkIndex_6 : decode b_Prec_checkIndex 6 = .ok (.if_icmp .lt 10, 3) := by decide +kernel
theorem d_Prec_checkIndex_9 : decode b_Prec_checkIndex 9 = .ok (.aload_n 2, 1) := by decide +kernel
theorem d_Prec_checkIndex_10 : decode b_Prec_checkIndex 10 = .ok (.iload_n 0, 1) := by decide +kernel
theorem d_Prec_checkIndex_11 : decode b_Prec_checkIndex 11 = .ok (.iload_n 1, 1) := by decide +kernel
theorem d_Prec_checkIndex_12 : decode b_Prec_checkIndex 12 = .ok (.invokestatic 95, 3) := by decide +kernel
theorem d_Prec_checkIndex_15 : decode b_Prec_checkIndex 15 = .ok (.athrow, 1) := by decide +kernel
theorem d_Prec_checkIndex_16 : decode b_Prec_checkIndex 16 = .ok (.iload_n 0, 1) := by decide +kernel
theorem d_Prec_checkIndex_17 : decode b_Prec_checkIndex 17 = .ok (.ireturn, 1) := by decide +kernel
theorem d_AL_elementData_0 : decode b_AL_elementData 0 = .ok (.aload_n 0, 1) := by decide +kernel
theorem d_AL_elementData_1 : decode b_AL_elementData 1 = .ok (.getfield 9, 3) := by decide +kernel
theorem d_AL_elementData_4 : decode b_AL_elementData 4 = .ok (.iload_n 1, 1) := by decide +kernel
theorem d_AL_elementData_5 : decode b_AL_elementData 5 = .ok (.aaload, 1) := by decide +kernel
theorem d_AL_elementData_6 : decode b_AL_elementData 6 = .ok (.areturn, 1) := by decide +kernel
theorem d_Ker_noRange_0 : decode b_Ker_noRange 0 = .ok (.iload_n 1, 1) := by decide +kernel
theorem d_Ker_noRange_1 : decode b_Ker_noRange 1 = .ok (.iconst 1, 1) := by decide +kernel
theorem d_Ker_noRange_2 : decode b_Ker_noRange 2 = .ok (.if_icmp .lt 20, 3) := by decide +kernel
theorem d_Ker_noRange_5 : decode b_Ker_noRange 5 = .ok (.iload_n 1, 1) := by decide +kernel
theorem d_Ker_noRange_6 : decode b_Ker_noRange 6 = .ok (.iconst 4, 1) := by decide +kernel
theorem d_Ker_noRange_7 : decode b_Ker_noRange 7 = .ok (.if_icmp .gt 15, 3) := by decide +kernel
theorem d_Ker_noRange_10 : decode b_Ker_noRange 10 = .ok (.iload_n 0, 1) := by decide +kernel
theorem d_Ker_noRange_11 : decode b_Ker_noRange 11 = .ok (.ifCond .lt 11, 3) := by decide +kernel
theorem d_Ker_noRange_14 : decode b_Ker_noRange 14 = .ok (.iload_n 0, 1) := by decide +kernel
theorem d_Ker_noRange_15 : decode b_Ker_noRange 15 = .ok (.bipush 16, 2) := by decide +kernel
theorem d_Ker_noRange_17 : decode b_Ker_noRange 17 = .ok (.iload_n 1, 1) := by decide +kernel
theorem d_Ker_noRange_18 : decode b_Ker_noRange 18 = .ok (.isub, 1) := by decide +kernel
theorem d_Ker_noRange_19 : decode b_Ker_noRange 19 = .ok (.if_icmp .le 7, 3) := by decide +kernel
theorem d_Ker_noRange_22 : decode b_Ker_noRange 22 = .ok (.iconst 1, 1) := by decide +kernel
theorem d_Ker_noRange_23 : decode b_Ker_noRange 23 = .ok (.goto 4, 3) := by decide +kernel
theorem d_Ker_noRange_26 : decode b_Ker_noRange 26 = .ok (.iconst 0, 1) := by decide +kernel
theorem d_Ker_noRange_27 : decode b_Ker_noRange 27 = .ok (.ireturn, 1) := by decide +kernel
theorem d_Access_init_0 : decode b_Access_init 0 = .ok (.aload_n 0, 1) := by decide +kernel
theorem d_Access_init_1 : decode b_Access_init 1 = .ok (.getstatic 3, 3) := by decide +kernel
theorem d_Access_init_4 : decode b_Access_init 4 = .ok (.invokespecial 9, 3) := by decide +kernel
theorem d_Access_init_7 : decode b_Access_init 7 = .ok (.aload_n 0, 1) := by decide +kernel
theorem d_Access_init_8 : decode b_Access_init 8 = .ok (.iload_n 1, 1) := by decide +kernel
theorem d_Access_init_9 : decode b_Access_init 9 = .ok (.putfield 15, 3) := by decide +kernel
theorem d_Access_init_12 : decode b_Access_init 12 = .ok (.aload_n 0, 1) := by decide +kernel
theorem d_Access_init_13 : decode b_Access_init 13 = .ok (.iload_n 2, 1) := by decide +kernel
theorem d_Access_init_14 : decode b_Access_init 14 = .ok (.putfield 21, 3) := by decide +kernel
theorem d_Access_init_17 : decode b_Access_init 17 = .ok (.return_, 1) := by decide +kernel
theorem d_Order_init_0 : decode b_Order_init 0 = .ok (.aload_n 0, 1) := by decide +kernel
theorem d_Order_init_1 : decode b_Order_init 1 = .ok (.invokespecial 3, 3) := by decide +kernel
theorem d_Order_init_4 : decode b_Order_init 4 = .ok (.aload_n 0, 1) := by decide +kernel
theorem d_Order_init_5 : decode b_Order_init 5 = .ok (.iconst (-1), 1) := by decide +kernel
theorem d_Order_init_6 : decode b_Order_init 6 = .ok (.putfield 9, 3) := by decide +kernel
theorem d_Order_init_9 : decode b_Order_init 9 = .ok (.aload_n 0, 1) := by decide +kernel
theorem d_Order_init_10 : decode b_Order_init 10 = .ok (.aload_n 1, 1) := by decide +kernel
theorem d_Order_init_11 : decode b_Order_init 11 = .ok (.putfield 15, 3) := by decide +kernel
theorem d_Order_init_14 : decode b_Order_init 14 = .ok (.return_, 1) := by decide +kernel
theorem d_Ker_enlist_0 : decode b_Ker_enlist 0 = .ok (.aload_n 0, 1) := by decide +kernel
theorem d_Ker_enlist_1 : decode b_Ker_enlist 1 = .ok (.getfield 19, 3) := by decide +kernel
theorem d_Ker_enlist_4 : decode b_Ker_enlist 4 = .ok (.iload_n 1, 1) := by decide +kernel
theorem d_Ker_enlist_5 : decode b_Ker_enlist 5 = .ok (.invokevirtual 44, 3) := by decide +kernel
theorem d_Ker_enlist_8 : decode b_Ker_enlist 8 = .ok (.checkcast 35, 3) := by decide +kernel
theorem d_Ker_enlist_11 : decode b_Ker_enlist 11 = .ok (.astore_n 3, 1) := by decide +kernel
theorem d_Ker_enlist_12 : decode b_Ker_enlist 12 = .ok (.aload_n 3, 1) := by decide +kernel
theorem d_Ker_enlist_13 : decode b_Ker_enlist 13 = .ok (.getfield 48, 3) := by decide +kernel
theorem d_Ker_enlist_16 : decode b_Ker_enlist 16 = .ok (.aload_n 2, 1) := by decide +kernel
theorem d_Ker_enlist_17 : decode b_Ker_enlist 17 = .ok (.invokevirtual 40, 3) := by decide +kernel
theorem d_Ker_enlist_20 : decode b_Ker_enlist 20 = .ok (.pop, 1) := by decide +kernel
theorem d_Ker_enlist_21 : decode b_Ker_enlist 21 = .ok (.aload_n 3, 1) := by decide +kernel
theorem d_Ker_enlist_22 : decode b_Ker_enlist 22 = .ok (.getfield 51, 3) := by decide +kernel
theorem d_Ker_enlist_25 : decode b_Ker_enlist 25 = .ok (.ifnull 19, 3) := by decide +kernel
theorem d_Ker_enlist_28 : decode b_Ker_enlist 28 = .ok (.aload_n 3, 1) := by decide +kernel
theorem d_Ker_enlist_29 : decode b_Ker_enlist 29 = .ok (.getfield 51, 3) := by decide +kernel
theorem d_Ker_enlist_32 : decode b_Ker_enlist 32 = .ok (.getfield 55, 3) := by decide +kernel
theorem d_Ker_enlist_35 : decode b_Ker_enlist 35 = .ok (.aload_n 3, 1) := by decide +kernel
theorem d_Ker_enlist_36 : decode b_Ker_enlist 36 = .ok (.invokevirtual 61, 3) := by decide +kernel
theorem d_Ker_enlist_39 : decode b_Ker_enlist 39 = .ok (.aload_n 3, 1) := by decide +kernel
theorem d_Ker_enlist_40 : decode b_Ker_enlist 40 = .ok (.aconst_null, 1) := by decide +kernel
theorem d_Ker_enlist_41 : decode b_Ker_enlist 41 = .ok (.putfield 51, 3) := by decide +kernel
theorem d_Ker_enlist_44 : decode b_Ker_enlist 44 = .ok (.aload_n 3, 1) := by decide +kernel
theorem d_Ker_enlist_45 : decode b_Ker_enlist 45 = .ok (.getfield 48, 3) := by decide +kernel
theorem d_Ker_enlist_48 : decode b_Ker_enlist 48 = .ok (.invokevirtual 31, 3) := by decide +kernel
theorem d_Ker_enlist_51 : decode b_Ker_enlist 51 = .ok (.iconst 1, 1) := by decide +kernel
theorem d_Ker_enlist_52 : decode b_Ker_enlist 52 = .ok (.isub, 1) := by decide +kernel
theorem d_Ker_enlist_53 : decode b_Ker_enlist 53 = .ok (.ireturn, 1) := by decide +kernel
theorem d_Ker_store_0 : decode b_Ker_store 0 = .ok (.aload_n 0, 1) := by decide +kernel
theorem d_Ker_store_1 : decode b_Ker_store 1 = .ok (.iload_n 1, 1) := by decide +kernel
theorem d_Ker_store_2 : decode b_Ker_store 2 = .ok (.invokevirtual 66, 3) := by decide +kernel
theorem d_Ker_store_5 : decode b_Ker_store 5 = .ok (.ifCond .ne 22, 3) := by decide +kernel
theorem d_Ker_store_8 : decode b_Ker_store 8 = .ok (.iload_n 2, 1) := by decide +kernel
theorem d_Ker_store_9 : decode b_Ker_store 9 = .ok (.iconst 1, 1) := by decide +kernel
theorem d_Ker_store_10 : decode b_Ker_store 10 = .ok (.invokestatic 70, 3) := by decide +kernel
theorem d_Ker_store_13 : decode b_Ker_store 13 = .ok (.ifCond .ne 14, 3) := by decide +kernel
theorem d_Ker_store_16 : decode b_Ker_store 16 = .ok (.iload_n 3, 1) := by decide +kernel
theorem d_Ker_store_17 : decode b_Ker_store 17 = .ok (.ifCond .lt 10, 3) := by decide +kernel
theorem d_Ker_store_20 : decode b_Ker_store 20 = .ok (.iload_n 3, 1) := by decide +kernel
theorem d_Ker_store_21 : decode b_Ker_store 21 = .ok (.sipush 999, 3) := by decide +kernel
theorem d_Ker_store_24 : decode b_Ker_store 24 = .ok (.if_icmp .le 7, 3) := by decide +kernel
theorem d_Ker_store_27 : decode b_Ker_store 27 = .ok (.iconst (-1), 1) := by decide +kernel
theorem d_Ker_store_28 : decode b_Ker_store 28 = .ok (.goto 17, 3) := by decide +kernel
theorem d_Ker_store_31 : decode b_Ker_store 31 = .ok (.aload_n 0, 1) := by decide +kernel
theorem d_Ker_store_32 : decode b_Ker_store 32 = .ok (.iload_n 1, 1) := by decide +kernel
theorem d_Ker_store_33 : decode b_Ker_store 33 = .ok (.new 74, 3) := by decide +kernel
theorem d_Ker_store_36 : decode b_Ker_store 36 = .ok (.dup, 1) := by decide +kernel
theorem d_Ker_store_37 : decode b_Ker_store 37 = .ok (.iload_n 2, 1) := by decide +kernel
theorem d_Ker_store_38 : decode b_Ker_store 38 = .ok (.iload_n 3, 1) := by decide +kernel
theorem d_Ker_store_39 : decode b_Ker_store 39 = .ok (.invokespecial 76, 3) := by decide +kernel
theorem d_Ker_store_42 : decode b_Ker_store 42 = .ok (.invokevirtual 79, 3) := by decide +kernel
theorem d_Ker_store_45 : decode b_Ker_store 45 = .ok (.ireturn, 1) := by decide +kernel
theorem d_Ker_map_0 : decode b_Ker_map 0 = .ok (.aload_n 0, 1) := by decide +kernel
theorem d_Ker_map_1 : decode b_Ker_map 1 = .ok (.iload_n 1, 1) := by decide +kernel
theorem d_Ker_map_2 : decode b_Ker_map 2 = .ok (.invokevirtual 66, 3) := by decide +kernel
theorem d_Ker_map_5 : decode b_Ker_map 5 = .ok (.ifCond .ne 11, 3) := by decide +kernel
theorem d_Ker_map_8 : decode b_Ker_map 8 = .ok (.iload_n 2, 1) := by decide +kernel
theorem d_Ker_map_9 : decode b_Ker_map 9 = .ok (.iload_n 3, 1) := by decide +kernel
theorem d_Ker_map_10 : decode b_Ker_map 10 = .ok (.invokestatic 70, 3) := by decide +kernel
theorem d_Ker_map_13 : decode b_Ker_map 13 = .ok (.ifCond .eq 7, 3) := by decide +kernel
theorem d_Ker_map_16 : decode b_Ker_map 16 = .ok (.iconst (-1), 1) := by decide +kernel
theorem d_Ker_map_17 : decode b_Ker_map 17 = .ok (.goto 19, 3) := by decide +kernel
theorem d_Ker_map_20 : decode b_Ker_map 20 = .ok (.aload_n 0, 1) := by decide +kernel
theorem d_Ker_map_21 : decode b_Ker_map 21 = .ok (.iload_n 1, 1) := by decide +kernel
theorem d_Ker_map_22 : decode b_Ker_map 22 = .ok (.new 83, 3) := by decide +kernel
theorem d_Ker_map_25 : decode b_Ker_map 25 = .ok (.dup, 1) := by decide +kernel
theorem d_Ker_map_26 : decode b_Ker_map 26 = .ok (.iload_n 2, 1) := by decide +kernel
theorem d_Ker_map_27 : decode b_Ker_map 27 = .ok (.iload_n 3, 1) := by decide +kernel
theorem d_Ker_map_28 : decode b_Ker_map 28 = .ok (.iload 4, 2) := by decide +kernel
theorem d_Ker_map_30 : decode b_Ker_map 30 = .ok (.invokespecial 85, 3) := by decide +kernel
theorem d_Ker_map_33 : decode b_Ker_map 33 = .ok (.invokevirtual 79, 3) := by decide +kernel
theorem d_Ker_map_36 : decode b_Ker_map 36 = .ok (.ireturn, 1) := by decide +kernel
theorem d_Grant_init_0 : decode b_Grant_init 0 = .ok (.aload_n 0, 1) := by decide +kernel
theorem d_Grant_init_1 : decode b_Grant_init 1 = .ok (.iload_n 1, 1) := by decide +kernel
theorem d_Grant_init_2 : decode b_Grant_init 2 = .ok (.iload_n 2, 1) := by decide +kernel
theorem d_Grant_init_3 : decode b_Grant_init 3 = .ok (.invokespecial 3, 3) := by decide +kernel
theorem d_Grant_init_6 : decode b_Grant_init 6 = .ok (.aload_n 0, 1) := by decide +kernel
theorem d_Grant_init_7 : decode b_Grant_init 7 = .ok (.iload_n 3, 1) := by decide +kernel
theorem d_Grant_init_8 : decode b_Grant_init 8 = .ok (.putfield 9, 3) := by decide +kernel
theorem d_Grant_init_11 : decode b_Grant_init 11 = .ok (.return_, 1) := by decide +kernel
theorem d_Locked_init_0 : decode b_Locked_init 0 = .ok (.aload_n 0, 1) := by decide +kernel
theorem d_Locked_init_1 : decode b_Locked_init 1 = .ok (.getstatic 1, 3) := by decide +kernel
theorem d_Locked_init_4 : decode b_Locked_init 4 = .ok (.invokespecial 7, 3) := by decide +kernel
theorem d_Locked_init_7 : decode b_Locked_init 7 = .ok (.aload_n 0, 1) := by decide +kernel
theorem d_Locked_init_8 : decode b_Locked_init 8 = .ok (.iload_n 1, 1) := by decide +kernel
theorem d_Locked_init_9 : decode b_Locked_init 9 = .ok (.putfield 13, 3) := by decide +kernel
theorem d_Locked_init_12 : decode b_Locked_init 12 = .ok (.aload_n 0, 1) := by decide +kernel
theorem d_Locked_init_13 : decode b_Locked_init 13 = .ok (.iload_n 2, 1) := by decide +kernel
theorem d_Locked_init_14 : decode b_Locked_init 14 = .ok (.putfield 19, 3) := by decide +kernel
theorem d_Locked_init_17 : decode b_Locked_init 17 = .ok (.return_, 1) := by decide +kernel
theorem d_Ker_unmap_0 : decode b_Ker_unmap 0 = .ok (.aload_n 0, 1) := by decide +kernel
theorem d_Ker_unmap_1 : decode b_Ker_unmap 1 = .ok (.iload_n 1, 1) := by decide +kernel
theorem d_Ker_unmap_2 : decode b_Ker_unmap 2 = .ok (.invokevirtual 66, 3) := by decide +kernel
theorem d_Ker_unmap_5 : decode b_Ker_unmap 5 = .ok (.ifCond .ne 11, 3) := by decide +kernel
theorem d_Ker_unmap_8 : decode b_Ker_unmap 8 = .ok (.iload_n 2, 1) := by decide +kernel
theorem d_Ker_unmap_9 : decode b_Ker_unmap 9 = .ok (.iload_n 3, 1) := by decide +kernel
theorem d_Ker_unmap_10 : decode b_Ker_unmap 10 = .ok (.invokestatic 70, 3) := by decide +kernel
theorem d_Ker_unmap_13 : decode b_Ker_unmap 13 = .ok (.ifCond .eq 7, 3) := by decide +kernel
theorem d_Ker_unmap_16 : decode b_Ker_unmap 16 = .ok (.iconst (-1), 1) := by decide +kernel
theorem d_Ker_unmap_17 : decode b_Ker_unmap 17 = .ok (.goto 18, 3) := by decide +kernel
theorem d_Ker_unmap_20 : decode b_Ker_unmap 20 = .ok (.aload_n 0, 1) := by decide +kernel
theorem d_Ker_unmap_21 : decode b_Ker_unmap 21 = .ok (.iload_n 1, 1) := by decide +kernel
theorem d_Ker_unmap_22 : decode b_Ker_unmap 22 = .ok (.new 88, 3) := by decide +kernel
theorem d_Ker_unmap_25 : decode b_Ker_unmap 25 = .ok (.dup, 1) := by decide +kernel
theorem d_Ker_unmap_26 : decode b_Ker_unmap 26 = .ok (.iload_n 2, 1) := by decide +kernel
theorem d_Ker_unmap_27 : decode b_Ker_unmap 27 = .ok (.iload_n 3, 1) := by decide +kernel
theorem d_Ker_unmap_28 : decode b_Ker_unmap 28 = .ok (.iconst 1, 1) := by decide +kernel
theorem d_Ker_unmap_29 : decode b_Ker_unmap 29 = .ok (.invokespecial 90, 3) := by decide +kernel
theorem d_Ker_unmap_32 : decode b_Ker_unmap 32 = .ok (.invokevirtual 79, 3) := by decide +kernel
theorem d_Ker_unmap_35 : decode b_Ker_unmap 35 = .ok (.ireturn, 1) := by decide +kernel
theorem d_Revoke_init_0 : decode b_Revoke_init 0 = .ok (.aload_n 0, 1) := by decide +kernel
theorem d_Revoke_init_1 : decode b_Revoke_init 1 = .ok (.iload_n 1, 1) := by decide +kernel
theorem d_Revoke_init_2 : decode b_Revoke_init 2 = .ok (.iload_n 2, 1) := by decide +kernel
theorem d_Revoke_init_3 : decode b_Revoke_init 3 = .ok (.invokespecial 3, 3) := by decide +kernel
theorem d_Revoke_init_6 : decode b_Revoke_init 6 = .ok (.aload_n 0, 1) := by decide +kernel
theorem d_Revoke_init_7 : decode b_Revoke_init 7 = .ok (.iconst 4, 1) := by decide +kernel
theorem d_Revoke_init_8 : decode b_Revoke_init 8 = .ok (.newarray .int, 2) := by decide +kernel
theorem d_Revoke_init_10 : decode b_Revoke_init 10 = .ok (.putfield 9, 3) := by decide +kernel
theorem d_Revoke_init_13 : decode b_Revoke_init 13 = .ok (.aload_n 0, 1) := by decide +kernel
theorem d_Revoke_init_14 : decode b_Revoke_init 14 = .ok (.iload_n 3, 1) := by decide +kernel
theorem d_Revoke_init_15 : decode b_Revoke_init 15 = .ok (.putfield 15, 3) := by decide +kernel
theorem d_Revoke_init_18 : decode b_Revoke_init 18 = .ok (.return_, 1) := by decide +kernel
theorem d_Ker_protect_0 : decode b_Ker_protect 0 = .ok (.aload_n 0, 1) := by decide +kernel
theorem d_Ker_protect_1 : decode b_Ker_protect 1 = .ok (.iload_n 1, 1) := by decide +kernel
theorem d_Ker_protect_2 : decode b_Ker_protect 2 = .ok (.invokevirtual 66, 3) := by decide +kernel
theorem d_Ker_protect_5 : decode b_Ker_protect 5 = .ok (.ifCond .ne 11, 3) := by decide +kernel
theorem d_Ker_protect_8 : decode b_Ker_protect 8 = .ok (.iload_n 2, 1) := by decide +kernel
theorem d_Ker_protect_9 : decode b_Ker_protect 9 = .ok (.iload_n 3, 1) := by decide +kernel
theorem d_Ker_protect_10 : decode b_Ker_protect 10 = .ok (.invokestatic 70, 3) := by decide +kernel
theorem d_Ker_protect_13 : decode b_Ker_protect 13 = .ok (.ifCond .eq 7, 3) := by decide +kernel
theorem d_Ker_protect_16 : decode b_Ker_protect 16 = .ok (.iconst (-1), 1) := by decide +kernel
theorem d_Ker_protect_17 : decode b_Ker_protect 17 = .ok (.goto 18, 3) := by decide +kernel
theorem d_Ker_protect_20 : decode b_Ker_protect 20 = .ok (.aload_n 0, 1) := by decide +kernel
theorem d_Ker_protect_21 : decode b_Ker_protect 21 = .ok (.iload_n 1, 1) := by decide +kernel
theorem d_Ker_protect_22 : decode b_Ker_protect 22 = .ok (.new 88, 3) := by decide +kernel
theorem d_Ker_protect_25 : decode b_Ker_protect 25 = .ok (.dup, 1) := by decide +kernel
theorem d_Ker_protect_26 : decode b_Ker_protect 26 = .ok (.iload_n 2, 1) := by decide +kernel
theorem d_Ker_protect_27 : decode b_Ker_protect 27 = .ok (.iload_n 3, 1) := by decide +kernel
theorem d_Ker_protect_28 : decode b_Ker_protect 28 = .ok (.iconst 0, 1) := by decide +kernel
theorem d_Ker_protect_29 : decode b_Ker_protect 29 = .ok (.invokespecial 90, 3) := by decide +kernel
theorem d_Ker_protect_32 : decode b_Ker_protect 32 = .ok (.invokevirtual 79, 3) := by decide +kernel
theorem d_Ker_protect_35 : decode b_Ker_protect 35 = .ok (.ireturn, 1) := by decide +kernel
theorem d_Ker_move_0 : decode b_Ker_move 0 = .ok (.aload_n 0, 1) := by decide +kernel
theorem d_Ker_move_1 : decode b_Ker_move 1 = .ok (.iload_n 1, 1) := by decide +kernel
theorem d_Ker_move_2 : decode b_Ker_move 2 = .ok (.invokevirtual 66, 3) := by decide +kernel
theorem d_Ker_move_5 : decode b_Ker_move 5 = .ok (.ifCond .ne 11, 3) := by decide +kernel
theorem d_Ker_move_8 : decode b_Ker_move 8 = .ok (.aload_n 0, 1) := by decide +kernel
theorem d_Ker_move_9 : decode b_Ker_move 9 = .ok (.iload_n 2, 1) := by decide +kernel
theorem d_Ker_move_10 : decode b_Ker_move 10 = .ok (.invokevirtual 27, 3) := by decide +kernel
theorem d_Ker_move_13 : decode b_Ker_move 13 = .ok (.ifnonnull 7, 3) := by decide +kernel
theorem d_Ker_move_16 : decode b_Ker_move 16 = .ok (.iconst (-1), 1) := by decide +kernel
theorem d_Ker_move_17 : decode b_Ker_move 17 = .ok (.goto 16, 3) := by decide +kernel
theorem d_Ker_move_20 : decode b_Ker_move 20 = .ok (.aload_n 0, 1) := by decide +kernel
theorem d_Ker_move_21 : decode b_Ker_move 21 = .ok (.iload_n 1, 1) := by decide +kernel
theorem d_Ker_move_22 : decode b_Ker_move 22 = .ok (.new 91, 3) := by decide +kernel
theorem d_Ker_move_25 : decode b_Ker_move 25 = .ok (.dup, 1) := by decide +kernel
theorem d_Ker_move_26 : decode b_Ker_move 26 = .ok (.iload_n 2, 1) := by decide +kernel
theorem d_Ker_move_27 : decode b_Ker_move 27 = .ok (.invokespecial 93, 3) := by decide +kernel
theorem d_Ker_move_30 : decode b_Ker_move 30 = .ok (.invokevirtual 79, 3) := by decide +kernel
theorem d_Ker_move_33 : decode b_Ker_move 33 = .ok (.ireturn, 1) := by decide +kernel
theorem d_Move_init_0 : decode b_Move_init 0 = .ok (.aload_n 0, 1) := by decide +kernel
theorem d_Move_init_1 : decode b_Move_init 1 = .ok (.getstatic 1, 3) := by decide +kernel
theorem d_Move_init_4 : decode b_Move_init 4 = .ok (.invokespecial 7, 3) := by decide +kernel
theorem d_Move_init_7 : decode b_Move_init 7 = .ok (.aload_n 0, 1) := by decide +kernel
theorem d_Move_init_8 : decode b_Move_init 8 = .ok (.iload_n 1, 1) := by decide +kernel
theorem d_Move_init_9 : decode b_Move_init 9 = .ok (.putfield 13, 3) := by decide +kernel
theorem d_Move_init_12 : decode b_Move_init 12 = .ok (.return_, 1) := by decide +kernel
theorem d_Ker_step_0 : decode b_Ker_step 0 = .ok (.aload_n 0, 1) := by decide +kernel
theorem d_Ker_step_1 : decode b_Ker_step 1 = .ok (.iload_n 1, 1) := by decide +kernel
theorem d_Ker_step_2 : decode b_Ker_step 2 = .ok (.invokevirtual 27, 3) := by decide +kernel
theorem d_Ker_step_5 : decode b_Ker_step 5 = .ok (.astore_n 2, 1) := by decide +kernel
theorem d_Ker_step_6 : decode b_Ker_step 6 = .ok (.aload_n 2, 1) := by decide +kernel
theorem d_Ker_step_7 : decode b_Ker_step 7 = .ok (.ifnonnull 5, 3) := by decide +kernel
theorem d_Ker_step_10 : decode b_Ker_step 10 = .ok (.iconst (-1), 1) := by decide +kernel
theorem d_Ker_step_11 : decode b_Ker_step 11 = .ok (.ireturn, 1) := by decide +kernel
theorem d_Ker_step_12 : decode b_Ker_step 12 = .ok (.aload_n 0, 1) := by decide +kernel
theorem d_Ker_step_13 : decode b_Ker_step 13 = .ok (.dup, 1) := by decide +kernel
theorem d_Ker_step_14 : decode b_Ker_step 14 = .ok (.getfield 96, 3) := by decide +kernel
theorem d_Ker_step_17 : decode b_Ker_step 17 = .ok (.iconst 1, 1) := by decide +kernel
theorem d_Ker_step_18 : decode b_Ker_step 18 = .ok (.iadd, 1) := by decide +kernel
theorem d_Ker_step_19 : decode b_Ker_step 19 = .ok (.putfield 96, 3) := by decide +kernel
theorem d_Ker_step_22 : decode b_Ker_step 22 = .ok (.aload_n 2, 1) := by decide +kernel
theorem d_Ker_step_23 : decode b_Ker_step 23 = .ok (.getfield 100, 3) := by decide +kernel
theorem d_Ker_step_26 : decode b_Ker_step 26 = .ok (.invokevirtual 103, 3) := by decide +kernel
theorem d_Ker_step_29 : decode b_Ker_step 29 = .ok (.checkcast 107, 3) := by decide +kernel
theorem d_Ker_step_32 : decode b_Ker_step 32 = .ok (.astore_n 3, 1) := by decide +kernel
theorem d_Ker_step_33 : decode b_Ker_step 33 = .ok (.aload_n 3, 1) := by decide +kernel
theorem d_Ker_step_34 : decode b_Ker_step 34 = .ok (.ifnull 30, 3) := by decide +kernel
theorem d_Ker_step_37 : decode b_Ker_step 37 = .ok (.aload_n 2, 1) := by decide +kernel
theorem d_Ker_step_38 : decode b_Ker_step 38 = .ok (.aload_n 3, 1) := by decide +kernel
theorem d_Ker_step_39 : decode b_Ker_step 39 = .ok (.invokevirtual 109, 3) := by decide +kernel
theorem d_Ker_step_42 : decode b_Ker_step 42 = .ok (.aload_n 3, 1) := by decide +kernel
theorem d_Ker_step_43 : decode b_Ker_step 43 = .ok (.invokevirtual 112, 3) := by decide +kernel
theorem d_Ker_step_46 : decode b_Ker_step 46 = .ok (.invokevirtual 115, 3) := by decide +kernel
theorem d_Ker_step_49 : decode b_Ker_step 49 = .ok (.aload_n 3, 1) := by decide +kernel
theorem d_Ker_step_50 : decode b_Ker_step 50 = .ok (.invokevirtual 118, 3) := by decide +kernel
theorem d_Ker_step_53 : decode b_Ker_step 53 = .ok (.dup, 1) := by decide +kernel
theorem d_Ker_step_54 : decode b_Ker_step 54 = .ok (.getfield 122, 3) := by decide +kernel
theorem d_Ker_step_57 : decode b_Ker_step 57 = .ok (.iconst 1, 1) := by decide +kernel
theorem d_Ker_step_58 : decode b_Ker_step 58 = .ok (.isub, 1) := by decide +kernel
theorem d_Ker_step_59 : decode b_Ker_step 59 = .ok (.putfield 122, 3) := by decide +kernel
theorem d_Ker_step_62 : decode b_Ker_step 62 = .ok (.iconst 1, 1) := by decide +kernel
theorem d_Ker_step_63 : decode b_Ker_step 63 = .ok (.ireturn, 1) := by decide +kernel
theorem d_Ker_step_64 : decode b_Ker_step 64 = .ok (.aload_n 2, 1) := by decide +kernel
theorem d_Ker_step_65 : decode b_Ker_step 65 = .ok (.getfield 125, 3) := by decide +kernel
theorem d_Ker_step_68 : decode b_Ker_step 68 = .ok (.ifnonnull 9, 3) := by decide +kernel
theorem d_Ker_step_71 : decode b_Ker_step 71 = .ok (.aload_n 0, 1) := by decide +kernel
theorem d_Ker_step_72 : decode b_Ker_step 72 = .ok (.aload_n 2, 1) := by decide +kernel
theorem d_Ker_step_73 : decode b_Ker_step 73 = .ok (.invokevirtual 129, 3) := by decide +kernel
theorem d_Ker_step_76 : decode b_Ker_step 76 = .ok (.ireturn, 1) := by decide +kernel
theorem d_Ker_step_77 : decode b_Ker_step 77 = .ok (.aload_n 2, 1) := by decide +kernel
theorem d_Ker_step_78 : decode b_Ker_step 78 = .ok (.getfield 125, 3) := by decide +kernel
theorem d_Ker_step_81 : decode b_Ker_step 81 = .ok (.astore 4, 2) := by decide +kernel
theorem d_Ker_step_83 : decode b_Ker_step 83 = .ok (.aload 4, 2) := by decide +kernel
theorem d_Ker_step_85 : decode b_Ker_step 85 = .ok (.getfield 48, 3) := by decide +kernel
theorem d_Ker_step_88 : decode b_Ker_step 88 = .ok (.aload 4, 2) := by decide +kernel
theorem d_Ker_step_90 : decode b_Ker_step 90 = .ok (.getfield 133, 3) := by decide +kernel
theorem d_Ker_step_93 : decode b_Ker_step 93 = .ok (.invokevirtual 44, 3) := by decide +kernel
theorem d_Ker_step_96 : decode b_Ker_step 96 = .ok (.checkcast 136, 3) := by decide +kernel
theorem d_Ker_step_99 : decode b_Ker_step 99 = .ok (.astore 5, 2) := by decide +kernel
theorem d_Ker_step_101 : decode b_Ker_step 101 = .ok (.aload 5, 2) := by decide +kernel
theorem d_Ker_step_103 : decode b_Ker_step 103 = .ok (.getfield 138, 3) := by decide +kernel
theorem d_Ker_step_106 : decode b_Ker_step 106 = .ok (.invokevirtual 142, 3) := by decide +kernel
theorem d_Ker_step_109 : decode b_Ker_step 109 = .ok (.istore 6, 2) := by decide +kernel
theorem d_Ker_step_111 : decode b_Ker_step 111 = .ok (.aload 5, 2) := by decide +kernel
theorem d_Ker_step_113 : decode b_Ker_step 113 = .ok (.aload_n 0, 1) := by decide +kernel
theorem d_Ker_step_114 : decode b_Ker_step 114 = .ok (.getfield 10, 3) := by decide +kernel
theorem d_Ker_step_117 : decode b_Ker_step 117 = .ok (.aload_n 2, 1) := by decide +kernel
theorem d_Ker_step_118 : decode b_Ker_step 118 = .ok (.invokevirtual 147, 3) := by decide +kernel
theorem d_Ker_step_121 : decode b_Ker_step 121 = .ok (.ifCond .ne 6, 3) := by decide +kernel
theorem d_Ker_step_124 : decode b_Ker_step 124 = .ok (.iload 6, 2) := by decide +kernel
theorem d_Ker_step_126 : decode b_Ker_step 126 = .ok (.ireturn, 1) := by decide +kernel
theorem d_Ker_step_127 : decode b_Ker_step 127 = .ok (.aload_n 0, 1) := by decide +kernel
theorem d_Ker_step_128 : decode b_Ker_step 128 = .ok (.dup, 1) := by decide +kernel
theorem d_Ker_step_129 : decode b_Ker_step 129 = .ok (.getfield 151, 3) := by decide +kernel
theorem d_Ker_step_132 : decode b_Ker_step 132 = .ok (.iconst 1, 1) := by decide +kernel
theorem d_Ker_step_133 : decode b_Ker_step 133 = .ok (.iadd, 1) := by decide +kernel
theorem d_Ker_step_134 : decode b_Ker_step 134 = .ok (.putfield 151, 3) := by decide +kernel
theorem d_Ker_step_137 : decode b_Ker_step 137 = .ok (.aload 4, 2) := by decide +kernel
theorem d_Ker_step_139 : decode b_Ker_step 139 = .ok (.dup, 1) := by decide +kernel
theorem d_Ker_step_140 : decode b_Ker_step 140 = .ok (.getfield 133, 3) := by decide +kernel
theorem d_Ker_step_143 : decode b_Ker_step 143 = .ok (.iconst 1, 1) := by decide +kernel
theorem d_Ker_step_144 : decode b_Ker_step 144 = .ok (.iadd, 1) := by decide +kernel
theorem d_Ker_step_145 : decode b_Ker_step 145 = .ok (.putfield 133, 3) := by decide +kernel
theorem d_Ker_step_148 : decode b_Ker_step 148 = .ok (.aload_n 0, 1) := by decide +kernel
theorem d_Ker_step_149 : decode b_Ker_step 149 = .ok (.aload_n 2, 1) := by decide +kernel
theorem d_Ker_step_150 : decode b_Ker_step 150 = .ok (.aload 4, 2) := by decide +kernel
theorem d_Ker_step_152 : decode b_Ker_step 152 = .ok (.aload 5, 2) := by decide +kernel
theorem d_Ker_step_154 : decode b_Ker_step 154 = .ok (.invokevirtual 154, 3) := by decide +kernel
theorem d_Ker_step_157 : decode b_Ker_step 157 = .ok (.iload 6, 2) := by decide +kernel
theorem d_Ker_step_159 : decode b_Ker_step 159 = .ok (.bipush 16, 2) := by decide +kernel
theorem d_Ker_step_161 : decode b_Ker_step 161 = .ok (.iadd, 1) := by decide +kernel
theorem d_Ker_step_162 : decode b_Ker_step 162 = .ok (.ireturn, 1) := by decide +kernel
theorem d_Line_take_0 : decode b_Line_take 0 = .ok (.aload_n 0, 1) := by decide +kernel
theorem d_Line_take_1 : decode b_Line_take 1 = .ok (.getfield 18, 3) := by decide +kernel
theorem d_Line_take_4 : decode b_Line_take 4 = .ok (.ifnonnull 5, 3) := by decide +kernel
theorem d_Line_take_7 : decode b_Line_take 7 = .ok (.aconst_null, 1) := by decide +kernel
theorem d_Line_take_8 : decode b_Line_take 8 = .ok (.areturn, 1) := by decide +kernel
theorem d_Line_take_9 : decode b_Line_take 9 = .ok (.aload_n 0, 1) := by decide +kernel
theorem d_Line_take_10 : decode b_Line_take 10 = .ok (.getfield 18, 3) := by decide +kernel
theorem d_Line_take_13 : decode b_Line_take 13 = .ok (.getfield 28, 3) := by decide +kernel
theorem d_Line_take_16 : decode b_Line_take 16 = .ok (.astore_n 1, 1) := by decide +kernel
theorem d_Line_take_17 : decode b_Line_take 17 = .ok (.aload_n 0, 1) := by decide +kernel
theorem d_Line_take_18 : decode b_Line_take 18 = .ok (.aload_n 0, 1) := by decide +kernel
theorem d_Line_take_19 : decode b_Line_take 19 = .ok (.getfield 18, 3) := by decide +kernel
theorem d_Line_take_22 : decode b_Line_take 22 = .ok (.getfield 21, 3) := by decide +kernel
theorem d_Line_take_25 : decode b_Line_take 25 = .ok (.putfield 18, 3) := by decide +kernel
theorem d_Line_take_28 : decode b_Line_take 28 = .ok (.aload_n 0, 1) := by decide +kernel
theorem d_Line_take_29 : decode b_Line_take 29 = .ok (.aload_n 0, 1) := by decide +kernel
theorem d_Line_take_30 : decode b_Line_take 30 = .ok (.getfield 18, 3) := by decide +kernel
theorem d_Line_take_33 : decode b_Line_take 33 = .ok (.ifnonnull 7, 3) := by decide +kernel
theorem d_Line_take_36 : decode b_Line_take 36 = .ok (.aconst_null, 1) := by decide +kernel
theorem d_Line_take_37 : decode b_Line_take 37 = .ok (.goto 7, 3) := by decide +kernel
theorem d_Line_take_40 : decode b_Line_take 40 = .ok (.aload_n 0, 1) := by decide +kernel
theorem d_Line_take_41 : decode b_Line_take 41 = .ok (.getfield 12, 3) := by decide +kernel
theorem d_Line_take_44 : decode b_Line_take 44 = .ok (.putfield 12, 3) := by decide +kernel
theorem d_Line_take_47 : decode b_Line_take 47 = .ok (.aload_n 0, 1) := by decide +kernel
theorem d_Line_take_48 : decode b_Line_take 48 = .ok (.dup, 1) := by decide +kernel
theorem d_Line_take_49 : decode b_Line_take 49 = .ok (.getfield 24, 3) := by decide +kernel
theorem d_Line_take_52 : decode b_Line_take 52 = .ok (.iconst 1, 1) := by decide +kernel
theorem d_Line_take_53 : decode b_Line_take 53 = .ok (.isub, 1) := by decide +kernel
theorem d_Line_take_54 : decode b_Line_take 54 = .ok (.putfield 24, 3) := by decide +kernel
theorem d_Line_take_57 : decode b_Line_take 57 = .ok (.aload_n 1, 1) := by decide +kernel
theorem d_Line_take_58 : decode b_Line_take 58 = .ok (.areturn, 1) := by decide +kernel
theorem d_Request_from_0 : decode b_Request_from 0 = .ok (.aload_n 0, 1) := by decide +kernel
theorem d_Request_from_1 : decode b_Request_from 1 = .ok (.getfield 7, 3) := by decide +kernel
theorem d_Request_from_4 : decode b_Request_from 4 = .ok (.ireturn, 1) := by decide +kernel
theorem d_Request_n_0 : decode b_Request_n 0 = .ok (.aload_n 0, 1) := by decide +kernel
theorem d_Request_n_1 : decode b_Request_n 1 = .ok (.getfield 13, 3) := by decide +kernel
theorem d_Request_n_4 : decode b_Request_n 4 = .ok (.ireturn, 1) := by decide +kernel
theorem d_Processor_drop_0 : decode b_Processor_drop 0 = .ok (.aconst_null, 1) := by decide +kernel
theorem d_Processor_drop_1 : decode b_Processor_drop 1 = .ok (.astore_n 3, 1) := by decide +kernel
theorem d_Processor_drop_2 : decode b_Processor_drop 2 = .ok (.aload_n 0, 1) := by decide +kernel
theorem d_Processor_drop_3 : decode b_Processor_drop 3 = .ok (.getfield 29, 3) := by decide +kernel
theorem d_Processor_drop_6 : decode b_Processor_drop 6 = .ok (.astore 4, 2) := by decide +kernel
theorem d_Processor_drop_8 : decode b_Processor_drop 8 = .ok (.aload 4, 2) := by decide +kernel
theorem d_Processor_drop_10 : decode b_Processor_drop 10 = .ok (.ifnull 84, 3) := by decide +kernel
theorem d_Processor_drop_13 : decode b_Processor_drop 13 = .ok (.aload 4, 2) := by decide +kernel
theorem d_Processor_drop_15 : decode b_Processor_drop 15 = .ok (.getfield 33, 3) := by decide +kernel
theorem d_Processor_drop_18 : decode b_Processor_drop 18 = .ok (.iload_n 1, 1) := by decide +kernel
theorem d_Processor_drop_19 : decode b_Processor_drop 19 = .ok (.if_icmp .lt 18, 3) := by decide +kernel
theorem d_Processor_drop_22 : decode b_Processor_drop 22 = .ok (.aload 4, 2) := by decide +kernel
theorem d_Processor_drop_24 : decode b_Processor_drop 24 = .ok (.getfield 33, 3) := by decide +kernel
theorem d_Processor_drop_27 : decode b_Processor_drop 27 = .ok (.iload_n 1, 1) := by decide +kernel
theorem d_Processor_drop_28 : decode b_Processor_drop 28 = .ok (.iload_n 2, 1) := by decide +kernel
theorem d_Processor_drop_29 : decode b_Processor_drop 29 = .ok (.iadd, 1) := by decide +kernel
theorem d_Processor_drop_30 : decode b_Processor_drop 30 = .ok (.if_icmp .ge 7, 3) := by decide +kernel
theorem d_Processor_drop_33 : decode b_Processor_drop 33 = .ok (.iconst 1, 1) := by decide +kernel
theorem d_Processor_drop_34 : decode b_Processor_drop 34 = .ok (.goto 4, 3) := by decide +kernel
theorem d_Processor_drop_37 : decode b_Processor_drop 37 = .ok (.iconst 0, 1) := by decide +kernel
theorem d_Processor_drop_38 : decode b_Processor_drop 38 = .ok (.istore 5, 2) := by decide +kernel
theorem d_Processor_drop_40 : decode b_Processor_drop 40 = .ok (.aload 4, 2) := by decide +kernel
theorem d_Processor_drop_42 : decode b_Processor_drop 42 = .ok (.getfield 38, 3) := by decide +kernel
theorem d_Processor_drop_45 : decode b_Processor_drop 45 = .ok (.astore 6, 2) := by decide +kernel
theorem d_Processor_drop_47 : decode b_Processor_drop 47 = .ok (.iload 5, 2) := by decide +kernel
theorem d_Processor_drop_49 : decode b_Processor_drop 49 = .ok (.ifCond .ne 9, 3) := by decide +kernel
theorem d_Processor_drop_52 : decode b_Processor_drop 52 = .ok (.aload 4, 2) := by decide +kernel
theorem d_Processor_drop_54 : decode b_Processor_drop 54 = .ok (.astore_n 3, 1) := by decide +kernel
theorem d_Processor_drop_55 : decode b_Processor_drop 55 = .ok (.goto 32, 3) := by decide +kernel
theorem d_Processor_drop_58 : decode b_Processor_drop 58 = .ok (.aload_n 0, 1) := by decide +kernel
theorem d_Processor_drop_59 : decode b_Processor_drop 59 = .ok (.dup, 1) := by decide +kernel
theorem d_Processor_drop_60 : decode b_Processor_drop 60 = .ok (.getfield 41, 3) := by decide +kernel
theorem d_Processor_drop_63 : decode b_Processor_drop 63 = .ok (.iconst 1, 1) := by decide +kernel
theorem d_Processor_drop_64 : decode b_Processor_drop 64 = .ok (.isub, 1) := by decide +kernel
theorem d_Processor_drop_65 : decode b_Processor_drop 65 = .ok (.putfield 41, 3) := by decide +kernel
theorem d_Processor_drop_68 : decode b_Processor_drop 68 = .ok (.aload_n 3, 1) := by decide +kernel
theorem d_Processor_drop_69 : decode b_Processor_drop 69 = .ok (.ifnonnull 12, 3) := by decide +kernel
theorem d_Processor_drop_72 : decode b_Processor_drop 72 = .ok (.aload_n 0, 1) := by decide +kernel
theorem d_Processor_drop_73 : decode b_Processor_drop 73 = .ok (.aload 6, 2) := by decide +kernel
theorem d_Processor_drop_75 : decode b_Processor_drop 75 = .ok (.putfield 29, 3) := by decide +kernel
theorem d_Processor_drop_78 : decode b_Processor_drop 78 = .ok (.goto 9, 3) := by decide +kernel
theorem d_Processor_drop_81 : decode b_Processor_drop 81 = .ok (.aload_n 3, 1) := by decide +kernel
theorem d_Processor_drop_82 : decode b_Processor_drop 82 = .ok (.aload 6, 2) := by decide +kernel
theorem d_Processor_drop_84 : decode b_Processor_drop 84 = .ok (.putfield 38, 3) := by decide +kernel
theorem d_Processor_drop_87 : decode b_Processor_drop 87 = .ok (.aload 6, 2) := by decide +kernel
theorem d_Processor_drop_89 : decode b_Processor_drop 89 = .ok (.astore 4, 2) := by decide +kernel
theorem d_Processor_drop_91 : decode b_Processor_drop 91 = .ok (.goto (-83), 3) := by decide +kernel
theorem d_Processor_drop_94 : decode b_Processor_drop 94 = .ok (.return_, 1) := by decide +kernel
theorem d_Request_sender_0 : decode b_Request_sender 0 = .ok (.aload_n 0, 1) := by decide +kernel
theorem d_Request_sender_1 : decode b_Request_sender 1 = .ok (.getfield 16, 3) := by decide +kernel
theorem d_Request_sender_4 : decode b_Request_sender 4 = .ok (.areturn, 1) := by decide +kernel
theorem d_Ker_pick_0 : decode b_Ker_pick 0 = .ok (.aload_n 1, 1) := by decide +kernel
theorem d_Ker_pick_1 : decode b_Ker_pick 1 = .ok (.aload_n 1, 1) := by decide +kernel
theorem d_Ker_pick_2 : decode b_Ker_pick 2 = .ok (.getfield 55, 3) := by decide +kernel
theorem d_Ker_pick_5 : decode b_Ker_pick 5 = .ok (.invokevirtual 103, 3) := by decide +kernel
theorem d_Ker_pick_8 : decode b_Ker_pick 8 = .ok (.checkcast 35, 3) := by decide +kernel
theorem d_Ker_pick_11 : decode b_Ker_pick 11 = .ok (.putfield 125, 3) := by decide +kernel
theorem d_Ker_pick_14 : decode b_Ker_pick 14 = .ok (.aload_n 1, 1) := by decide +kernel
theorem d_Ker_pick_15 : decode b_Ker_pick 15 = .ok (.getfield 125, 3) := by decide +kernel
theorem d_Ker_pick_18 : decode b_Ker_pick 18 = .ok (.ifnull 5, 3) := by decide +kernel
theorem d_Ker_pick_21 : decode b_Ker_pick 21 = .ok (.iconst 2, 1) := by decide +kernel
theorem d_Ker_pick_22 : decode b_Ker_pick 22 = .ok (.ireturn, 1) := by decide +kernel
theorem d_Ker_pick_23 : decode b_Ker_pick 23 = .ok (.aload_n 1, 1) := by decide +kernel
theorem d_Ker_pick_24 : decode b_Ker_pick 24 = .ok (.astore_n 2, 1) := by decide +kernel
theorem d_Ker_pick_25 : decode b_Ker_pick 25 = .ok (.aload_n 0, 1) := by decide +kernel
theorem d_Ker_pick_26 : decode b_Ker_pick 26 = .ok (.getfield 10, 3) := by decide +kernel
theorem d_Ker_pick_29 : decode b_Ker_pick 29 = .ok (.getfield 23, 3) := by decide +kernel
theorem d_Ker_pick_32 : decode b_Ker_pick 32 = .ok (.astore_n 3, 1) := by decide +kernel
theorem d_Ker_pick_33 : decode b_Ker_pick 33 = .ok (.aload_n 3, 1) := by decide +kernel
theorem d_Ker_pick_34 : decode b_Ker_pick 34 = .ok (.arraylength, 1) := by decide +kernel
theorem d_Ker_pick_35 : decode b_Ker_pick 35 = .ok (.istore 4, 2) := by decide +kernel
theorem d_Ker_pick_37 : decode b_Ker_pick 37 = .ok (.iconst 0, 1) := by decide +kernel
theorem d_Ker_pick_38 : decode b_Ker_pick 38 = .ok (.istore 5, 2) := by decide +kernel
theorem d_Ker_pick_40 : decode b_Ker_pick 40 = .ok (.iload 5, 2) := by decide +kernel
theorem d_Ker_pick_42 : decode b_Ker_pick 42 = .ok (.iload 4, 2) := by decide +kernel
theorem d_Ker_pick_44 : decode b_Ker_pick 44 = .ok (.if_icmp .ge 40, 3) := by decide +kernel
theorem d_Ker_pick_47 : decode b_Ker_pick 47 = .ok (.aload_n 3, 1) := by decide +kernel
theorem d_Ker_pick_48 : decode b_Ker_pick 48 = .ok (.iload 5, 2) := by decide +kernel
theorem d_Ker_pick_50 : decode b_Ker_pick 50 = .ok (.aaload, 1) := by decide +kernel
theorem d_Ker_pick_51 : decode b_Ker_pick 51 = .ok (.astore 6, 2) := by decide +kernel
theorem d_Ker_pick_53 : decode b_Ker_pick 53 = .ok (.aload 6, 2) := by decide +kernel
theorem d_Ker_pick_55 : decode b_Ker_pick 55 = .ok (.getfield 55, 3) := by decide +kernel
theorem d_Ker_pick_58 : decode b_Ker_pick 58 = .ok (.getfield 158, 3) := by decide +kernel
theorem d_Ker_pick_61 : decode b_Ker_pick 61 = .ok (.aload_n 2, 1) := by decide +kernel
theorem d_Ker_pick_62 : decode b_Ker_pick 62 = .ok (.getfield 55, 3) := by decide +kernel
theorem d_Ker_pick_65 : decode b_Ker_pick 65 = .ok (.getfield 158, 3) := by decide +kernel
theorem d_Ker_pick_68 : decode b_Ker_pick 68 = .ok (.if_icmp .le 8, 3) := by decide +kernel
theorem d_Ker_pick_71 : decode b_Ker_pick 71 = .ok (.aload 6, 2) := by decide +kernel
theorem d_Ker_pick_73 : decode b_Ker_pick 73 = .ok (.goto 4, 3) := by decide +kernel
theorem d_Ker_pick_76 : decode b_Ker_pick 76 = .ok (.aload_n 2, 1) := by decide +kernel
theorem d_Ker_pick_77 : decode b_Ker_pick 77 = .ok (.astore_n 2, 1) := by decide +kernel
theorem d_Ker_pick_78 : decode b_Ker_pick 78 = .ok (.iinc 5 1, 3) := by decide +kernel
theorem d_Ker_pick_81 : decode b_Ker_pick 81 = .ok (.goto (-41), 3) := by decide +kernel
theorem d_Ker_pick_84 : decode b_Ker_pick 84 = .ok (.aload_n 2, 1) := by decide +kernel
theorem d_Ker_pick_85 : decode b_Ker_pick 85 = .ok (.getfield 55, 3) := by decide +kernel
theorem d_Ker_pick_88 : decode b_Ker_pick 88 = .ok (.getfield 158, 3) := by decide +kernel
theorem d_Ker_pick_91 : decode b_Ker_pick 91 = .ok (.iconst 2, 1) := by decide +kernel
theorem d_Ker_pick_92 : decode b_Ker_pick 92 = .ok (.if_icmp .ge 5, 3) := by decide +kernel
theorem d_Ker_pick_95 : decode b_Ker_pick 95 = .ok (.iconst 0, 1) := by decide +kernel
theorem d_Ker_pick_96 : decode b_Ker_pick 96 = .ok (.ireturn, 1) := by decide +kernel
theorem d_Ker_pick_97 : decode b_Ker_pick 97 = .ok (.aload_n 1, 1) := by decide +kernel
theorem d_Ker_pick_98 : decode b_Ker_pick 98 = .ok (.aload_n 2, 1) := by decide +kernel
theorem d_Ker_pick_99 : decode b_Ker_pick 99 = .ok (.getfield 55, 3) := by decide +kernel
theorem d_Ker_pick_102 : decode b_Ker_pick 102 = .ok (.invokevirtual 160, 3) := by decide +kernel
theorem d_Ker_pick_105 : decode b_Ker_pick 105 = .ok (.checkcast 35, 3) := by decide +kernel
theorem d_Ker_pick_108 : decode b_Ker_pick 108 = .ok (.putfield 125, 3) := by decide +kernel
theorem d_Ker_pick_111 : decode b_Ker_pick 111 = .ok (.iconst 3, 1) := by decide +kernel
theorem d_Ker_pick_112 : decode b_Ker_pick 112 = .ok (.ireturn, 1) := by decide +kernel
theorem d_Line_takeLast_0 : decode b_Line_takeLast 0 = .ok (.aload_n 0, 1) := by decide +kernel
theorem d_Line_takeLast_1 : decode b_Line_takeLast 1 = .ok (.getfield 18, 3) := by decide +kernel
theorem d_Line_takeLast_4 : decode b_Line_takeLast 4 = .ok (.ifnull 14, 3) := by decide +kernel
theorem d_Line_takeLast_7 : decode b_Line_takeLast 7 = .ok (.aload_n 0, 1) := by decide +kernel
theorem d_Line_takeLast_8 : decode b_Line_takeLast 8 = .ok (.getfield 18, 3) := by decide +kernel
theorem d_Line_takeLast_11 : decode b_Line_takeLast 11 = .ok (.aload_n 0, 1) := by decide +kernel
theorem d_Line_takeLast_12 : decode b_Line_takeLast 12 = .ok (.getfield 12, 3) := by decide +kernel
theorem d_Line_takeLast_15 : decode b_Line_takeLast 15 = .ok (.if_acmp .ne 8, 3) := by decide +kernel
theorem d_Line_takeLast_18 : decode b_Line_takeLast 18 = .ok (.aload_n 0, 1) := by decide +kernel
theorem d_Line_takeLast_19 : decode b_Line_takeLast 19 = .ok (.invokevirtual 32, 3) := by decide +kernel
theorem d_Line_takeLast_22 : decode b_Line_takeLast 22 = .ok (.areturn, 1) := by decide +kernel
theorem d_Line_takeLast_23 : decode b_Line_takeLast 23 = .ok (.aload_n 0, 1) := by decide +kernel
theorem d_Line_takeLast_24 : decode b_Line_takeLast 24 = .ok (.getfield 18, 3) := by decide +kernel
theorem d_Line_takeLast_27 : decode b_Line_takeLast 27 = .ok (.astore_n 1, 1) := by decide +kernel
theorem d_Line_takeLast_28 : decode b_Line_takeLast 28 = .ok (.aload_n 1, 1) := by decide +kernel
theorem d_Line_takeLast_29 : decode b_Line_takeLast 29 = .ok (.getfield 21, 3) := by decide +kernel
theorem d_Line_takeLast_32 : decode b_Line_takeLast 32 = .ok (.ifnull 22, 3) := by decide +kernel
theorem d_Line_takeLast_35 : decode b_Line_takeLast 35 = .ok (.aload_n 1, 1) := by decide +kernel
theorem d_Line_takeLast_36 : decode b_Line_takeLast 36 = .ok (.getfield 21, 3) := by decide +kernel
theorem d_Line_takeLast_39 : decode b_Line_takeLast 39 = .ok (.aload_n 0, 1) := by decide +kernel
theorem d_Line_takeLast_40 : decode b_Line_takeLast 40 = .ok (.getfield 12, 3) := by decide +kernel
theorem d_Line_takeLast_43 : decode b_Line_takeLast 43 = .ok (.if_acmp .eq 11, 3) := by decide +kernel
theorem d_Line_takeLast_46 : decode b_Line_takeLast 46 = .ok (.aload_n 1, 1) := by decide +kernel
theorem d_Line_takeLast_47 : decode b_Line_takeLast 47 = .ok (.getfield 21, 3) := by decide +kernel
theorem d_Line_takeLast_50 : decode b_Line_takeLast 50 = .ok (.astore_n 1, 1) := by decide +kernel
theorem d_Line_takeLast_51 : decode b_Line_takeLast 51 = .ok (.goto (-23), 3) := by decide +kernel
theorem d_Line_takeLast_54 : decode b_Line_takeLast 54 = .ok (.aload_n 0, 1) := by decide +kernel
theorem d_Line_takeLast_55 : decode b_Line_takeLast 55 = .ok (.getfield 12, 3) := by decide +kernel
theorem d_Line_takeLast_58 : decode b_Line_takeLast 58 = .ok (.getfield 28, 3) := by decide +kernel
theorem d_Line_takeLast_61 : decode b_Line_takeLast 61 = .ok (.astore_n 2, 1) := by decide +kernel
theorem d_Line_takeLast_62 : decode b_Line_takeLast 62 = .ok (.aload_n 1, 1) := by decide +kernel
theorem d_Line_takeLast_63 : decode b_Line_takeLast 63 = .ok (.aconst_null, 1) := by decide +kernel
theorem d_Line_takeLast_64 : decode b_Line_takeLast 64 = .ok (.putfield 21, 3) := by decide +kernel
theorem d_Line_takeLast_67 : decode b_Line_takeLast 67 = .ok (.aload_n 0, 1) := by decide +kernel
theorem d_Line_takeLast_68 : decode b_Line_takeLast 68 = .ok (.aload_n 1, 1) := by decide +kernel
theorem d_Line_takeLast_69 : decode b_Line_takeLast 69 = .ok (.putfield 12, 3) := by decide +kernel
theorem d_Line_takeLast_72 : decode b_Line_takeLast 72 = .ok (.aload_n 0, 1) := by decide +kernel
theorem d_Line_takeLast_73 : decode b_Line_takeLast 73 = .ok (.dup, 1) := by decide +kernel
theorem d_Line_takeLast_74 : decode b_Line_takeLast 74 = .ok (.getfield 24, 3) := by decide +kernel
theorem d_Line_takeLast_77 : decode b_Line_takeLast 77 = .ok (.iconst 1, 1) := by decide +kernel
theorem d_Line_takeLast_78 : decode b_Line_takeLast 78 = .ok (.isub, 1) := by decide +kernel
theorem d_Line_takeLast_79 : decode b_Line_takeLast 79 = .ok (.putfield 24, 3) := by decide +kernel
theorem d_Line_takeLast_82 : decode b_Line_takeLast 82 = .ok (.aload_n 2, 1) := by decide +kernel
theorem d_Line_takeLast_83 : decode b_Line_takeLast 83 = .ok (.areturn, 1) := by decide +kernel
theorem d_Phase_code_0 : decode b_Phase_code 0 = .ok (.aload_n 0, 1) := by decide +kernel
theorem d_Phase_code_1 : decode b_Phase_code 1 = .ok (.getfield 59, 3) := by decide +kernel
theorem d_Phase_code_4 : decode b_Phase_code 4 = .ok (.ireturn, 1) := by decide +kernel
theorem d_Access_act_0 : decode b_Access_act 0 = .ok (.aload_n 0, 1) := by decide +kernel
theorem d_Access_act_1 : decode b_Access_act 1 = .ok (.getfield 24, 3) := by decide +kernel
theorem d_Access_act_4 : decode b_Access_act 4 = .ok (.invokevirtual 27, 3) := by decide +kernel
theorem d_Access_act_7 : decode b_Access_act 7 = .ok (.lookupswitch 70 #[(0, 25), (1, 39)], 25) := by decide +kernel
theorem d_Access_act_32 : decode b_Access_act 32 = .ok (.aload_n 0, 1) := by decide +kernel
theorem d_Access_act_33 : decode b_Access_act 33 = .ok (.aload_n 1, 1) := by decide +kernel
theorem d_Access_act_34 : decode b_Access_act 34 = .ok (.aload_n 2, 1) := by decide +kernel
theorem d_Access_act_35 : decode b_Access_act 35 = .ok (.aload_n 0, 1) := by decide +kernel
theorem d_Access_act_36 : decode b_Access_act 36 = .ok (.getfield 15, 3) := by decide +kernel
theorem d_Access_act_39 : decode b_Access_act 39 = .ok (.invokevirtual 31, 3) := by decide +kernel
theorem d_Access_act_42 : decode b_Access_act 42 = .ok (.invokevirtual 37, 3) := by decide +kernel
theorem d_Access_act_45 : decode b_Access_act 45 = .ok (.ireturn, 1) := by decide +kernel
theorem d_Access_act_46 : decode b_Access_act 46 = .ok (.aload_n 1, 1) := by decide +kernel
theorem d_Access_act_47 : decode b_Access_act 47 = .ok (.getfield 41, 3) := by decide +kernel
theorem d_Access_act_50 : decode b_Access_act 50 = .ok (.aload_n 0, 1) := by decide +kernel
theorem d_Access_act_51 : decode b_Access_act 51 = .ok (.getfield 15, 3) := by decide +kernel
theorem d_Access_act_54 : decode b_Access_act 54 = .ok (.iconst 2, 1) := by decide +kernel
theorem d_Access_act_55 : decode b_Access_act 55 = .ok (.ishr, 1) := by decide +kernel
theorem d_Access_act_56 : decode b_Access_act 56 = .ok (.aaload, 1) := by decide +kernel
theorem d_Access_act_57 : decode b_Access_act 57 = .ok (.ifnonnull 12, 3) := by decide +kernel
theorem d_Access_act_60 : decode b_Access_act 60 = .ok (.aload_n 0, 1) := by decide +kernel
theorem d_Access_act_61 : decode b_Access_act 61 = .ok (.bipush (-2), 2) := by decide +kernel
theorem d_Access_act_63 : decode b_Access_act 63 = .ok (.invokevirtual 47, 3) := by decide +kernel
theorem d_Access_act_66 : decode b_Access_act 66 = .ok (.goto 10, 3) := by decide +kernel
theorem d_Access_act_69 : decode b_Access_act 69 = .ok (.aload_n 0, 1) := by decide +kernel
theorem d_Access_act_70 : decode b_Access_act 70 = .ok (.getstatic 51, 3) := by decide +kernel
theorem d_Access_act_73 : decode b_Access_act 73 = .ok (.invokevirtual 54, 3) := by decide +kernel
theorem d_Access_act_76 : decode b_Access_act 76 = .ok (.ireturn, 1) := by decide +kernel
theorem d_Access_act_77 : decode b_Access_act 77 = .ok (.aload_n 0, 1) := by decide +kernel
theorem d_Access_act_78 : decode b_Access_act 78 = .ok (.aload_n 1, 1) := by decide +kernel
theorem d_Access_act_79 : decode b_Access_act 79 = .ok (.aload_n 2, 1) := by decide +kernel
theorem d_Access_act_80 : decode b_Access_act 80 = .ok (.invokevirtual 58, 3) := by decide +kernel
theorem d_Access_act_83 : decode b_Access_act 83 = .ok (.ireturn, 1) := by decide +kernel
theorem d_Enum_ordinal_0 : decode b_Enum_ordinal 0 = .ok (.aload_n 0, 1) := by decide +kernel
theorem d_Enum_ordinal_1 : decode b_Enum_ordinal 1 = .ok (.getfield 7, 3) := by decide +kernel
theorem d_Enum_ordinal_4 : decode b_Enum_ordinal 4 = .ok (.ireturn, 1) := by decide +kernel
theorem d_Processor_find_0 : decode b_Processor_find 0 = .ok (.aload_n 0, 1) := by decide +kernel
theorem d_Processor_find_1 : decode b_Processor_find 1 = .ok (.getfield 29, 3) := by decide +kernel
theorem d_Processor_find_4 : decode b_Processor_find 4 = .ok (.astore_n 2, 1) := by decide +kernel
theorem d_Processor_find_5 : decode b_Processor_find 5 = .ok (.aload_n 2, 1) := by decide +kernel
theorem d_Processor_find_6 : decode b_Processor_find 6 = .ok (.ifnull 21, 3) := by decide +kernel
theorem d_Processor_find_9 : decode b_Processor_find 9 = .ok (.aload_n 2, 1) := by decide +kernel
theorem d_Processor_find_10 : decode b_Processor_find 10 = .ok (.getfield 33, 3) := by decide +kernel
theorem d_Processor_find_13 : decode b_Processor_find 13 = .ok (.iload_n 1, 1) := by decide +kernel
theorem d_Processor_find_14 : decode b_Processor_find 14 = .ok (.if_icmp .ne 5, 3) := by decide +kernel
theorem d_Processor_find_17 : decode b_Processor_find 17 = .ok (.aload_n 2, 1) := by decide +kernel
theorem d_Processor_find_18 : decode b_Processor_find 18 = .ok (.areturn, 1) := by decide +kernel
theorem d_Processor_find_19 : decode b_Processor_find 19 = .ok (.aload_n 2, 1) := by decide +kernel
theorem d_Processor_find_20 : decode b_Processor_find 20 = .ok (.getfield 38, 3) := by decide +kernel
theorem d_Processor_find_23 : decode b_Processor_find 23 = .ok (.astore_n 2, 1) := by decide +kernel
theorem d_Processor_find_24 : decode b_Processor_find 24 = .ok (.goto (-19), 3) := by decide +kernel
theorem d_Processor_find_27 : decode b_Processor_find 27 = .ok (.aconst_null, 1) := by decide +kernel
theorem d_Processor_find_28 : decode b_Processor_find 28 = .ok (.areturn, 1) := by decide +kernel
theorem d_Access_look_0 : decode b_Access_look 0 = .ok (.aload_n 2, 1) := by decide +kernel
theorem d_Access_look_1 : decode b_Access_look 1 = .ok (.ifnonnull 11, 3) := by decide +kernel
theorem d_Access_look_4 : decode b_Access_look 4 = .ok (.aload_n 0, 1) := by decide +kernel
theorem d_Access_look_5 : decode b_Access_look 5 = .ok (.getstatic 62, 3) := by decide +kernel
theorem d_Access_look_8 : decode b_Access_look 8 = .ok (.invokevirtual 54, 3) := by decide +kernel
theorem d_Access_look_11 : decode b_Access_look 11 = .ok (.ireturn, 1) := by decide +kernel
theorem d_Access_look_12 : decode b_Access_look 12 = .ok (.aload_n 1, 1) := by decide +kernel
theorem d_Access_look_13 : decode b_Access_look 13 = .ok (.getfield 65, 3) := by decide +kernel
theorem d_Access_look_16 : decode b_Access_look 16 = .ok (.aload_n 2, 1) := by decide +kernel
theorem d_Access_look_17 : decode b_Access_look 17 = .ok (.getfield 69, 3) := by decide +kernel
theorem d_Access_look_20 : decode b_Access_look 20 = .ok (.iaload, 1) := by decide +kernel
theorem d_Access_look_21 : decode b_Access_look 21 = .ok (.istore_n 3, 1) := by decide +kernel
theorem d_Access_look_22 : decode b_Access_look 22 = .ok (.aload_n 0, 1) := by decide +kernel
theorem d_Access_look_23 : decode b_Access_look 23 = .ok (.getfield 21, 3) := by decide +kernel
theorem d_Access_look_26 : decode b_Access_look 26 = .ok (.iconst (-1), 1) := by decide +kernel
theorem d_Access_look_27 : decode b_Access_look 27 = .ok (.if_icmp .ne 9, 3) := by decide +kernel
theorem d_Access_look_30 : decode b_Access_look 30 = .ok (.aload_n 0, 1) := by decide +kernel
theorem d_Access_look_31 : decode b_Access_look 31 = .ok (.iload_n 3, 1) := by decide +kernel
theorem d_Access_look_32 : decode b_Access_look 32 = .ok (.invokevirtual 47, 3) := by decide +kernel
theorem d_Access_look_35 : decode b_Access_look 35 = .ok (.ireturn, 1) := by decide +kernel
theorem d_Access_look_36 : decode b_Access_look 36 = .ok (.aload_n 2, 1) := by decide +kernel
theorem d_Access_look_37 : decode b_Access_look 37 = .ok (.getfield 74, 3) := by decide +kernel
theorem d_Access_look_40 : decode b_Access_look 40 = .ok (.ifCond .ne 10, 3) := by decide +kernel
theorem d_Access_look_43 : decode b_Access_look 43 = .ok (.aload_n 0, 1) := by decide +kernel
theorem d_Access_look_44 : decode b_Access_look 44 = .ok (.bipush (-2), 2) := by decide +kernel
theorem d_Access_look_46 : decode b_Access_look 46 = .ok (.invokevirtual 47, 3) := by decide +kernel
theorem d_Access_look_49 : decode b_Access_look 49 = .ok (.ireturn, 1) := by decide +kernel
theorem d_Access_look_50 : decode b_Access_look 50 = .ok (.aload_n 1, 1) := by decide +kernel
theorem d_Access_look_51 : decode b_Access_look 51 = .ok (.getfield 65, 3) := by decide +kernel
theorem d_Access_look_54 : decode b_Access_look 54 = .ok (.aload_n 2, 1) := by decide +kernel
theorem d_Access_look_55 : decode b_Access_look 55 = .ok (.getfield 69, 3) := by decide +kernel
theorem d_Access_look_58 : decode b_Access_look 58 = .ok (.aload_n 0, 1) := by decide +kernel
theorem d_Access_look_59 : decode b_Access_look 59 = .ok (.getfield 21, 3) := by decide +kernel
theorem d_Access_look_62 : decode b_Access_look 62 = .ok (.iastore, 1) := by decide +kernel
theorem d_Access_look_63 : decode b_Access_look 63 = .ok (.aload_n 0, 1) := by decide +kernel
theorem d_Access_look_64 : decode b_Access_look 64 = .ok (.iload_n 3, 1) := by decide +kernel
theorem d_Access_look_65 : decode b_Access_look 65 = .ok (.invokevirtual 47, 3) := by decide +kernel
theorem d_Access_look_68 : decode b_Access_look 68 = .ok (.ireturn, 1) := by decide +kernel
theorem d_Order_go_0 : decode b_Order_go 0 = .ok (.aload_n 0, 1) := by decide +kernel
theorem d_Order_go_1 : decode b_Order_go 1 = .ok (.aload_n 1, 1) := by decide +kernel
theorem d_Order_go_2 : decode b_Order_go 2 = .ok (.putfield 15, 3) := by decide +kernel
theorem d_Order_go_5 : decode b_Order_go 5 = .ok (.iconst 0, 1) := by decide +kernel
theorem d_Order_go_6 : decode b_Order_go 6 = .ok (.ireturn, 1) := by decide +kernel
theorem d_Order_finish_0 : decode b_Order_finish 0 = .ok (.aload_n 0, 1) := by decide +kernel
theorem d_Order_finish_1 : decode b_Order_finish 1 = .ok (.iload_n 1, 1) := by decide +kernel
theorem d_Order_finish_2 : decode b_Order_finish 2 = .ok (.putfield 9, 3) := by decide +kernel
theorem d_Order_finish_5 : decode b_Order_finish 5 = .ok (.iconst 1, 1) := by decide +kernel
theorem d_Order_finish_6 : decode b_Order_finish 6 = .ok (.ireturn, 1) := by decide +kernel
theorem d_Access_leaf_0 : decode b_Access_leaf 0 = .ok (.aload_n 1, 1) := by decide +kernel
theorem d_Access_leaf_1 : decode b_Access_leaf 1 = .ok (.aload_n 0, 1) := by decide +kernel
theorem d_Access_leaf_2 : decode b_Access_leaf 2 = .ok (.getfield 15, 3) := by decide +kernel
theorem d_Access_leaf_5 : decode b_Access_leaf 5 = .ok (.invokevirtual 78, 3) := by decide +kernel
theorem d_Access_leaf_8 : decode b_Access_leaf 8 = .ok (.istore_n 3, 1) := by decide +kernel
theorem d_Access_leaf_9 : decode b_Access_leaf 9 = .ok (.aload_n 1, 1) := by decide +kernel
theorem d_Access_leaf_10 : decode b_Access_leaf 10 = .ok (.aload_n 0, 1) := by decide +kernel
theorem d_Access_leaf_11 : decode b_Access_leaf 11 = .ok (.getfield 15, 3) := by decide +kernel
theorem d_Access_leaf_14 : decode b_Access_leaf 14 = .ok (.invokevirtual 81, 3) := by decide +kernel
theorem d_Access_leaf_17 : decode b_Access_leaf 17 = .ok (.istore 4, 2) := by decide +kernel
theorem d_Access_leaf_19 : decode b_Access_leaf 19 = .ok (.iload_n 3, 1) := by decide +kernel
theorem d_Access_leaf_20 : decode b_Access_leaf 20 = .ok (.iconst (-1), 1) := by decide +kernel
theorem d_Access_leaf_21 : decode b_Access_leaf 21 = .ok (.if_icmp .eq 16, 3) := by decide +kernel
theorem d_Access_leaf_24 : decode b_Access_leaf 24 = .ok (.aload_n 0, 1) := by decide +kernel
theorem d_Access_leaf_25 : decode b_Access_leaf 25 = .ok (.getfield 21, 3) := by decide +kernel
theorem d_Access_leaf_28 : decode b_Access_leaf 28 = .ok (.iconst (-1), 1) := by decide +kernel
theorem d_Access_leaf_29 : decode b_Access_leaf 29 = .ok (.if_icmp .eq 15, 3) := by decide +kernel
theorem d_Access_leaf_32 : decode b_Access_leaf 32 = .ok (.iload 4, 2) := by decide +kernel
theorem d_Access_leaf_34 : decode b_Access_leaf 34 = .ok (.ifCond .ne 10, 3) := by decide +kernel
theorem d_Access_leaf_37 : decode b_Access_leaf 37 = .ok (.aload_n 0, 1) := by decide +kernel
theorem d_Access_leaf_38 : decode b_Access_leaf 38 = .ok (.bipush (-2), 2) := by decide +kernel
theorem d_Access_leaf_40 : decode b_Access_leaf 40 = .ok (.invokevirtual 47, 3) := by decide +kernel
theorem d_Access_leaf_43 : decode b_Access_leaf 43 = .ok (.ireturn, 1) := by decide +kernel
theorem d_Access_leaf_44 : decode b_Access_leaf 44 = .ok (.aload_n 2, 1) := by decide +kernel
theorem d_Access_leaf_45 : decode b_Access_leaf 45 = .ok (.new 70, 3) := by decide +kernel
theorem d_Access_leaf_48 : decode b_Access_leaf 48 = .ok (.dup, 1) := by decide +kernel
theorem d_Access_leaf_49 : decode b_Access_leaf 49 = .ok (.aload_n 0, 1) := by decide +kernel
theorem d_Access_leaf_50 : decode b_Access_leaf 50 = .ok (.getfield 15, 3) := by decide +kernel
theorem d_Access_leaf_53 : decode b_Access_leaf 53 = .ok (.iload_n 3, 1) := by decide +kernel
theorem d_Access_leaf_54 : decode b_Access_leaf 54 = .ok (.iload 4, 2) := by decide +kernel
theorem d_Access_leaf_56 : decode b_Access_leaf 56 = .ok (.invokespecial 83, 3) := by decide +kernel
theorem d_Access_leaf_59 : decode b_Access_leaf 59 = .ok (.invokevirtual 86, 3) := by decide +kernel
theorem d_Access_leaf_62 : decode b_Access_leaf 62 = .ok (.aload_n 0, 1) := by decide +kernel
theorem d_Access_leaf_63 : decode b_Access_leaf 63 = .ok (.getstatic 3, 3) := by decide +kernel
theorem d_Access_leaf_66 : decode b_Access_leaf 66 = .ok (.invokevirtual 54, 3) := by decide +kernel
theorem d_Access_leaf_69 : decode b_Access_leaf 69 = .ok (.ireturn, 1) := by decide +kernel
theorem d_Machine_frame_0 : decode b_Machine_frame 0 = .ok (.aload_n 0, 1) := by decide +kernel
theorem d_Machine_frame_1 : decode b_Machine_frame 1 = .ok (.getfield 22, 3) := by decide +kernel
theorem d_Machine_frame_4 : decode b_Machine_frame 4 = .ok (.iload_n 1, 1) := by decide +kernel
theorem d_Machine_frame_5 : decode b_Machine_frame 5 = .ok (.iconst 2, 1) := by decide +kernel
theorem d_Machine_frame_6 : decode b_Machine_frame 6 = .ok (.ishr, 1) := by decide +kernel
theorem d_Machine_frame_7 : decode b_Machine_frame 7 = .ok (.aaload, 1) := by decide +kernel
theorem d_Machine_frame_8 : decode b_Machine_frame 8 = .ok (.astore_n 2, 1) := by decide +kernel
theorem d_Machine_frame_9 : decode b_Machine_frame 9 = .ok (.aload_n 2, 1) := by decide +kernel
theorem d_Machine_frame_10 : decode b_Machine_frame 10 = .ok (.ifnonnull 7, 3) := by decide +kernel
theorem d_Machine_frame_13 : decode b_Machine_frame 13 = .ok (.iconst (-1), 1) := by decide +kernel
theorem d_Machine_frame_14 : decode b_Machine_frame 14 = .ok (.goto 11, 3) := by decide +kernel
theorem d_Machine_frame_17 : decode b_Machine_frame 17 = .ok (.aload_n 2, 1) := by decide +kernel
theorem d_Machine_frame_18 : decode b_Machine_frame 18 = .ok (.getfield 47, 3) := by decide +kernel
theorem d_Machine_frame_21 : decode b_Machine_frame 21 = .ok (.iload_n 1, 1) := by decide +kernel
theorem d_Machine_frame_22 : decode b_Machine_frame 22 = .ok (.iconst 3, 1) := by decide +kernel
theorem d_Machine_frame_23 : decode b_Machine_frame 23 = .ok (.iand, 1) := by decide +kernel
theorem d_Machine_frame_24 : decode b_Machine_frame 24 = .ok (.iaload, 1) := by decide +kernel
theorem d_Machine_frame_25 : decode b_Machine_frame 25 = .ok (.ireturn, 1) := by decide +kernel
theorem d_Machine_writable_0 : decode b_Machine_writable 0 = .ok (.aload_n 0, 1) := by decide +kernel
theorem d_Machine_writable_1 : decode b_Machine_writable 1 = .ok (.getfield 22, 3) := by decide +kernel
theorem d_Machine_writable_4 : decode b_Machine_writable 4 = .ok (.iload_n 1, 1) := by decide +kernel
theorem d_Machine_writable_5 : decode b_Machine_writable 5 = .ok (.iconst 2, 1) := by decide +kernel
theorem d_Machine_writable_6 : decode b_Machine_writable 6 = .ok (.ishr, 1) := by decide +kernel
theorem d_Machine_writable_7 : decode b_Machine_writable 7 = .ok (.aaload, 1) := by decide +kernel
theorem d_Machine_writable_8 : decode b_Machine_writable 8 = .ok (.astore_n 2, 1) := by decide +kernel
theorem d_Machine_writable_9 : decode b_Machine_writable 9 = .ok (.aload_n 2, 1) := by decide +kernel
theorem d_Machine_writable_10 : decode b_Machine_writable 10 = .ok (.ifnull 29, 3) := by decide +kernel
theorem d_Machine_writable_13 : decode b_Machine_writable 13 = .ok (.aload_n 2, 1) := by decide +kernel
theorem d_Machine_writable_14 : decode b_Machine_writable 14 = .ok (.getfield 47, 3) := by decide +kernel
theorem d_Machine_writable_17 : decode b_Machine_writable 17 = .ok (.iload_n 1, 1) := by decide +kernel
theorem d_Machine_writable_18 : decode b_Machine_writable 18 = .ok (.iconst 3, 1) := by decide +kernel
theorem d_Machine_writable_19 : decode b_Machine_writable 19 = .ok (.iand, 1) := by decide +kernel
theorem d_Machine_writable_20 : decode b_Machine_writable 20 = .ok (.iaload, 1) := by decide +kernel
theorem d_Machine_writable_21 : decode b_Machine_writable 21 = .ok (.ifCond .lt 18, 3) := by decide +kernel
theorem d_Machine_writable_24 : decode b_Machine_writable 24 = .ok (.aload_n 2, 1) := by decide +kernel
theorem d_Machine_writable_25 : decode b_Machine_writable 25 = .ok (.getfield 50, 3) := by decide +kernel
theorem d_Machine_writable_28 : decode b_Machine_writable 28 = .ok (.iload_n 1, 1) := by decide +kernel
theorem d_Machine_writable_29 : decode b_Machine_writable 29 = .ok (.iconst 3, 1) := by decide +kernel
theorem d_Machine_writable_30 : decode b_Machine_writable 30 = .ok (.iand, 1) := by decide +kernel
theorem d_Machine_writable_31 : decode b_Machine_writable 31 = .ok (.baload, 1) := by decide +kernel
theorem d_Machine_writable_32 : decode b_Machine_writable 32 = .ok (.ifCond .eq 7, 3) := by decide +kernel
theorem d_Machine_writable_35 : decode b_Machine_writable 35 = .ok (.iconst 1, 1) := by decide +kernel
theorem d_Machine_writable_36 : decode b_Machine_writable 36 = .ok (.goto 4, 3) := by decide +kernel
theorem d_Machine_writable_39 : decode b_Machine_writable 39 = .ok (.iconst 0, 1) := by decide +kernel
theorem d_Machine_writable_40 : decode b_Machine_writable 40 = .ok (.ireturn, 1) := by decide +kernel
theorem d_Translation_init_0 : decode b_Translation_init 0 = .ok (.aload_n 0, 1) := by decide +kernel
theorem d_Translation_init_1 : decode b_Translation_init 1 = .ok (.invokespecial 1, 3) := by decide +kernel
theorem d_Translation_init_4 : decode b_Translation_init 4 = .ok (.aload_n 0, 1) := by decide +kernel
theorem d_Translation_init_5 : decode b_Translation_init 5 = .ok (.iload_n 1, 1) := by decide +kernel
theorem d_Translation_init_6 : decode b_Translation_init 6 = .ok (.putfield 7, 3) := by decide +kernel
theorem d_Translation_init_9 : decode b_Translation_init 9 = .ok (.aload_n 0, 1) := by decide +kernel
theorem d_Translation_init_10 : decode b_Translation_init 10 = .ok (.iload_n 2, 1) := by decide +kernel
theorem d_Translation_init_11 : decode b_Translation_init 11 = .ok (.putfield 13, 3) := by decide +kernel
theorem d_Translation_init_14 : decode b_Translation_init 14 = .ok (.aload_n 0, 1) := by decide +kernel
theorem d_Translation_init_15 : decode b_Translation_init 15 = .ok (.iload_n 3, 1) := by decide +kernel
theorem d_Translation_init_16 : decode b_Translation_init 16 = .ok (.putfield 16, 3) := by decide +kernel
theorem d_Translation_init_19 : decode b_Translation_init 19 = .ok (.return_, 1) := by decide +kernel
theorem d_Processor_put_0 : decode b_Processor_put 0 = .ok (.aload_n 0, 1) := by decide +kernel
theorem d_Processor_put_1 : decode b_Processor_put 1 = .ok (.getfield 41, 3) := by decide +kernel
theorem d_Processor_put_4 : decode b_Processor_put 4 = .ok (.iconst 3, 1) := by decide +kernel
theorem d_Processor_put_5 : decode b_Processor_put 5 = .ok (.if_icmp .ne 24, 3) := by decide +kernel
theorem d_Processor_put_8 : decode b_Processor_put 8 = .ok (.aload_n 0, 1) := by decide +kernel
theorem d_Processor_put_9 : decode b_Processor_put 9 = .ok (.aload_n 0, 1) := by decide +kernel
theorem d_Processor_put_10 : decode b_Processor_put 10 = .ok (.getfield 29, 3) := by decide +kernel
theorem d_Processor_put_13 : decode b_Processor_put 13 = .ok (.getfield 38, 3) := by decide +kernel
theorem d_Processor_put_16 : decode b_Processor_put 16 = .ok (.putfield 29, 3) := by decide +kernel
theorem d_Processor_put_19 : decode b_Processor_put 19 = .ok (.aload_n 0, 1) := by decide +kernel
theorem d_Processor_put_20 : decode b_Processor_put 20 = .ok (.dup, 1) := by decide +kernel
theorem d_Processor_put_21 : decode b_Processor_put 21 = .ok (.getfield 41, 3) := by decide +kernel
theorem d_Processor_put_24 : decode b_Processor_put 24 = .ok (.iconst 1, 1) := by decide +kernel
theorem d_Processor_put_25 : decode b_Processor_put 25 = .ok (.isub, 1) := by decide +kernel
theorem d_Processor_put_26 : decode b_Processor_put 26 = .ok (.putfield 41, 3) := by decide +kernel
theorem d_Processor_put_29 : decode b_Processor_put 29 = .ok (.aload_n 0, 1) := by decide +kernel
theorem d_Processor_put_30 : decode b_Processor_put 30 = .ok (.getfield 29, 3) := by decide +kernel
theorem d_Processor_put_33 : decode b_Processor_put 33 = .ok (.ifnonnull 11, 3) := by decide +kernel
theorem d_Processor_put_36 : decode b_Processor_put 36 = .ok (.aload_n 0, 1) := by decide +kernel
theorem d_Processor_put_37 : decode b_Processor_put 37 = .ok (.aload_n 1, 1) := by decide +kernel
theorem d_Processor_put_38 : decode b_Processor_put 38 = .ok (.putfield 29, 3) := by decide +kernel
theorem d_Processor_put_41 : decode b_Processor_put 41 = .ok (.goto 28, 3) := by decide +kernel
theorem d_Processor_put_44 : decode b_Processor_put 44 = .ok (.aload_n 0, 1) := by decide +kernel
theorem d_Processor_put_45 : decode b_Processor_put 45 = .ok (.getfield 29, 3) := by decide +kernel
theorem d_Processor_put_48 : decode b_Processor_put 48 = .ok (.astore_n 2, 1) := by decide +kernel
theorem d_Processor_put_49 : decode b_Processor_put 49 = .ok (.aload_n 2, 1) := by decide +kernel
theorem d_Processor_put_50 : decode b_Processor_put 50 = .ok (.getfield 38, 3) := by decide +kernel
theorem d_Processor_put_53 : decode b_Processor_put 53 = .ok (.ifnull 11, 3) := by decide +kernel
theorem d_Processor_put_56 : decode b_Processor_put 56 = .ok (.aload_n 2, 1) := by decide +kernel
theorem d_Processor_put_57 : decode b_Processor_put 57 = .ok (.getfield 38, 3) := by decide +kernel
theorem d_Processor_put_60 : decode b_Processor_put 60 = .ok (.astore_n 2, 1) := by decide +kernel
theorem d_Processor_put_61 : decode b_Processor_put 61 = .ok (.goto (-12), 3) := by decide +kernel
theorem d_Processor_put_64 : decode b_Processor_put 64 = .ok (.aload_n 2, 1) := by decide +kernel
theorem d_Processor_put_65 : decode b_Processor_put 65 = .ok (.aload_n 1, 1) := by decide +kernel
theorem d_Processor_put_66 : decode b_Processor_put 66 = .ok (.putfield 38, 3) := by decide +kernel
theorem d_Processor_put_69 : decode b_Processor_put 69 = .ok (.aload_n 0, 1) := by decide +kernel
theorem d_Processor_put_70 : decode b_Processor_put 70 = .ok (.dup, 1) := by decide +kernel
theorem d_Processor_put_71 : decode b_Processor_put 71 = .ok (.getfield 41, 3) := by decide +kernel
theorem d_Processor_put_74 : decode b_Processor_put 74 = .ok (.iconst 1, 1) := by decide +kernel
theorem d_Processor_put_75 : decode b_Processor_put 75 = .ok (.iadd, 1) := by decide +kernel
theorem d_Processor_put_76 : decode b_Processor_put 76 = .ok (.putfield 41, 3) := by decide +kernel
theorem d_Processor_put_79 : decode b_Processor_put 79 = .ok (.return_, 1) := by decide +kernel
theorem d_Locked_act_0 : decode b_Locked_act 0 = .ok (.aload_n 0, 1) := by decide +kernel
theorem d_Locked_act_1 : decode b_Locked_act 1 = .ok (.getfield 22, 3) := by decide +kernel
theorem d_Locked_act_4 : decode b_Locked_act 4 = .ok (.invokevirtual 25, 3) := by decide +kernel
theorem d_Locked_act_7 : decode b_Locked_act 7 = .ok (.tableswitch 180 3 10 #[45, 71, 180, 97, 180, 180, 180, 161], 45) := by decide +kernel
theorem d_Locked_act_52 : decode b_Locked_act 52 = .ok (.aload_n 0, 1) := by decide +kernel
theorem d_Locked_act_53 : decode b_Locked_act 53 = .ok (.aload_n 1, 1) := by decide +kernel
theorem d_Locked_act_54 : decode b_Locked_act 54 = .ok (.getfield 29, 3) := by decide +kernel
theorem d_Locked_act_57 : decode b_Locked_act 57 = .ok (.putfield 34, 3) := by decide +kernel
theorem d_Locked_act_60 : decode b_Locked_act 60 = .ok (.aload_n 1, 1) := by decide +kernel
theorem d_Locked_act_61 : decode b_Locked_act 61 = .ok (.dup, 1) := by decide +kernel
theorem d_Locked_act_62 : decode b_Locked_act 62 = .ok (.getfield 29, 3) := by decide +kernel
theorem d_Locked_act_65 : decode b_Locked_act 65 = .ok (.iconst 1, 1) := by decide +kernel
theorem d_Locked_act_66 : decode b_Locked_act 66 = .ok (.iadd, 1) := by decide +kernel
theorem d_Locked_act_67 : decode b_Locked_act 67 = .ok (.putfield 29, 3) := by decide +kernel
theorem d_Locked_act_70 : decode b_Locked_act 70 = .ok (.aload_n 0, 1) := by decide +kernel
theorem d_Locked_act_71 : decode b_Locked_act 71 = .ok (.getstatic 37, 3) := by decide +kernel
theorem d_Locked_act_74 : decode b_Locked_act 74 = .ok (.invokevirtual 40, 3) := by decide +kernel
theorem d_Locked_act_77 : decode b_Locked_act 77 = .ok (.ireturn, 1) := by decide +kernel
theorem d_Locked_act_78 : decode b_Locked_act 78 = .ok (.aload_n 0, 1) := by decide +kernel
theorem d_Locked_act_79 : decode b_Locked_act 79 = .ok (.aload_n 0, 1) := by decide +kernel
theorem d_Locked_act_80 : decode b_Locked_act 80 = .ok (.getfield 34, 3) := by decide +kernel
theorem d_Locked_act_83 : decode b_Locked_act 83 = .ok (.aload_n 1, 1) := by decide +kernel
theorem d_Locked_act_84 : decode b_Locked_act 84 = .ok (.getfield 44, 3) := by decide +kernel
theorem d_Locked_act_87 : decode b_Locked_act 87 = .ok (.if_icmp .ne 10, 3) := by decide +kernel
theorem d_Locked_act_90 : decode b_Locked_act 90 = .ok (.aload_n 0, 1) := by decide +kernel
theorem d_Locked_act_91 : decode b_Locked_act 91 = .ok (.invokevirtual 47, 3) := by decide +kernel
theorem d_Locked_act_94 : decode b_Locked_act 94 = .ok (.goto 6, 3) := by decide +kernel
theorem d_Locked_act_97 : decode b_Locked_act 97 = .ok (.getstatic 37, 3) := by decide +kernel
theorem d_Locked_act_100 : decode b_Locked_act 100 = .ok (.invokevirtual 40, 3) := by decide +kernel
theorem d_Locked_act_103 : decode b_Locked_act 103 = .ok (.ireturn, 1) := by decide +kernel
theorem d_Locked_act_104 : decode b_Locked_act 104 = .ok (.aload_n 0, 1) := by decide +kernel
theorem d_Locked_act_105 : decode b_Locked_act 105 = .ok (.aload_n 1, 1) := by decide +kernel
theorem d_Locked_act_106 : decode b_Locked_act 106 = .ok (.aload_n 2, 1) := by decide +kernel
theorem d_Locked_act_107 : decode b_Locked_act 107 = .ok (.aload_n 0, 1) := by decide +kernel
theorem d_Locked_act_108 : decode b_Locked_act 108 = .ok (.getfield 13, 3) := by decide +kernel
theorem d_Locked_act_111 : decode b_Locked_act 111 = .ok (.aload_n 0, 1) := by decide +kernel
theorem d_Locked_act_112 : decode b_Locked_act 112 = .ok (.getfield 51, 3) := by decide +kernel
theorem d_Locked_act_115 : decode b_Locked_act 115 = .ok (.iadd, 1) := by decide +kernel
theorem d_Locked_act_116 : decode b_Locked_act 116 = .ok (.invokevirtual 54, 3) := by decide +kernel
theorem d_Locked_act_119 : decode b_Locked_act 119 = .ok (.ifCond .eq 13, 3) := by decide +kernel
theorem d_Locked_act_122 : decode b_Locked_act 122 = .ok (.aload_n 0, 1) := by decide +kernel
theorem d_Locked_act_123 : decode b_Locked_act 123 = .ok (.dup, 1) := by decide +kernel
theorem d_Locked_act_124 : decode b_Locked_act 124 = .ok (.getfield 58, 3) := by decide +kernel
theorem d_Locked_act_127 : decode b_Locked_act 127 = .ok (.iconst 1, 1) := by decide +kernel
theorem d_Locked_act_128 : decode b_Locked_act 128 = .ok (.iadd, 1) := by decide +kernel
theorem d_Locked_act_129 : decode b_Locked_act 129 = .ok (.putfield 58, 3) := by decide +kernel
theorem d_Locked_act_132 : decode b_Locked_act 132 = .ok (.aload_n 0, 1) := by decide +kernel
theorem d_Locked_act_133 : decode b_Locked_act 133 = .ok (.dup, 1) := by decide +kernel
theorem d_Locked_act_134 : decode b_Locked_act 134 = .ok (.getfield 51, 3) := by decide +kernel
theorem d_Locked_act_137 : decode b_Locked_act 137 = .ok (.iconst 1, 1) := by decide +kernel
theorem d_Locked_act_138 : decode b_Locked_act 138 = .ok (.iadd, 1) := by decide +kernel
theorem d_Locked_act_139 : decode b_Locked_act 139 = .ok (.putfield 51, 3) := by decide +kernel
theorem d_Locked_act_142 : decode b_Locked_act 142 = .ok (.aload_n 0, 1) := by decide +kernel
theorem d_Locked_act_143 : decode b_Locked_act 143 = .ok (.aload_n 0, 1) := by decide +kernel
theorem d_Locked_act_144 : decode b_Locked_act 144 = .ok (.getfield 51, 3) := by decide +kernel
theorem d_Locked_act_147 : decode b_Locked_act 147 = .ok (.aload_n 0, 1) := by decide +kernel
theorem d_Locked_act_148 : decode b_Locked_act 148 = .ok (.getfield 19, 3) := by decide +kernel
theorem d_Locked_act_151 : decode b_Locked_act 151 = .ok (.if_icmp .ne 10, 3) := by decide +kernel
theorem d_Locked_act_154 : decode b_Locked_act 154 = .ok (.aload_n 0, 1) := by decide +kernel
theorem d_Locked_act_155 : decode b_Locked_act 155 = .ok (.invokevirtual 61, 3) := by decide +kernel
theorem d_Locked_act_158 : decode b_Locked_act 158 = .ok (.goto 6, 3) := by decide +kernel
theorem d_Locked_act_161 : decode b_Locked_act 161 = .ok (.getstatic 64, 3) := by decide +kernel
theorem d_Locked_act_164 : decode b_Locked_act 164 = .ok (.invokevirtual 40, 3) := by decide +kernel
theorem d_Locked_act_167 : decode b_Locked_act 167 = .ok (.ireturn, 1) := by decide +kernel
theorem d_Locked_act_168 : decode b_Locked_act 168 = .ok (.aload_n 1, 1) := by decide +kernel
theorem d_Locked_act_169 : decode b_Locked_act 169 = .ok (.dup, 1) := by decide +kernel
theorem d_Locked_act_170 : decode b_Locked_act 170 = .ok (.getfield 44, 3) := by decide +kernel
theorem d_Locked_act_173 : decode b_Locked_act 173 = .ok (.iconst 1, 1) := by decide +kernel
theorem d_Locked_act_174 : decode b_Locked_act 174 = .ok (.iadd, 1) := by decide +kernel
theorem d_Locked_act_175 : decode b_Locked_act 175 = .ok (.putfield 44, 3) := by decide +kernel
theorem d_Locked_act_178 : decode b_Locked_act 178 = .ok (.aload_n 0, 1) := by decide +kernel
theorem d_Locked_act_179 : decode b_Locked_act 179 = .ok (.aload_n 0, 1) := by decide +kernel
theorem d_Locked_act_180 : decode b_Locked_act 180 = .ok (.getfield 58, 3) := by decide +kernel
theorem d_Locked_act_183 : decode b_Locked_act 183 = .ok (.invokevirtual 67, 3) := by decide +kernel
theorem d_Locked_act_186 : decode b_Locked_act 186 = .ok (.ireturn, 1) := by decide +kernel
theorem d_Locked_act_187 : decode b_Locked_act 187 = .ok (.aload_n 0, 1) := by decide +kernel
theorem d_Locked_act_188 : decode b_Locked_act 188 = .ok (.aload_n 1, 1) := by decide +kernel
theorem d_Locked_act_189 : decode b_Locked_act 189 = .ok (.aload_n 2, 1) := by decide +kernel
theorem d_Locked_act_190 : decode b_Locked_act 190 = .ok (.invokevirtual 71, 3) := by decide +kernel
theorem d_Locked_act_193 : decode b_Locked_act 193 = .ok (.iconst 0, 1) := by decide +kernel
theorem d_Locked_act_194 : decode b_Locked_act 194 = .ok (.ireturn, 1) := by decide +kernel
theorem d_Grant_afterWait_0 : decode b_Grant_afterWait 0 = .ok (.getstatic 15, 3) := by decide +kernel
theorem d_Grant_afterWait_3 : decode b_Grant_afterWait 3 = .ok (.areturn, 1) := by decide +kernel
theorem d_Revoke_afterWait_0 : decode b_Revoke_afterWait 0 = .ok (.getstatic 19, 3) := by decide +kernel
theorem d_Revoke_afterWait_3 : decode b_Revoke_afterWait 3 = .ok (.areturn, 1) := by decide +kernel
theorem d_Grant_change_0 : decode b_Grant_change 0 = .ok (.iconst (-1), 1) := by decide +kernel
theorem d_Grant_change_1 : decode b_Grant_change 1 = .ok (.istore 4, 2) := by decide +kernel
theorem d_Grant_change_3 : decode b_Grant_change 3 = .ok (.aload_n 2, 1) := by decide +kernel
theorem d_Grant_change_4 : decode b_Grant_change 4 = .ok (.getfield 24, 3) := by decide +kernel
theorem d_Grant_change_7 : decode b_Grant_change 7 = .ok (.ifCond .le 27, 3) := by decide +kernel
theorem d_Grant_change_10 : decode b_Grant_change 10 = .ok (.aload_n 2, 1) := by decide +kernel
theorem d_Grant_change_11 : decode b_Grant_change 11 = .ok (.dup, 1) := by decide +kernel
theorem d_Grant_change_12 : decode b_Grant_change 12 = .ok (.getfield 24, 3) := by decide +kernel
theorem d_Grant_change_15 : decode b_Grant_change 15 = .ok (.iconst 1, 1) := by decide +kernel
theorem d_Grant_change_16 : decode b_Grant_change 16 = .ok (.isub, 1) := by decide +kernel
theorem d_Grant_change_17 : decode b_Grant_change 17 = .ok (.putfield 24, 3) := by decide +kernel
theorem d_Grant_change_20 : decode b_Grant_change 20 = .ok (.aload_n 2, 1) := by decide +kernel
theorem d_Grant_change_21 : decode b_Grant_change 21 = .ok (.getfield 61, 3) := by decide +kernel
theorem d_Grant_change_24 : decode b_Grant_change 24 = .ok (.aload_n 2, 1) := by decide +kernel
theorem d_Grant_change_25 : decode b_Grant_change 25 = .ok (.getfield 24, 3) := by decide +kernel
theorem d_Grant_change_28 : decode b_Grant_change 28 = .ok (.iaload, 1) := by decide +kernel
theorem d_Grant_change_29 : decode b_Grant_change 29 = .ok (.istore 4, 2) := by decide +kernel
theorem d_Grant_change_31 : decode b_Grant_change 31 = .ok (.goto 31, 3) := by decide +kernel
theorem d_Grant_change_34 : decode b_Grant_change 34 = .ok (.aload_n 1, 1) := by decide +kernel
theorem d_Grant_change_35 : decode b_Grant_change 35 = .ok (.getfield 30, 3) := by decide +kernel
theorem d_Grant_change_38 : decode b_Grant_change 38 = .ok (.invokevirtual 65, 3) := by decide +kernel
theorem d_Grant_change_41 : decode b_Grant_change 41 = .ok (.checkcast 69, 3) := by decide +kernel
theorem d_Grant_change_44 : decode b_Grant_change 44 = .ok (.astore 5, 2) := by decide +kernel
theorem d_Grant_change_46 : decode b_Grant_change 46 = .ok (.aload 5, 2) := by decide +kernel
theorem d_Grant_change_48 : decode b_Grant_change 48 = .ok (.ifnonnull 7, 3) := by decide +kernel
theorem d_Grant_change_51 : decode b_Grant_change 51 = .ok (.iconst (-1), 1) := by decide +kernel
theorem d_Grant_change_52 : decode b_Grant_change 52 = .ok (.goto 8, 3) := by decide +kernel
theorem d_Grant_change_55 : decode b_Grant_change 55 = .ok (.aload 5, 2) := by decide +kernel
theorem d_Grant_change_57 : decode b_Grant_change 57 = .ok (.invokevirtual 71, 3) := by decide +kernel
theorem d_Grant_change_60 : decode b_Grant_change 60 = .ok (.istore 4, 2) := by decide +kernel
theorem d_Grant_change_62 : decode b_Grant_change 62 = .ok (.iload 4, 2) := by decide +kernel
theorem d_Grant_change_64 : decode b_Grant_change 64 = .ok (.ifCond .lt 11, 3) := by decide +kernel
theorem d_Grant_change_67 : decode b_Grant_change 67 = .ok (.aload_n 1, 1) := by decide +kernel
theorem d_Grant_change_68 : decode b_Grant_change 68 = .ok (.getfield 75, 3) := by decide +kernel
theorem d_Grant_change_71 : decode b_Grant_change 71 = .ok (.iload 4, 2) := by decide +kernel
theorem d_Grant_change_73 : decode b_Grant_change 73 = .ok (.iconst 0, 1) := by decide +kernel
theorem d_Grant_change_74 : decode b_Grant_change 74 = .ok (.iastore, 1) := by decide +kernel
theorem d_Grant_change_75 : decode b_Grant_change 75 = .ok (.aload_n 1, 1) := by decide +kernel
theorem d_Grant_change_76 : decode b_Grant_change 76 = .ok (.iload_n 3, 1) := by decide +kernel
theorem d_Grant_change_77 : decode b_Grant_change 77 = .ok (.iload 4, 2) := by decide +kernel
theorem d_Grant_change_79 : decode b_Grant_change 79 = .ok (.aload_n 0, 1) := by decide +kernel
theorem d_Grant_change_80 : decode b_Grant_change 80 = .ok (.getfield 9, 3) := by decide +kernel
theorem d_Grant_change_83 : decode b_Grant_change 83 = .ok (.invokevirtual 78, 3) := by decide +kernel
theorem d_Grant_change_86 : decode b_Grant_change 86 = .ok (.iconst 1, 1) := by decide +kernel
theorem d_Grant_change_87 : decode b_Grant_change 87 = .ok (.ireturn, 1) := by decide +kernel
theorem d_Int_intValue_0 : decode b_Int_intValue 0 = .ok (.aload_n 0, 1) := by decide +kernel
theorem d_Int_intValue_1 : decode b_Int_intValue 1 = .ok (.getfield 205, 3) := by decide +kernel
theorem d_Int_intValue_4 : decode b_Int_intValue 4 = .ok (.ireturn, 1) := by decide +kernel
theorem d_Machine_set_0 : decode b_Machine_set 0 = .ok (.aload_n 0, 1) := by decide +kernel
theorem d_Machine_set_1 : decode b_Machine_set 1 = .ok (.getfield 22, 3) := by decide +kernel
theorem d_Machine_set_4 : decode b_Machine_set 4 = .ok (.iload_n 1, 1) := by decide +kernel
theorem d_Machine_set_5 : decode b_Machine_set 5 = .ok (.iconst 2, 1) := by decide +kernel
theorem d_Machine_set_6 : decode b_Machine_set 6 = .ok (.ishr, 1) := by decide +kernel
theorem d_Machine_set_7 : decode b_Machine_set 7 = .ok (.aaload, 1) := by decide +kernel
theorem d_Machine_set_8 : decode b_Machine_set 8 = .ok (.ifnonnull 18, 3) := by decide +kernel
theorem d_Machine_set_11 : decode b_Machine_set 11 = .ok (.aload_n 0, 1) := by decide +kernel
theorem d_Machine_set_12 : decode b_Machine_set 12 = .ok (.getfield 22, 3) := by decide +kernel
theorem d_Machine_set_15 : decode b_Machine_set 15 = .ok (.iload_n 1, 1) := by decide +kernel
theorem d_Machine_set_16 : decode b_Machine_set 16 = .ok (.iconst 2, 1) := by decide +kernel
theorem d_Machine_set_17 : decode b_Machine_set 17 = .ok (.ishr, 1) := by decide +kernel
theorem d_Machine_set_18 : decode b_Machine_set 18 = .ok (.new 20, 3) := by decide +kernel
theorem d_Machine_set_21 : decode b_Machine_set 21 = .ok (.dup, 1) := by decide +kernel
theorem d_Machine_set_22 : decode b_Machine_set 22 = .ok (.invokespecial 54, 3) := by decide +kernel
theorem d_Machine_set_25 : decode b_Machine_set 25 = .ok (.aastore, 1) := by decide +kernel
theorem d_Machine_set_26 : decode b_Machine_set 26 = .ok (.aload_n 0, 1) := by decide +kernel
theorem d_Machine_set_27 : decode b_Machine_set 27 = .ok (.getfield 22, 3) := by decide +kernel
theorem d_Machine_set_30 : decode b_Machine_set 30 = .ok (.iload_n 1, 1) := by decide +kernel
theorem d_Machine_set_31 : decode b_Machine_set 31 = .ok (.iconst 2, 1) := by decide +kernel
theorem d_Machine_set_32 : decode b_Machine_set 32 = .ok (.ishr, 1) := by decide +kernel
theorem d_Machine_set_33 : decode b_Machine_set 33 = .ok (.aaload, 1) := by decide +kernel
theorem d_Machine_set_34 : decode b_Machine_set 34 = .ok (.getfield 47, 3) := by decide +kernel
theorem d_Machine_set_37 : decode b_Machine_set 37 = .ok (.iload_n 1, 1) := by decide +kernel
theorem d_Machine_set_38 : decode b_Machine_set 38 = .ok (.iconst 3, 1) := by decide +kernel
theorem d_Machine_set_39 : decode b_Machine_set 39 = .ok (.iand, 1) := by decide +kernel
theorem d_Machine_set_40 : decode b_Machine_set 40 = .ok (.iload_n 2, 1) := by decide +kernel
theorem d_Machine_set_41 : decode b_Machine_set 41 = .ok (.iastore, 1) := by decide +kernel
theorem d_Machine_set_42 : decode b_Machine_set 42 = .ok (.aload_n 0, 1) := by decide +kernel
theorem d_Machine_set_43 : decode b_Machine_set 43 = .ok (.getfield 22, 3) := by decide +kernel
theorem d_Machine_set_46 : decode b_Machine_set 46 = .ok (.iload_n 1, 1) := by decide +kernel
theorem d_Machine_set_47 : decode b_Machine_set 47 = .ok (.iconst 2, 1) := by decide +kernel
theorem d_Machine_set_48 : decode b_Machine_set 48 = .ok (.ishr, 1) := by decide +kernel
theorem d_Machine_set_49 : decode b_Machine_set 49 = .ok (.aaload, 1) := by decide +kernel
theorem d_Machine_set_50 : decode b_Machine_set 50 = .ok (.getfield 50, 3) := by decide +kernel
theorem d_Machine_set_53 : decode b_Machine_set 53 = .ok (.iload_n 1, 1) := by decide +kernel
theorem d_Machine_set_54 : decode b_Machine_set 54 = .ok (.iconst 3, 1) := by decide +kernel
theorem d_Machine_set_55 : decode b_Machine_set 55 = .ok (.iand, 1) := by decide +kernel
theorem d_Machine_set_56 : decode b_Machine_set 56 = .ok (.iload_n 3, 1) := by decide +kernel
theorem d_Machine_set_57 : decode b_Machine_set 57 = .ok (.bastore, 1) := by decide +kernel
theorem d_Machine_set_58 : decode b_Machine_set 58 = .ok (.return_, 1) := by decide +kernel
theorem d_Group_init_0 : decode b_Group_init 0 = .ok (.aload_n 0, 1) := by decide +kernel
theorem d_Group_init_1 : decode b_Group_init 1 = .ok (.invokespecial 3, 3) := by decide +kernel
theorem d_Group_init_4 : decode b_Group_init 4 = .ok (.aload_n 0, 1) := by decide +kernel
theorem d_Group_init_5 : decode b_Group_init 5 = .ok (.iconst 4, 1) := by decide +kernel
theorem d_Group_init_6 : decode b_Group_init 6 = .ok (.newarray .int, 2) := by decide +kernel
theorem d_Group_init_8 : decode b_Group_init 8 = .ok (.dup, 1) := by decide +kernel
theorem d_Group_init_9 : decode b_Group_init 9 = .ok (.iconst 0, 1) := by decide +kernel
theorem d_Group_init_10 : decode b_Group_init 10 = .ok (.iconst (-1), 1) := by decide +kernel
theorem d_Group_init_11 : decode b_Group_init 11 = .ok (.iastore, 1) := by decide +kernel
theorem d_Group_init_12 : decode b_Group_init 12 = .ok (.dup, 1) := by decide +kernel
theorem d_Group_init_13 : decode b_Group_init 13 = .ok (.iconst 1, 1) := by decide +kernel
theorem d_Group_init_14 : decode b_Group_init 14 = .ok (.iconst (-1), 1) := by decide +kernel
theorem d_Group_init_15 : decode b_Group_init 15 = .ok (.iastore, 1) := by decide +kernel
theorem d_Group_init_16 : decode b_Group_init 16 = .ok (.dup, 1) := by decide +kernel
theorem d_Group_init_17 : decode b_Group_init 17 = .ok (.iconst 2, 1) := by decide +kernel
theorem d_Group_init_18 : decode b_Group_init 18 = .ok (.iconst (-1), 1) := by decide +kernel
theorem d_Group_init_19 : decode b_Group_init 19 = .ok (.iastore, 1) := by decide +kernel
theorem d_Group_init_20 : decode b_Group_init 20 = .ok (.dup, 1) := by decide +kernel
theorem d_Group_init_21 : decode b_Group_init 21 = .ok (.iconst 3, 1) := by decide +kernel
theorem d_Group_init_22 : decode b_Group_init 22 = .ok (.iconst (-1), 1) := by decide +kernel
theorem d_Group_init_23 : decode b_Group_init 23 = .ok (.iastore, 1) := by decide +kernel
theorem d_Group_init_24 : decode b_Group_init 24 = .ok (.putfield 9, 3) := by decide +kernel
theorem d_Group_init_27 : decode b_Group_init 27 = .ok (.aload_n 0, 1) := by decide +kernel
theorem d_Group_init_28 : decode b_Group_init 28 = .ok (.iconst 4, 1) := by decide +kernel
theorem d_Group_init_29 : decode b_Group_init 29 = .ok (.newarray .boolean, 2) := by decide +kernel
theorem d_Group_init_31 : decode b_Group_init 31 = .ok (.putfield 15, 3) := by decide +kernel
theorem d_Group_init_34 : decode b_Group_init 34 = .ok (.return_, 1) := by decide +kernel
theorem d_Revoke_change_0 : decode b_Revoke_change 0 = .ok (.aload_n 1, 1) := by decide +kernel
theorem d_Revoke_change_1 : decode b_Revoke_change 1 = .ok (.iload_n 3, 1) := by decide +kernel
theorem d_Revoke_change_2 : decode b_Revoke_change 2 = .ok (.invokevirtual 35, 3) := by decide +kernel
theorem d_Revoke_change_5 : decode b_Revoke_change 5 = .ok (.istore 4, 2) := by decide +kernel
theorem d_Revoke_change_7 : decode b_Revoke_change 7 = .ok (.aload_n 0, 1) := by decide +kernel
theorem d_Revoke_change_8 : decode b_Revoke_change 8 = .ok (.getfield 15, 3) := by decide +kernel
theorem d_Revoke_change_11 : decode b_Revoke_change 11 = .ok (.ifCond .eq 17, 3) := by decide +kernel
theorem d_Revoke_change_14 : decode b_Revoke_change 14 = .ok (.iload 4, 2) := by decide +kernel
theorem d_Revoke_change_16 : decode b_Revoke_change 16 = .ok (.iconst (-1), 1) := by decide +kernel
theorem d_Revoke_change_17 : decode b_Revoke_change 17 = .ok (.if_icmp .eq 7, 3) := by decide +kernel
theorem d_Revoke_change_20 : decode b_Revoke_change 20 = .ok (.iconst 1, 1) := by decide +kernel
theorem d_Revoke_change_21 : decode b_Revoke_change 21 = .ok (.goto 12, 3) := by decide +kernel
theorem d_Revoke_change_24 : decode b_Revoke_change 24 = .ok (.iconst 0, 1) := by decide +kernel
theorem d_Revoke_change_25 : decode b_Revoke_change 25 = .ok (.goto 8, 3) := by decide +kernel
theorem d_Revoke_change_28 : decode b_Revoke_change 28 = .ok (.aload_n 1, 1) := by decide +kernel
theorem d_Revoke_change_29 : decode b_Revoke_change 29 = .ok (.iload_n 3, 1) := by decide +kernel
theorem d_Revoke_change_30 : decode b_Revoke_change 30 = .ok (.invokevirtual 41, 3) := by decide +kernel
theorem d_Revoke_change_33 : decode b_Revoke_change 33 = .ok (.istore 5, 2) := by decide +kernel
theorem d_Revoke_change_35 : decode b_Revoke_change 35 = .ok (.iload 5, 2) := by decide +kernel
theorem d_Revoke_change_37 : decode b_Revoke_change 37 = .ok (.ifCond .ne 5, 3) := by decide +kernel
theorem d_Revoke_change_40 : decode b_Revoke_change 40 = .ok (.iconst 0, 1) := by decide +kernel
theorem d_Revoke_change_41 : decode b_Revoke_change 41 = .ok (.ireturn, 1) := by decide +kernel
theorem d_Revoke_change_42 : decode b_Revoke_change 42 = .ok (.aload_n 0, 1) := by decide +kernel
theorem d_Revoke_change_43 : decode b_Revoke_change 43 = .ok (.getfield 15, 3) := by decide +kernel
theorem d_Revoke_change_46 : decode b_Revoke_change 46 = .ok (.ifCond .eq 24, 3) := by decide +kernel
theorem d_Revoke_change_49 : decode b_Revoke_change 49 = .ok (.aload_n 0, 1) := by decide +kernel
theorem d_Revoke_change_50 : decode b_Revoke_change 50 = .ok (.getfield 9, 3) := by decide +kernel
theorem d_Revoke_change_53 : decode b_Revoke_change 53 = .ok (.aload_n 0, 1) := by decide +kernel
theorem d_Revoke_change_54 : decode b_Revoke_change 54 = .ok (.getfield 45, 3) := by decide +kernel
theorem d_Revoke_change_57 : decode b_Revoke_change 57 = .ok (.iload 4, 2) := by decide +kernel
theorem d_Revoke_change_59 : decode b_Revoke_change 59 = .ok (.iastore, 1) := by decide +kernel
theorem d_Revoke_change_60 : decode b_Revoke_change 60 = .ok (.aload_n 0, 1) := by decide +kernel
theorem d_Revoke_change_61 : decode b_Revoke_change 61 = .ok (.dup, 1) := by decide +kernel
theorem d_Revoke_change_62 : decode b_Revoke_change 62 = .ok (.getfield 45, 3) := by decide +kernel
theorem d_Revoke_change_65 : decode b_Revoke_change 65 = .ok (.iconst 1, 1) := by decide +kernel
theorem d_Revoke_change_66 : decode b_Revoke_change 66 = .ok (.iadd, 1) := by decide +kernel
theorem d_Revoke_change_67 : decode b_Revoke_change 67 = .ok (.putfield 45, 3) := by decide +kernel
theorem d_Revoke_change_70 : decode b_Revoke_change 70 = .ok (.aload_n 1, 1) := by decide +kernel
theorem d_Revoke_change_71 : decode b_Revoke_change 71 = .ok (.iload_n 3, 1) := by decide +kernel
theorem d_Revoke_change_72 : decode b_Revoke_change 72 = .ok (.aload_n 0, 1) := by decide +kernel
theorem d_Revoke_change_73 : decode b_Revoke_change 73 = .ok (.getfield 15, 3) := by decide +kernel
theorem d_Revoke_change_76 : decode b_Revoke_change 76 = .ok (.ifCond .eq 7, 3) := by decide +kernel
theorem d_Revoke_change_79 : decode b_Revoke_change 79 = .ok (.iconst (-1), 1) := by decide +kernel
theorem d_Revoke_change_80 : decode b_Revoke_change 80 = .ok (.goto 5, 3) := by decide +kernel
theorem d_Revoke_change_83 : decode b_Revoke_change 83 = .ok (.iload 4, 2) := by decide +kernel
theorem d_Revoke_change_85 : decode b_Revoke_change 85 = .ok (.iconst 0, 1) := by decide +kernel
theorem d_Revoke_change_86 : decode b_Revoke_change 86 = .ok (.invokevirtual 48, 3) := by decide +kernel
theorem d_Revoke_change_89 : decode b_Revoke_change 89 = .ok (.iconst 1, 1) := by decide +kernel
theorem d_Revoke_change_90 : decode b_Revoke_change 90 = .ok (.ireturn, 1) := by decide +kernel
theorem d_Grant_afterChange_0 : decode b_Grant_afterChange 0 = .ok (.getstatic 21, 3) := by decide +kernel
theorem d_Grant_afterChange_3 : decode b_Grant_afterChange 3 = .ok (.areturn, 1) := by decide +kernel
theorem d_Revoke_afterChange_0 : decode b_Revoke_afterChange 0 = .ok (.aload_n 0, 1) := by decide +kernel
theorem d_Revoke_afterChange_1 : decode b_Revoke_afterChange 1 = .ok (.getfield 25, 3) := by decide +kernel
theorem d_Revoke_afterChange_4 : decode b_Revoke_afterChange 4 = .ok (.ifCond .le 9, 3) := by decide +kernel
theorem d_Revoke_afterChange_7 : decode b_Revoke_afterChange 7 = .ok (.getstatic 29, 3) := by decide +kernel
theorem d_Revoke_afterChange_10 : decode b_Revoke_afterChange 10 = .ok (.goto 6, 3) := by decide +kernel
theorem d_Revoke_afterChange_13 : decode b_Revoke_afterChange 13 = .ok (.getstatic 32, 3) := by decide +kernel
theorem d_Revoke_afterChange_16 : decode b_Revoke_afterChange 16 = .ok (.areturn, 1) := by decide +kernel
theorem d_Grant_further_0 : decode b_Grant_further 0 = .ok (.aload_n 2, 1) := by decide +kernel
theorem d_Grant_further_1 : decode b_Grant_further 1 = .ok (.getfield 24, 3) := by decide +kernel
theorem d_Grant_further_4 : decode b_Grant_further 4 = .ok (.aload_n 1, 1) := by decide +kernel
theorem d_Grant_further_5 : decode b_Grant_further 5 = .ok (.getfield 30, 3) := by decide +kernel
theorem d_Grant_further_8 : decode b_Grant_further 8 = .ok (.getfield 36, 3) := by decide +kernel
theorem d_Grant_further_11 : decode b_Grant_further 11 = .ok (.iadd, 1) := by decide +kernel
theorem d_Grant_further_12 : decode b_Grant_further 12 = .ok (.aload_n 0, 1) := by decide +kernel
theorem d_Grant_further_13 : decode b_Grant_further 13 = .ok (.getfield 41, 3) := by decide +kernel
theorem d_Grant_further_16 : decode b_Grant_further 16 = .ok (.if_icmp .lt 7, 3) := by decide +kernel
theorem d_Grant_further_19 : decode b_Grant_further 19 = .ok (.iconst 1, 1) := by decide +kernel
theorem d_Grant_further_20 : decode b_Grant_further 20 = .ok (.goto 4, 3) := by decide +kernel
theorem d_Grant_further_23 : decode b_Grant_further 23 = .ok (.iconst 0, 1) := by decide +kernel
theorem d_Grant_further_24 : decode b_Grant_further 24 = .ok (.istore_n 3, 1) := by decide +kernel
theorem d_Grant_further_25 : decode b_Grant_further 25 = .ok (.aload_n 0, 1) := by decide +kernel
theorem d_Grant_further_26 : decode b_Grant_further 26 = .ok (.getfield 44, 3) := by decide +kernel
theorem d_Grant_further_29 : decode b_Grant_further 29 = .ok (.istore 4, 2) := by decide +kernel
theorem d_Grant_further_31 : decode b_Grant_further 31 = .ok (.iload 4, 2) := by decide +kernel
theorem d_Grant_further_33 : decode b_Grant_further 33 = .ok (.aload_n 0, 1) := by decide +kernel
theorem d_Grant_further_34 : decode b_Grant_further 34 = .ok (.getfield 44, 3) := by decide +kernel
theorem d_Grant_further_37 : decode b_Grant_further 37 = .ok (.aload_n 0, 1) := by decide +kernel
theorem d_Grant_further_38 : decode b_Grant_further 38 = .ok (.getfield 41, 3) := by decide +kernel
theorem d_Grant_further_41 : decode b_Grant_further 41 = .ok (.iadd, 1) := by decide +kernel
theorem d_Grant_further_42 : decode b_Grant_further 42 = .ok (.if_icmp .ge 29, 3) := by decide +kernel
theorem d_Grant_further_45 : decode b_Grant_further 45 = .ok (.iload_n 3, 1) := by decide +kernel
theorem d_Grant_further_46 : decode b_Grant_further 46 = .ok (.ifCond .eq 17, 3) := by decide +kernel
theorem d_Grant_further_49 : decode b_Grant_further 49 = .ok (.aload_n 1, 1) := by decide +kernel
theorem d_Grant_further_50 : decode b_Grant_further 50 = .ok (.iload 4, 2) := by decide +kernel
theorem d_Grant_further_52 : decode b_Grant_further 52 = .ok (.invokevirtual 47, 3) := by decide +kernel
theorem d_Grant_further_55 : decode b_Grant_further 55 = .ok (.iconst (-1), 1) := by decide +kernel
theorem d_Grant_further_56 : decode b_Grant_further 56 = .ok (.if_icmp .ne 7, 3) := by decide +kernel
theorem d_Grant_further_59 : decode b_Grant_further 59 = .ok (.iconst 1, 1) := by decide +kernel
theorem d_Grant_further_60 : decode b_Grant_further 60 = .ok (.goto 4, 3) := by decide +kernel
theorem d_Grant_further_63 : decode b_Grant_further 63 = .ok (.iconst 0, 1) := by decide +kernel
theorem d_Grant_further_64 : decode b_Grant_further 64 = .ok (.istore_n 3, 1) := by decide +kernel
theorem d_Grant_further_65 : decode b_Grant_further 65 = .ok (.iinc 4 1, 3) := by decide +kernel
theorem d_Grant_further_68 : decode b_Grant_further 68 = .ok (.goto (-37), 3) := by decide +kernel
theorem d_Grant_further_71 : decode b_Grant_further 71 = .ok (.aload_n 0, 1) := by decide +kernel
theorem d_Grant_further_72 : decode b_Grant_further 72 = .ok (.iload_n 3, 1) := by decide +kernel
theorem d_Grant_further_73 : decode b_Grant_further 73 = .ok (.ifCond .eq 7, 3) := by decide +kernel
theorem d_Grant_further_76 : decode b_Grant_further 76 = .ok (.iconst 0, 1) := by decide +kernel
theorem d_Grant_further_77 : decode b_Grant_further 77 = .ok (.goto 5, 3) := by decide +kernel
theorem d_Grant_further_80 : decode b_Grant_further 80 = .ok (.bipush (-3), 2) := by decide +kernel
theorem d_Grant_further_82 : decode b_Grant_further 82 = .ok (.putfield 51, 3) := by decide +kernel
theorem d_Grant_further_85 : decode b_Grant_further 85 = .ok (.aload_n 0, 1) := by decide +kernel
theorem d_Grant_further_86 : decode b_Grant_further 86 = .ok (.iload_n 3, 1) := by decide +kernel
theorem d_Grant_further_87 : decode b_Grant_further 87 = .ok (.ifCond .eq 9, 3) := by decide +kernel
theorem d_Grant_further_90 : decode b_Grant_further 90 = .ok (.getstatic 54, 3) := by decide +kernel
theorem d_Grant_further_93 : decode b_Grant_further 93 = .ok (.goto 6, 3) := by decide +kernel
theorem d_Grant_further_96 : decode b_Grant_further 96 = .ok (.getstatic 21, 3) := by decide +kernel
theorem d_Grant_further_99 : decode b_Grant_further 99 = .ok (.invokevirtual 57, 3) := by decide +kernel
theorem d_Grant_further_102 : decode b_Grant_further 102 = .ok (.pop, 1) := by decide +kernel
theorem d_Grant_further_103 : decode b_Grant_further 103 = .ok (.return_, 1) := by decide +kernel
theorem d_Revoke_further_0 : decode b_Revoke_further 0 = .ok (.aload_n 0, 1) := by decide +kernel
theorem d_Revoke_further_1 : decode b_Revoke_further 1 = .ok (.getfield 52, 3) := by decide +kernel
theorem d_Revoke_further_4 : decode b_Revoke_further 4 = .ok (.invokevirtual 55, 3) := by decide +kernel
theorem d_Revoke_further_7 : decode b_Revoke_further 7 = .ok (.lookupswitch 111 #[(7, 25), (8, 74)], 25) := by decide +kernel
theorem d_Revoke_further_32 : decode b_Revoke_further 32 = .ok (.aload_n 0, 1) := by decide +kernel
theorem d_Revoke_further_33 : decode b_Revoke_further 33 = .ok (.aload_n 1, 1) := by decide +kernel
theorem d_Revoke_further_34 : decode b_Revoke_further 34 = .ok (.getfield 59, 3) := by decide +kernel
theorem d_Revoke_further_37 : decode b_Revoke_further 37 = .ok (.aload_n 0, 1) := by decide +kernel
theorem d_Revoke_further_38 : decode b_Revoke_further 38 = .ok (.getfield 63, 3) := by decide +kernel
theorem d_Revoke_further_41 : decode b_Revoke_further 41 = .ok (.aaload, 1) := by decide +kernel
theorem d_Revoke_further_42 : decode b_Revoke_further 42 = .ok (.aload_n 2, 1) := by decide +kernel
theorem d_Revoke_further_43 : decode b_Revoke_further 43 = .ok (.invokevirtual 66, 3) := by decide +kernel
theorem d_Revoke_further_46 : decode b_Revoke_further 46 = .ok (.aload_n 0, 1) := by decide +kernel
theorem d_Revoke_further_47 : decode b_Revoke_further 47 = .ok (.dup, 1) := by decide +kernel
theorem d_Revoke_further_48 : decode b_Revoke_further 48 = .ok (.getfield 63, 3) := by decide +kernel
theorem d_Revoke_further_51 : decode b_Revoke_further 51 = .ok (.iconst 1, 1) := by decide +kernel
theorem d_Revoke_further_52 : decode b_Revoke_further 52 = .ok (.iadd, 1) := by decide +kernel
theorem d_Revoke_further_53 : decode b_Revoke_further 53 = .ok (.putfield 63, 3) := by decide +kernel
theorem d_Revoke_further_56 : decode b_Revoke_further 56 = .ok (.aload_n 0, 1) := by decide +kernel
theorem d_Revoke_further_57 : decode b_Revoke_further 57 = .ok (.aload_n 0, 1) := by decide +kernel
theorem d_Revoke_further_58 : decode b_Revoke_further 58 = .ok (.getfield 63, 3) := by decide +kernel
theorem d_Revoke_further_61 : decode b_Revoke_further 61 = .ok (.iconst 4, 1) := by decide +kernel
theorem d_Revoke_further_62 : decode b_Revoke_further 62 = .ok (.if_icmp .ne 9, 3) := by decide +kernel
theorem d_Revoke_further_65 : decode b_Revoke_further 65 = .ok (.getstatic 70, 3) := by decide +kernel
theorem d_Revoke_further_68 : decode b_Revoke_further 68 = .ok (.goto 6, 3) := by decide +kernel
theorem d_Revoke_further_71 : decode b_Revoke_further 71 = .ok (.getstatic 29, 3) := by decide +kernel
theorem d_Revoke_further_74 : decode b_Revoke_further 74 = .ok (.invokevirtual 73, 3) := by decide +kernel
theorem d_Revoke_further_77 : decode b_Revoke_further 77 = .ok (.pop, 1) := by decide +kernel
theorem d_Revoke_further_78 : decode b_Revoke_further 78 = .ok (.goto 46, 3) := by decide +kernel
theorem d_Revoke_further_81 : decode b_Revoke_further 81 = .ok (.aload_n 0, 1) := by decide +kernel
theorem d_Revoke_further_82 : decode b_Revoke_further 82 = .ok (.aload_n 0, 1) := by decide +kernel
theorem d_Revoke_further_83 : decode b_Revoke_further 83 = .ok (.getfield 77, 3) := by decide +kernel
theorem d_Revoke_further_86 : decode b_Revoke_further 86 = .ok (.ifCond .le 9, 3) := by decide +kernel
theorem d_Revoke_further_89 : decode b_Revoke_further 89 = .ok (.getstatic 70, 3) := by decide +kernel
theorem d_Revoke_further_92 : decode b_Revoke_further 92 = .ok (.goto 19, 3) := by decide +kernel
theorem d_Revoke_further_95 : decode b_Revoke_further 95 = .ok (.aload_n 0, 1) := by decide +kernel
theorem d_Revoke_further_96 : decode b_Revoke_further 96 = .ok (.getfield 15, 3) := by decide +kernel
theorem d_Revoke_further_99 : decode b_Revoke_further 99 = .ok (.ifCond .eq 9, 3) := by decide +kernel
theorem d_Revoke_further_102 : decode b_Revoke_further 102 = .ok (.getstatic 80, 3) := by decide +kernel
theorem d_Revoke_further_105 : decode b_Revoke_further 105 = .ok (.goto 6, 3) := by decide +kernel
theorem d_Revoke_further_108 : decode b_Revoke_further 108 = .ok (.getstatic 32, 3) := by decide +kernel
theorem d_Revoke_further_111 : decode b_Revoke_further 111 = .ok (.invokevirtual 73, 3) := by decide +kernel
theorem d_Revoke_further_114 : decode b_Revoke_further 114 = .ok (.pop, 1) := by decide +kernel
theorem d_Revoke_further_115 : decode b_Revoke_further 115 = .ok (.goto 9, 3) := by decide +kernel
theorem d_Revoke_further_118 : decode b_Revoke_further 118 = .ok (.aload_n 0, 1) := by decide +kernel
theorem d_Revoke_further_119 : decode b_Revoke_further 119 = .ok (.aload_n 1, 1) := by decide +kernel
theorem d_Revoke_further_120 : decode b_Revoke_further 120 = .ok (.aload_n 2, 1) := by decide +kernel
theorem d_Revoke_further_121 : decode b_Revoke_further 121 = .ok (.invokevirtual 83, 3) := by decide +kernel
theorem d_Revoke_further_124 : decode b_Revoke_further 124 = .ok (.return_, 1) := by decide +kernel
theorem d_Revoke_send_0 : decode b_Revoke_send 0 = .ok (.aload_n 1, 1) := by decide +kernel
theorem d_Revoke_send_1 : decode b_Revoke_send 1 = .ok (.aload_n 2, 1) := by decide +kernel
theorem d_Revoke_send_2 : decode b_Revoke_send 2 = .ok (.if_acmp .ne 16, 3) := by decide +kernel
theorem d_Revoke_send_5 : decode b_Revoke_send 5 = .ok (.aload_n 2, 1) := by decide +kernel
theorem d_Revoke_send_6 : decode b_Revoke_send 6 = .ok (.aload_n 0, 1) := by decide +kernel
theorem d_Revoke_send_7 : decode b_Revoke_send 7 = .ok (.getfield 87, 3) := by decide +kernel
theorem d_Revoke_send_10 : decode b_Revoke_send 10 = .ok (.aload_n 0, 1) := by decide +kernel
theorem d_Revoke_send_11 : decode b_Revoke_send 11 = .ok (.getfield 90, 3) := by decide +kernel
theorem d_Revoke_send_14 : decode b_Revoke_send 14 = .ok (.invokevirtual 93, 3) := by decide +kernel
theorem d_Revoke_send_17 : decode b_Revoke_send 17 = .ok (.return_, 1) := by decide +kernel
theorem d_Revoke_send_18 : decode b_Revoke_send 18 = .ok (.aload_n 1, 1) := by decide +kernel
theorem d_Revoke_send_19 : decode b_Revoke_send 19 = .ok (.getfield 98, 3) := by decide +kernel
theorem d_Revoke_send_22 : decode b_Revoke_send 22 = .ok (.new 102, 3) := by decide +kernel
theorem d_Revoke_send_25 : decode b_Revoke_send 25 = .ok (.dup, 1) := by decide +kernel
theorem d_Revoke_send_26 : decode b_Revoke_send 26 = .ok (.aload_n 0, 1) := by decide +kernel
theorem d_Revoke_send_27 : decode b_Revoke_send 27 = .ok (.getfield 87, 3) := by decide +kernel
theorem d_Revoke_send_30 : decode b_Revoke_send 30 = .ok (.aload_n 0, 1) := by decide +kernel
theorem d_Revoke_send_31 : decode b_Revoke_send 31 = .ok (.getfield 90, 3) := by decide +kernel
theorem d_Revoke_send_34 : decode b_Revoke_send 34 = .ok (.aload_n 0, 1) := by decide +kernel
theorem d_Revoke_send_35 : decode b_Revoke_send 35 = .ok (.invokespecial 104, 3) := by decide +kernel
theorem d_Revoke_send_38 : decode b_Revoke_send 38 = .ok (.invokevirtual 107, 3) := by decide +kernel
theorem d_Revoke_send_41 : decode b_Revoke_send 41 = .ok (.aload_n 0, 1) := by decide +kernel
theorem d_Revoke_send_42 : decode b_Revoke_send 42 = .ok (.dup, 1) := by decide +kernel
theorem d_Revoke_send_43 : decode b_Revoke_send 43 = .ok (.getfield 77, 3) := by decide +kernel
theorem d_Revoke_send_46 : decode b_Revoke_send 46 = .ok (.iconst 1, 1) := by decide +kernel
theorem d_Revoke_send_47 : decode b_Revoke_send 47 = .ok (.iadd, 1) := by decide +kernel
theorem d_Revoke_send_48 : decode b_Revoke_send 48 = .ok (.putfield 77, 3) := by decide +kernel
theorem d_Revoke_send_51 : decode b_Revoke_send 51 = .ok (.return_, 1) := by decide +kernel
theorem d_Request_init_0 : decode b_Request_init 0 = .ok (.aload_n 0, 1) := by decide +kernel
theorem d_Request_init_1 : decode b_Request_init 1 = .ok (.invokespecial 1, 3) := by decide +kernel
theorem d_Request_init_4 : decode b_Request_init 4 = .ok (.aload_n 0, 1) := by decide +kernel
theorem d_Request_init_5 : decode b_Request_init 5 = .ok (.iload_n 1, 1) := by decide +kernel
theorem d_Request_init_6 : decode b_Request_init 6 = .ok (.putfield 7, 3) := by decide +kernel
theorem d_Request_init_9 : decode b_Request_init 9 = .ok (.aload_n 0, 1) := by decide +kernel
theorem d_Request_init_10 : decode b_Request_init 10 = .ok (.iload_n 2, 1) := by decide +kernel
theorem d_Request_init_11 : decode b_Request_init 11 = .ok (.putfield 13, 3) := by decide +kernel
theorem d_Request_init_14 : decode b_Request_init 14 = .ok (.aload_n 0, 1) := by decide +kernel
theorem d_Request_init_15 : decode b_Request_init 15 = .ok (.aload_n 3, 1) := by decide +kernel
theorem d_Request_init_16 : decode b_Request_init 16 = .ok (.putfield 16, 3) := by decide +kernel
theorem d_Request_init_19 : decode b_Request_init 19 = .ok (.return_, 1) := by decide +kernel
theorem d_Rec_init_0 : decode b_Rec_init 0 = .ok (.aload_n 0, 1) := by decide +kernel
theorem d_Rec_init_1 : decode b_Rec_init 1 = .ok (.invokespecial 1, 3) := by decide +kernel
theorem d_Rec_init_4 : decode b_Rec_init 4 = .ok (.return_, 1) := by decide +kernel
theorem d_Revoke_release_0 : decode b_Revoke_release 0 = .ok (.aload_n 0, 1) := by decide +kernel
theorem d_Revoke_release_1 : decode b_Revoke_release 1 = .ok (.getfield 9, 3) := by decide +kernel
theorem d_Revoke_release_4 : decode b_Revoke_release 4 = .ok (.aload_n 0, 1) := by decide +kernel
theorem d_Revoke_release_5 : decode b_Revoke_release 5 = .ok (.getfield 113, 3) := by decide +kernel
theorem d_Revoke_release_8 : decode b_Revoke_release 8 = .ok (.iaload, 1) := by decide +kernel
theorem d_Revoke_release_9 : decode b_Revoke_release 9 = .ok (.istore_n 3, 1) := by decide +kernel
theorem d_Revoke_release_10 : decode b_Revoke_release 10 = .ok (.aload_n 0, 1) := by decide +kernel
theorem d_Revoke_release_11 : decode b_Revoke_release 11 = .ok (.dup, 1) := by decide +kernel
theorem d_Revoke_release_12 : decode b_Revoke_release 12 = .ok (.getfield 113, 3) := by decide +kernel
theorem d_Revoke_release_15 : decode b_Revoke_release 15 = .ok (.iconst 1, 1) := by decide +kernel
theorem d_Revoke_release_16 : decode b_Revoke_release 16 = .ok (.iadd, 1) := by decide +kernel
theorem d_Revoke_release_17 : decode b_Revoke_release 17 = .ok (.putfield 113, 3) := by decide +kernel
theorem d_Revoke_release_20 : decode b_Revoke_release 20 = .ok (.aload_n 2, 1) := by decide +kernel
theorem d_Revoke_release_21 : decode b_Revoke_release 21 = .ok (.getfield 116, 3) := by decide +kernel
theorem d_Revoke_release_24 : decode b_Revoke_release 24 = .ok (.iconst 2, 1) := by decide +kernel
theorem d_Revoke_release_25 : decode b_Revoke_release 25 = .ok (.if_icmp .ge 26, 3) := by decide +kernel
theorem d_Revoke_release_28 : decode b_Revoke_release 28 = .ok (.aload_n 2, 1) := by decide +kernel
theorem d_Revoke_release_29 : decode b_Revoke_release 29 = .ok (.getfield 119, 3) := by decide +kernel
theorem d_Revoke_release_32 : decode b_Revoke_release 32 = .ok (.aload_n 2, 1) := by decide +kernel
theorem d_Revoke_release_33 : decode b_Revoke_release 33 = .ok (.getfield 116, 3) := by decide +kernel
theorem d_Revoke_release_36 : decode b_Revoke_release 36 = .ok (.iload_n 3, 1) := by decide +kernel
theorem d_Revoke_release_37 : decode b_Revoke_release 37 = .ok (.iastore, 1) := by decide +kernel
theorem d_Revoke_release_38 : decode b_Revoke_release 38 = .ok (.aload_n 2, 1) := by decide +kernel
theorem d_Revoke_release_39 : decode b_Revoke_release 39 = .ok (.dup, 1) := by decide +kernel
theorem d_Revoke_release_40 : decode b_Revoke_release 40 = .ok (.getfield 116, 3) := by decide +kernel
theorem d_Revoke_release_43 : decode b_Revoke_release 43 = .ok (.iconst 1, 1) := by decide +kernel
theorem d_Revoke_release_44 : decode b_Revoke_release 44 = .ok (.iadd, 1) := by decide +kernel
theorem d_Revoke_release_45 : decode b_Revoke_release 45 = .ok (.putfield 116, 3) := by decide +kernel
theorem d_Revoke_release_48 : decode b_Revoke_release 48 = .ok (.goto 14, 3) := by decide +kernel
theorem d_Revoke_release_51 : decode b_Revoke_release 51 = .ok (.aload_n 1, 1) := by decide +kernel
theorem d_Revoke_release_52 : decode b_Revoke_release 52 = .ok (.getfield 122, 3) := by decide +kernel
theorem d_Revoke_release_55 : decode b_Revoke_release 55 = .ok (.iload_n 3, 1) := by decide +kernel
theorem d_Revoke_release_56 : decode b_Revoke_release 56 = .ok (.invokestatic 125, 3) := by decide +kernel
theorem d_Revoke_release_59 : decode b_Revoke_release 59 = .ok (.invokevirtual 107, 3) := by decide +kernel
theorem d_Revoke_release_62 : decode b_Revoke_release 62 = .ok (.aload_n 0, 1) := by decide +kernel
theorem d_Revoke_release_63 : decode b_Revoke_release 63 = .ok (.aload_n 0, 1) := by decide +kernel
theorem d_Revoke_release_64 : decode b_Revoke_release 64 = .ok (.getfield 113, 3) := by decide +kernel
theorem d_Revoke_release_67 : decode b_Revoke_release 67 = .ok (.aload_n 0, 1) := by decide +kernel
theorem d_Revoke_release_68 : decode b_Revoke_release 68 = .ok (.getfield 45, 3) := by decide +kernel
theorem d_Revoke_release_71 : decode b_Revoke_release 71 = .ok (.if_icmp .ne 9, 3) := by decide +kernel
theorem d_Revoke_release_74 : decode b_Revoke_release 74 = .ok (.getstatic 32, 3) := by decide +kernel
theorem d_Revoke_release_77 : decode b_Revoke_release 77 = .ok (.goto 6, 3) := by decide +kernel
theorem d_Revoke_release_80 : decode b_Revoke_release 80 = .ok (.getstatic 80, 3) := by decide +kernel
theorem d_Revoke_release_83 : decode b_Revoke_release 83 = .ok (.invokevirtual 73, 3) := by decide +kernel
theorem d_Revoke_release_86 : decode b_Revoke_release 86 = .ok (.pop, 1) := by decide +kernel
theorem d_Revoke_release_87 : decode b_Revoke_release 87 = .ok (.return_, 1) := by decide +kernel
theorem d_Move_act_0 : decode b_Move_act 0 = .ok (.aload_n 0, 1) := by decide +kernel
theorem d_Move_act_1 : decode b_Move_act 1 = .ok (.iconst 0, 1) := by decide +kernel
theorem d_Move_act_2 : decode b_Move_act 2 = .ok (.invokevirtual 19, 3) := by decide +kernel
theorem d_Move_act_5 : decode b_Move_act 5 = .ok (.ireturn, 1) := by decide +kernel
theorem d_Ker_settle_0 : decode b_Ker_settle 0 = .ok (.aload_n 3, 1) := by decide +kernel
theorem d_Ker_settle_1 : decode b_Ker_settle 1 = .ok (.instanceof 91, 3) := by decide +kernel
theorem d_Ker_settle_4 : decode b_Ker_settle 4 = .ok (.istore 4, 2) := by decide +kernel
theorem d_Ker_settle_6 : decode b_Ker_settle 6 = .ok (.iload 4, 2) := by decide +kernel
theorem d_Ker_settle_8 : decode b_Ker_settle 8 = .ok (.ifCond .eq 21, 3) := by decide +kernel
theorem d_Ker_settle_11 : decode b_Ker_settle 11 = .ok (.aload_n 0, 1) := by decide +kernel
theorem d_Ker_settle_12 : decode b_Ker_settle 12 = .ok (.getfield 10, 3) := by decide +kernel
theorem d_Ker_settle_15 : decode b_Ker_settle 15 = .ok (.getfield 23, 3) := by decide +kernel
theorem d_Ker_settle_18 : decode b_Ker_settle 18 = .ok (.aload_n 3, 1) := by decide +kernel
theorem d_Ker_settle_19 : decode b_Ker_settle 19 = .ok (.checkcast 91, 3) := by decide +kernel
theorem d_Ker_settle_22 : decode b_Ker_settle 22 = .ok (.getfield 163, 3) := by decide +kernel
theorem d_Ker_settle_25 : decode b_Ker_settle 25 = .ok (.aaload, 1) := by decide +kernel
theorem d_Ker_settle_26 : decode b_Ker_settle 26 = .ok (.goto 4, 3) := by decide +kernel
theorem d_Ker_settle_29 : decode b_Ker_settle 29 = .ok (.aload_n 1, 1) := by decide +kernel
theorem d_Ker_settle_30 : decode b_Ker_settle 30 = .ok (.astore 5, 2) := by decide +kernel
theorem d_Ker_settle_32 : decode b_Ker_settle 32 = .ok (.aload_n 2, 1) := by decide +kernel
theorem d_Ker_settle_33 : decode b_Ker_settle 33 = .ok (.getfield 133, 3) := by decide +kernel
theorem d_Ker_settle_36 : decode b_Ker_settle 36 = .ok (.aload_n 2, 1) := by decide +kernel
theorem d_Ker_settle_37 : decode b_Ker_settle 37 = .ok (.getfield 48, 3) := by decide +kernel
theorem d_Ker_settle_40 : decode b_Ker_settle 40 = .ok (.invokevirtual 31, 3) := by decide +kernel
theorem d_Ker_settle_43 : decode b_Ker_settle 43 = .ok (.if_icmp .ne 17, 3) := by decide +kernel
theorem d_Ker_settle_46 : decode b_Ker_settle 46 = .ok (.aload_n 2, 1) := by decide +kernel
theorem d_Ker_settle_47 : decode b_Ker_settle 47 = .ok (.aload 5, 2) := by decide +kernel
theorem d_Ker_settle_49 : decode b_Ker_settle 49 = .ok (.putfield 51, 3) := by decide +kernel
theorem d_Ker_settle_52 : decode b_Ker_settle 52 = .ok (.aload_n 1, 1) := by decide +kernel
theorem d_Ker_settle_53 : decode b_Ker_settle 53 = .ok (.aconst_null, 1) := by decide +kernel
theorem d_Ker_settle_54 : decode b_Ker_settle 54 = .ok (.putfield 125, 3) := by decide +kernel
theorem d_Ker_settle_57 : decode b_Ker_settle 57 = .ok (.goto 32, 3) := by decide +kernel
theorem d_Ker_settle_60 : decode b_Ker_settle 60 = .ok (.iload 4, 2) := by decide +kernel
theorem d_Ker_settle_62 : decode b_Ker_settle 62 = .ok (.ifCond .ne 13, 3) := by decide +kernel
theorem d_Ker_settle_65 : decode b_Ker_settle 65 = .ok (.aload_n 1, 1) := by decide +kernel
theorem d_Ker_settle_66 : decode b_Ker_settle 66 = .ok (.getfield 55, 3) := by decide +kernel
theorem d_Ker_settle_69 : decode b_Ker_settle 69 = .ok (.getfield 158, 3) := by decide +kernel
theorem d_Ker_settle_72 : decode b_Ker_settle 72 = .ok (.ifCond .le 17, 3) := by decide +kernel
theorem d_Ker_settle_75 : decode b_Ker_settle 75 = .ok (.aload 5, 2) := by decide +kernel
theorem d_Ker_settle_77 : decode b_Ker_settle 77 = .ok (.getfield 55, 3) := by decide +kernel
theorem d_Ker_settle_80 : decode b_Ker_settle 80 = .ok (.aload_n 2, 1) := by decide +kernel
theorem d_Ker_settle_81 : decode b_Ker_settle 81 = .ok (.invokevirtual 61, 3) := by decide +kernel
theorem d_Ker_settle_84 : decode b_Ker_settle 84 = .ok (.aload_n 1, 1) := by decide +kernel
theorem d_Ker_settle_85 : decode b_Ker_settle 85 = .ok (.aconst_null, 1) := by decide +kernel
theorem d_Ker_settle_86 : decode b_Ker_settle 86 = .ok (.putfield 125, 3) := by decide +kernel
theorem d_Ker_settle_89 : decode b_Ker_settle 89 = .ok (.return_, 1) := by decide +kernel
theorem d_Ker_run_0 : decode b_Ker_run 0 = .ok (.iload_n 2, 1) := by decide +kernel
theorem d_Ker_run_1 : decode b_Ker_run 1 = .ok (.iconst 1, 1) := by decide +kernel
theorem d_Ker_run_2 : decode b_Ker_run 2 = .ok (.if_icmp .lt 9, 3) := by decide +kernel
theorem d_Ker_run_5 : decode b_Ker_run 5 = .ok (.iload_n 2, 1) := by decide +kernel
theorem d_Ker_run_6 : decode b_Ker_run 6 = .ok (.bipush 16, 2) := by decide +kernel
theorem d_Ker_run_8 : decode b_Ker_run 8 = .ok (.if_icmp .le 5, 3) := by decide +kernel
theorem d_Ker_run_11 : decode b_Ker_run 11 = .ok (.iconst (-1), 1) := by decide +kernel
theorem d_Ker_run_12 : decode b_Ker_run 12 = .ok (.ireturn, 1) := by decide +kernel
theorem d_Ker_run_13 : decode b_Ker_run 13 = .ok (.aload_n 0, 1) := by decide +kernel
theorem d_Ker_run_14 : decode b_Ker_run 14 = .ok (.getfield 151, 3) := by decide +kernel
theorem d_Ker_run_17 : decode b_Ker_run 17 = .ok (.istore_n 3, 1) := by decide +kernel
theorem d_Ker_run_18 : decode b_Ker_run 18 = .ok (.iconst 0, 1) := by decide +kernel
theorem d_Ker_run_19 : decode b_Ker_run 19 = .ok (.istore 4, 2) := by decide +kernel
theorem d_Ker_run_21 : decode b_Ker_run 21 = .ok (.iload 4, 2) := by decide +kernel
theorem d_Ker_run_23 : decode b_Ker_run 23 = .ok (.iload_n 2, 1) := by decide +kernel
theorem d_Ker_run_24 : decode b_Ker_run 24 = .ok (.if_icmp .ge 22, 3) := by decide +kernel
theorem d_Ker_run_27 : decode b_Ker_run 27 = .ok (.aload_n 0, 1) := by decide +kernel
theorem d_Ker_run_28 : decode b_Ker_run 28 = .ok (.iload_n 1, 1) := by decide +kernel
theorem d_Ker_run_29 : decode b_Ker_run 29 = .ok (.iconst 2, 1) := by decide +kernel
theorem d_Ker_run_30 : decode b_Ker_run 30 = .ok (.iload 4, 2) := by decide +kernel
theorem d_Ker_run_32 : decode b_Ker_run 32 = .ok (.imul, 1) := by decide +kernel
theorem d_Ker_run_33 : decode b_Ker_run 33 = .ok (.iushr, 1) := by decide +kernel
theorem d_Ker_run_34 : decode b_Ker_run 34 = .ok (.iconst 3, 1) := by decide +kernel
theorem d_Ker_run_35 : decode b_Ker_run 35 = .ok (.iand, 1) := by decide +kernel
theorem d_Ker_run_36 : decode b_Ker_run 36 = .ok (.invokevirtual 166, 3) := by decide +kernel
theorem d_Ker_run_39 : decode b_Ker_run 39 = .ok (.pop, 1) := by decide +kernel
theorem d_Ker_run_40 : decode b_Ker_run 40 = .ok (.iinc 4 1, 3) := by decide +kernel
theorem d_Ker_run_43 : decode b_Ker_run 43 = .ok (.goto (-22), 3) := by decide +kernel
theorem d_Ker_run_46 : decode b_Ker_run 46 = .ok (.aload_n 0, 1) := by decide +kernel
theorem d_Ker_run_47 : decode b_Ker_run 47 = .ok (.getfield 151, 3) := by decide +kernel
theorem d_Ker_run_50 : decode b_Ker_run 50 = .ok (.iload_n 3, 1) := by decide +kernel
theorem d_Ker_run_51 : decode b_Ker_run 51 = .ok (.isub, 1) := by decide +kernel
theorem d_Ker_run_52 : decode b_Ker_run 52 = .ok (.ireturn, 1) := by decide +kernel
theorem d_Ker_result_0 : decode b_Ker_result 0 = .ok (.iload_n 1, 1) := by decide +kernel
theorem d_Ker_result_1 : decode b_Ker_result 1 = .ok (.ifCond .lt 39, 3) := by decide +kernel
theorem d_Ker_result_4 : decode b_Ker_result 4 = .ok (.iload_n 1, 1) := by decide +kernel
theorem d_Ker_result_5 : decode b_Ker_result 5 = .ok (.aload_n 0, 1) := by decide +kernel
theorem d_Ker_result_6 : decode b_Ker_result 6 = .ok (.getfield 19, 3) := by decide +kernel
theorem d_Ker_result_9 : decode b_Ker_result 9 = .ok (.invokevirtual 31, 3) := by decide +kernel
theorem d_Ker_result_12 : decode b_Ker_result 12 = .ok (.if_icmp .ge 28, 3) := by decide +kernel
theorem d_Ker_result_15 : decode b_Ker_result 15 = .ok (.iload_n 2, 1) := by decide +kernel
theorem d_Ker_result_16 : decode b_Ker_result 16 = .ok (.ifCond .lt 24, 3) := by decide +kernel
theorem d_Ker_result_19 : decode b_Ker_result 19 = .ok (.iload_n 2, 1) := by decide +kernel
theorem d_Ker_result_20 : decode b_Ker_result 20 = .ok (.aload_n 0, 1) := by decide +kernel
theorem d_Ker_result_21 : decode b_Ker_result 21 = .ok (.getfield 19, 3) := by decide +kernel
theorem d_Ker_result_24 : decode b_Ker_result 24 = .ok (.iload_n 1, 1) := by decide +kernel
theorem d_Ker_result_25 : decode b_Ker_result 25 = .ok (.invokevirtual 44, 3) := by decide +kernel
theorem d_Ker_result_28 : decode b_Ker_result 28 = .ok (.checkcast 35, 3) := by decide +kernel
theorem d_Ker_result_31 : decode b_Ker_result 31 = .ok (.getfield 48, 3) := by decide +kernel
theorem d_Ker_result_34 : decode b_Ker_result 34 = .ok (.invokevirtual 31, 3) := by decide +kernel
theorem d_Ker_result_37 : decode b_Ker_result 37 = .ok (.if_icmp .lt 5, 3) := by decide +kernel
theorem d_Ker_result_40 : decode b_Ker_result 40 = .ok (.iconst (-1), 1) := by decide +kernel
theorem d_Ker_result_41 : decode b_Ker_result 41 = .ok (.ireturn, 1) := by decide +kernel
theorem d_Ker_result_42 : decode b_Ker_result 42 = .ok (.aload_n 0, 1) := by decide +kernel
theorem d_Ker_result_43 : decode b_Ker_result 43 = .ok (.getfield 19, 3) := by decide +kernel
theorem d_Ker_result_46 : decode b_Ker_result 46 = .ok (.iload_n 1, 1) := by decide +kernel
theorem d_Ker_result_47 : decode b_Ker_result 47 = .ok (.invokevirtual 44, 3) := by decide +kernel
theorem d_Ker_result_50 : decode b_Ker_result 50 = .ok (.checkcast 35, 3) := by decide +kernel
theorem d_Ker_result_53 : decode b_Ker_result 53 = .ok (.getfield 48, 3) := by decide +kernel
theorem d_Ker_result_56 : decode b_Ker_result 56 = .ok (.iload_n 2, 1) := by decide +kernel
theorem d_Ker_result_57 : decode b_Ker_result 57 = .ok (.invokevirtual 44, 3) := by decide +kernel
theorem d_Ker_result_60 : decode b_Ker_result 60 = .ok (.checkcast 136, 3) := by decide +kernel
theorem d_Ker_result_63 : decode b_Ker_result 63 = .ok (.getfield 170, 3) := by decide +kernel
theorem d_Ker_result_66 : decode b_Ker_result 66 = .ok (.ireturn, 1) := by decide +kernel
theorem d_Ker_current_0 : decode b_Ker_current 0 = .ok (.aload_n 0, 1) := by decide +kernel
theorem d_Ker_current_1 : decode b_Ker_current 1 = .ok (.iload_n 1, 1) := by decide +kernel
theorem d_Ker_current_2 : decode b_Ker_current 2 = .ok (.invokevirtual 27, 3) := by decide +kernel
theorem d_Ker_current_5 : decode b_Ker_current 5 = .ok (.astore_n 2, 1) := by decide +kernel
theorem d_Ker_current_6 : decode b_Ker_current 6 = .ok (.aload_n 2, 1) := by decide +kernel
theorem d_Ker_current_7 : decode b_Ker_current 7 = .ok (.ifnull 10, 3) := by decide +kernel
theorem d_Ker_current_10 : decode b_Ker_current 10 = .ok (.aload_n 2, 1) := by decide +kernel
theorem d_Ker_current_11 : decode b_Ker_current 11 = .ok (.getfield 125, 3) := by decide +kernel
theorem d_Ker_current_14 : decode b_Ker_current 14 = .ok (.ifnonnull 7, 3) := by decide +kernel
theorem d_Ker_current_17 : decode b_Ker_current 17 = .ok (.iconst (-1), 1) := by decide +kernel
theorem d_Ker_current_18 : decode b_Ker_current 18 = .ok (.goto 10, 3) := by decide +kernel
theorem d_Ker_current_21 : decode b_Ker_current 21 = .ok (.aload_n 2, 1) := by decide +kernel
theorem d_Ker_current_22 : decode b_Ker_current 22 = .ok (.getfield 125, 3) := by decide +kernel
theorem d_Ker_current_25 : decode b_Ker_current 25 = .ok (.getfield 173, 3) := by decide +kernel
theorem d_Ker_current_28 : decode b_Ker_current 28 = .ok (.ireturn, 1) := by decide +kernel
theorem d_Ker_phase_0 : decode b_Ker_phase 0 = .ok (.aload_n 0, 1) := by decide +kernel
theorem d_Ker_phase_1 : decode b_Ker_phase 1 = .ok (.iload_n 1, 1) := by decide +kernel
theorem d_Ker_phase_2 : decode b_Ker_phase 2 = .ok (.invokevirtual 27, 3) := by decide +kernel
theorem d_Ker_phase_5 : decode b_Ker_phase 5 = .ok (.astore_n 2, 1) := by decide +kernel
theorem d_Ker_phase_6 : decode b_Ker_phase 6 = .ok (.aload_n 2, 1) := by decide +kernel
theorem d_Ker_phase_7 : decode b_Ker_phase 7 = .ok (.ifnull 10, 3) := by decide +kernel
theorem d_Ker_phase_10 : decode b_Ker_phase 10 = .ok (.aload_n 2, 1) := by decide +kernel
theorem d_Ker_phase_11 : decode b_Ker_phase 11 = .ok (.getfield 125, 3) := by decide +kernel
theorem d_Ker_phase_14 : decode b_Ker_phase 14 = .ok (.ifnonnull 7, 3) := by decide +kernel
theorem d_Ker_phase_17 : decode b_Ker_phase 17 = .ok (.iconst (-1), 1) := by decide +kernel
theorem d_Ker_phase_18 : decode b_Ker_phase 18 = .ok (.goto 29, 3) := by decide +kernel
theorem d_Ker_phase_21 : decode b_Ker_phase 21 = .ok (.aload_n 2, 1) := by decide +kernel
theorem d_Ker_phase_22 : decode b_Ker_phase 22 = .ok (.getfield 125, 3) := by decide +kernel
theorem d_Ker_phase_25 : decode b_Ker_phase 25 = .ok (.getfield 48, 3) := by decide +kernel
theorem d_Ker_phase_28 : decode b_Ker_phase 28 = .ok (.aload_n 2, 1) := by decide +kernel
theorem d_Ker_phase_29 : decode b_Ker_phase 29 = .ok (.getfield 125, 3) := by decide +kernel
theorem d_Ker_phase_32 : decode b_Ker_phase 32 = .ok (.getfield 133, 3) := by decide +kernel
theorem d_Ker_phase_35 : decode b_Ker_phase 35 = .ok (.invokevirtual 44, 3) := by decide +kernel
theorem d_Ker_phase_38 : decode b_Ker_phase 38 = .ok (.checkcast 136, 3) := by decide +kernel
theorem d_Ker_phase_41 : decode b_Ker_phase 41 = .ok (.getfield 138, 3) := by decide +kernel
theorem d_Ker_phase_44 : decode b_Ker_phase 44 = .ok (.invokevirtual 142, 3) := by decide +kernel
theorem d_Ker_phase_47 : decode b_Ker_phase 47 = .ok (.ireturn, 1) := by decide +kernel
theorem d_Ker_queued_0 : decode b_Ker_queued 0 = .ok (.aload_n 0, 1) := by decide +kernel
theorem d_Ker_queued_1 : decode b_Ker_queued 1 = .ok (.iload_n 1, 1) := by decide +kernel
theorem d_Ker_queued_2 : decode b_Ker_queued 2 = .ok (.invokevirtual 27, 3) := by decide +kernel
theorem d_Ker_queued_5 : decode b_Ker_queued 5 = .ok (.astore_n 3, 1) := by decide +kernel
theorem d_Ker_queued_6 : decode b_Ker_queued 6 = .ok (.aload_n 3, 1) := by decide +kernel
theorem d_Ker_queued_7 : decode b_Ker_queued 7 = .ok (.ifnull 7, 3) := by decide +kernel
theorem d_Ker_queued_10 : decode b_Ker_queued 10 = .ok (.iload_n 2, 1) := by decide +kernel
theorem d_Ker_queued_11 : decode b_Ker_queued 11 = .ok (.ifCond .ge 7, 3) := by decide +kernel
theorem d_Ker_queued_14 : decode b_Ker_queued 14 = .ok (.aconst_null, 1) := by decide +kernel
theorem d_Ker_queued_15 : decode b_Ker_queued 15 = .ok (.goto 14, 3) := by decide +kernel
theorem d_Ker_queued_18 : decode b_Ker_queued 18 = .ok (.aload_n 3, 1) := by decide +kernel
theorem d_Ker_queued_19 : decode b_Ker_queued 19 = .ok (.getfield 55, 3) := by decide +kernel
theorem d_Ker_queued_22 : decode b_Ker_queued 22 = .ok (.iload_n 2, 1) := by decide +kernel
theorem d_Ker_queued_23 : decode b_Ker_queued 23 = .ok (.invokevirtual 176, 3) := by decide +kernel
theorem d_Ker_queued_26 : decode b_Ker_queued 26 = .ok (.checkcast 35, 3) := by decide +kernel
theorem d_Ker_queued_29 : decode b_Ker_queued 29 = .ok (.astore 4, 2) := by decide +kernel
theorem d_Ker_queued_31 : decode b_Ker_queued 31 = .ok (.aload 4, 2) := by decide +kernel
theorem d_Ker_queued_33 : decode b_Ker_queued 33 = .ok (.ifnonnull 7, 3) := by decide +kernel
theorem d_Ker_queued_36 : decode b_Ker_queued 36 = .ok (.iconst (-1), 1) := by decide +kernel
theorem d_Ker_queued_37 : decode b_Ker_queued 37 = .ok (.goto 8, 3) := by decide +kernel
theorem d_Ker_queued_40 : decode b_Ker_queued 40 = .ok (.aload 4, 2) := by decide +kernel
theorem d_Ker_queued_42 : decode b_Ker_queued 42 = .ok (.getfield 173, 3) := by decide +kernel
theorem d_Ker_queued_45 : decode b_Ker_queued 45 = .ok (.ireturn, 1) := by decide +kernel
theorem d_Line_get_0 : decode b_Line_get 0 = .ok (.aload_n 0, 1) := by decide +kernel
theorem d_Line_get_1 : decode b_Line_get 1 = .ok (.getfield 18, 3) := by decide +kernel
theorem d_Line_get_4 : decode b_Line_get 4 = .ok (.astore_n 2, 1) := by decide +kernel
theorem d_Line_get_5 : decode b_Line_get 5 = .ok (.iconst 0, 1) := by decide +kernel
theorem d_Line_get_6 : decode b_Line_get 6 = .ok (.istore_n 3, 1) := by decide +kernel
theorem d_Line_get_7 : decode b_Line_get 7 = .ok (.iload_n 3, 1) := by decide +kernel
theorem d_Line_get_8 : decode b_Line_get 8 = .ok (.iload_n 1, 1) := by decide +kernel
theorem d_Line_get_9 : decode b_Line_get 9 = .ok (.if_icmp .ge 18, 3) := by decide +kernel
theorem d_Line_get_12 : decode b_Line_get 12 = .ok (.aload_n 2, 1) := by decide +kernel
theorem d_Line_get_13 : decode b_Line_get 13 = .ok (.ifnull 14, 3) := by decide +kernel
theorem d_Line_get_16 : decode b_Line_get 16 = .ok (.aload_n 2, 1) := by decide +kernel
theorem d_Line_get_17 : decode b_Line_get 17 = .ok (.getfield 21, 3) := by decide +kernel
theorem d_Line_get_20 : decode b_Line_get 20 = .ok (.astore_n 2, 1) := by decide +kernel
theorem d_Line_get_21 : decode b_Line_get 21 = .ok (.iinc 3 1, 3) := by decide +kernel
theorem d_Line_get_24 : decode b_Line_get 24 = .ok (.goto (-17), 3) := by decide +kernel
theorem d_Line_get_27 : decode b_Line_get 27 = .ok (.aload_n 2, 1) := by decide +kernel
theorem d_Line_get_28 : decode b_Line_get 28 = .ok (.ifnonnull 7, 3) := by decide +kernel
theorem d_Line_get_31 : decode b_Line_get 31 = .ok (.aconst_null, 1) := by decide +kernel
theorem d_Line_get_32 : decode b_Line_get 32 = .ok (.goto 7, 3) := by decide +kernel
theorem d_Line_get_35 : decode b_Line_get 35 = .ok (.aload_n 2, 1) := by decide +kernel
theorem d_Line_get_36 : decode b_Line_get 36 = .ok (.getfield 28, 3) := by decide +kernel
theorem d_Line_get_39 : decode b_Line_get 39 = .ok (.areturn, 1) := by decide +kernel
theorem d_Ker_mail_0 : decode b_Ker_mail 0 = .ok (.aload_n 0, 1) := by decide +kernel
theorem d_Ker_mail_1 : decode b_Ker_mail 1 = .ok (.iload_n 1, 1) := by decide +kernel
theorem d_Ker_mail_2 : decode b_Ker_mail 2 = .ok (.invokevirtual 27, 3) := by decide +kernel
theorem d_Ker_mail_5 : decode b_Ker_mail 5 = .ok (.astore_n 2, 1) := by decide +kernel
theorem d_Ker_mail_6 : decode b_Ker_mail 6 = .ok (.aload_n 2, 1) := by decide +kernel
theorem d_Ker_mail_7 : decode b_Ker_mail 7 = .ok (.ifnonnull 7, 3) := by decide +kernel
theorem d_Ker_mail_10 : decode b_Ker_mail 10 = .ok (.iconst (-1), 1) := by decide +kernel
theorem d_Ker_mail_11 : decode b_Ker_mail 11 = .ok (.goto 10, 3) := by decide +kernel
theorem d_Ker_mail_14 : decode b_Ker_mail 14 = .ok (.aload_n 2, 1) := by decide +kernel
theorem d_Ker_mail_15 : decode b_Ker_mail 15 = .ok (.getfield 100, 3) := by decide +kernel
theorem d_Ker_mail_18 : decode b_Ker_mail 18 = .ok (.getfield 158, 3) := by decide +kernel
theorem d_Ker_mail_21 : decode b_Ker_mail 21 = .ok (.ireturn, 1) := by decide +kernel
theorem d_Ker_table_0 : decode b_Ker_table 0 = .ok (.iload_n 1, 1) := by decide +kernel
theorem d_Ker_table_1 : decode b_Ker_table 1 = .ok (.iconst 1, 1) := by decide +kernel
theorem d_Ker_table_2 : decode b_Ker_table 2 = .ok (.invokestatic 70, 3) := by decide +kernel
theorem d_Ker_table_5 : decode b_Ker_table 5 = .ok (.ifCond .ne 15, 3) := by decide +kernel
theorem d_Ker_table_8 : decode b_Ker_table 8 = .ok (.aload_n 0, 1) := by decide +kernel
theorem d_Ker_table_9 : decode b_Ker_table 9 = .ok (.getfield 10, 3) := by decide +kernel
theorem d_Ker_table_12 : decode b_Ker_table 12 = .ok (.iload_n 1, 1) := by decide +kernel
theorem d_Ker_table_13 : decode b_Ker_table 13 = .ok (.invokevirtual 177, 3) := by decide +kernel
theorem d_Ker_table_16 : decode b_Ker_table 16 = .ok (.iconst (-1), 1) := by decide +kernel
theorem d_Ker_table_17 : decode b_Ker_table 17 = .ok (.if_icmp .ne 5, 3) := by decide +kernel
theorem d_Ker_table_20 : decode b_Ker_table 20 = .ok (.iconst (-1), 1) := by decide +kernel
theorem d_Ker_table_21 : decode b_Ker_table 21 = .ok (.ireturn, 1) := by decide +kernel
theorem d_Ker_table_22 : decode b_Ker_table 22 = .ok (.iconst 2, 1) := by decide +kernel
theorem d_Ker_table_23 : decode b_Ker_table 23 = .ok (.aload_n 0, 1) := by decide +kernel
theorem d_Ker_table_24 : decode b_Ker_table 24 = .ok (.getfield 10, 3) := by decide +kernel
theorem d_Ker_table_27 : decode b_Ker_table 27 = .ok (.iload_n 1, 1) := by decide +kernel
theorem d_Ker_table_28 : decode b_Ker_table 28 = .ok (.invokevirtual 177, 3) := by decide +kernel
theorem d_Ker_table_31 : decode b_Ker_table 31 = .ok (.imul, 1) := by decide +kernel
theorem d_Ker_table_32 : decode b_Ker_table 32 = .ok (.aload_n 0, 1) := by decide +kernel
theorem d_Ker_table_33 : decode b_Ker_table 33 = .ok (.getfield 10, 3) := by decide +kernel
theorem d_Ker_table_36 : decode b_Ker_table 36 = .ok (.iload_n 1, 1) := by decide +kernel
theorem d_Ker_table_37 : decode b_Ker_table 37 = .ok (.invokevirtual 180, 3) := by decide +kernel
theorem d_Ker_table_40 : decode b_Ker_table 40 = .ok (.ifCond .eq 7, 3) := by decide +kernel
theorem d_Ker_table_43 : decode b_Ker_table 43 = .ok (.iconst 1, 1) := by decide +kernel
theorem d_Ker_table_44 : decode b_Ker_table 44 = .ok (.goto 4, 3) := by decide +kernel
theorem d_Ker_table_47 : decode b_Ker_table 47 = .ok (.iconst 0, 1) := by decide +kernel
theorem d_Ker_table_48 : decode b_Ker_table 48 = .ok (.iadd, 1) := by decide +kernel
theorem d_Ker_table_49 : decode b_Ker_table 49 = .ok (.ireturn, 1) := by decide +kernel
theorem d_Ker_translation_0 : decode b_Ker_translation 0 = .ok (.aload_n 0, 1) := by decide +kernel
theorem d_Ker_translation_1 : decode b_Ker_translation 1 = .ok (.iload_n 1, 1) := by decide +kernel
theorem d_Ker_translation_2 : decode b_Ker_translation 2 = .ok (.invokevirtual 27, 3) := by decide +kernel
theorem d_Ker_translation_5 : decode b_Ker_translation 5 = .ok (.astore_n 3, 1) := by decide +kernel
theorem d_Ker_translation_6 : decode b_Ker_translation 6 = .ok (.aload_n 3, 1) := by decide +kernel
theorem d_Ker_translation_7 : decode b_Ker_translation 7 = .ok (.ifnonnull 7, 3) := by decide +kernel
theorem d_Ker_translation_10 : decode b_Ker_translation 10 = .ok (.aconst_null, 1) := by decide +kernel
theorem d_Ker_translation_11 : decode b_Ker_translation 11 = .ok (.goto 8, 3) := by decide +kernel
theorem d_Ker_translation_14 : decode b_Ker_translation 14 = .ok (.aload_n 3, 1) := by decide +kernel
theorem d_Ker_translation_15 : decode b_Ker_translation 15 = .ok (.iload_n 2, 1) := by decide +kernel
theorem d_Ker_translation_16 : decode b_Ker_translation 16 = .ok (.invokevirtual 183, 3) := by decide +kernel
theorem d_Ker_translation_19 : decode b_Ker_translation 19 = .ok (.astore 4, 2) := by decide +kernel
theorem d_Ker_translation_21 : decode b_Ker_translation 21 = .ok (.aload 4, 2) := by decide +kernel
theorem d_Ker_translation_23 : decode b_Ker_translation 23 = .ok (.ifnonnull 7, 3) := by decide +kernel
theorem d_Ker_translation_26 : decode b_Ker_translation 26 = .ok (.iconst (-1), 1) := by decide +kernel
theorem d_Ker_translation_27 : decode b_Ker_translation 27 = .ok (.goto 8, 3) := by decide +kernel
theorem d_Ker_translation_30 : decode b_Ker_translation 30 = .ok (.aload 4, 2) := by decide +kernel
theorem d_Ker_translation_32 : decode b_Ker_translation 32 = .ok (.invokevirtual 187, 3) := by decide +kernel
theorem d_Ker_translation_35 : decode b_Ker_translation 35 = .ok (.ireturn, 1) := by decide +kernel
theorem d_Translation_shown_0 : decode b_Translation_shown 0 = .ok (.iconst 2, 1) := by decide +kernel
theorem d_Translation_shown_1 : decode b_Translation_shown 1 = .ok (.aload_n 0, 1) := by decide +kernel
theorem d_Translation_shown_2 : decode b_Translation_shown 2 = .ok (.getfield 13, 3) := by decide +kernel
theorem d_Translation_shown_5 : decode b_Translation_shown 5 = .ok (.imul, 1) := by decide +kernel
theorem d_Translation_shown_6 : decode b_Translation_shown 6 = .ok (.aload_n 0, 1) := by decide +kernel
theorem d_Translation_shown_7 : decode b_Translation_shown 7 = .ok (.getfield 16, 3) := by decide +kernel
theorem d_Translation_shown_10 : decode b_Translation_shown 10 = .ok (.ifCond .eq 7, 3) := by decide +kernel
theorem d_Translation_shown_13 : decode b_Translation_shown 13 = .ok (.iconst 1, 1) := by decide +kernel
theorem d_Translation_shown_14 : decode b_Translation_shown 14 = .ok (.goto 4, 3) := by decide +kernel
theorem d_Translation_shown_17 : decode b_Translation_shown 17 = .ok (.iconst 0, 1) := by decide +kernel
theorem d_Translation_shown_18 : decode b_Translation_shown 18 = .ok (.iadd, 1) := by decide +kernel
theorem d_Translation_shown_19 : decode b_Translation_shown 19 = .ok (.ireturn, 1) := by decide +kernel
theorem d_Ker_word_0 : decode b_Ker_word 0 = .ok (.iload_n 1, 1) := by decide +kernel
theorem d_Ker_word_1 : decode b_Ker_word 1 = .ok (.ifCond .lt 9, 3) := by decide +kernel
theorem d_Ker_word_4 : decode b_Ker_word 4 = .ok (.iload_n 1, 1) := by decide +kernel
theorem d_Ker_word_5 : decode b_Ker_word 5 = .ok (.bipush 10, 2) := by decide +kernel
theorem d_Ker_word_7 : decode b_Ker_word 7 = .ok (.if_icmp .lt 7, 3) := by decide +kernel
theorem d_Ker_word_10 : decode b_Ker_word 10 = .ok (.iconst (-1), 1) := by decide +kernel
theorem d_Ker_word_11 : decode b_Ker_word 11 = .ok (.goto 12, 3) := by decide +kernel
theorem d_Ker_word_14 : decode b_Ker_word 14 = .ok (.aload_n 0, 1) := by decide +kernel
theorem d_Ker_word_15 : decode b_Ker_word 15 = .ok (.getfield 10, 3) := by decide +kernel
theorem d_Ker_word_18 : decode b_Ker_word 18 = .ok (.getfield 192, 3) := by decide +kernel
theorem d_Ker_word_21 : decode b_Ker_word 21 = .ok (.iload_n 1, 1) := by decide +kernel
theorem d_Ker_word_22 : decode b_Ker_word 22 = .ok (.iaload, 1) := by decide +kernel
theorem d_Ker_word_23 : decode b_Ker_word 23 = .ok (.ireturn, 1) := by decide +kernel
theorem d_Ker_spare_0 : decode b_Ker_spare 0 = .ok (.aload_n 0, 1) := by decide +kernel
theorem d_Ker_spare_1 : decode b_Ker_spare 1 = .ok (.iload_n 1, 1) := by decide +kernel
theorem d_Ker_spare_2 : decode b_Ker_spare 2 = .ok (.invokevirtual 27, 3) := by decide +kernel
theorem d_Ker_spare_5 : decode b_Ker_spare 5 = .ok (.astore_n 2, 1) := by decide +kernel
theorem d_Ker_spare_6 : decode b_Ker_spare 6 = .ok (.aload_n 2, 1) := by decide +kernel
theorem d_Ker_spare_7 : decode b_Ker_spare 7 = .ok (.ifnull 10, 3) := by decide +kernel
theorem d_Ker_spare_10 : decode b_Ker_spare 10 = .ok (.aload_n 2, 1) := by decide +kernel
theorem d_Ker_spare_11 : decode b_Ker_spare 11 = .ok (.getfield 196, 3) := by decide +kernel
theorem d_Ker_spare_14 : decode b_Ker_spare 14 = .ok (.goto 22, 3) := by decide +kernel
theorem d_Ker_spare_17 : decode b_Ker_spare 17 = .ok (.iload_n 1, 1) := by decide +kernel
theorem d_Ker_spare_18 : decode b_Ker_spare 18 = .ok (.iconst 4, 1) := by decide +kernel
theorem d_Ker_spare_19 : decode b_Ker_spare 19 = .ok (.if_icmp .ne 16, 3) := by decide +kernel
theorem d_Ker_spare_22 : decode b_Ker_spare 22 = .ok (.aload_n 0, 1) := by decide +kernel
theorem d_Ker_spare_23 : decode b_Ker_spare 23 = .ok (.getfield 10, 3) := by decide +kernel
theorem d_Ker_spare_26 : decode b_Ker_spare 26 = .ok (.getfield 199, 3) := by decide +kernel
theorem d_Ker_spare_29 : decode b_Ker_spare 29 = .ok (.getfield 158, 3) := by decide +kernel
theorem d_Ker_spare_32 : decode b_Ker_spare 32 = .ok (.goto 4, 3) := by decide +kernel
theorem d_Ker_spare_35 : decode b_Ker_spare 35 = .ok (.iconst (-1), 1) := by decide +kernel
theorem d_Ker_spare_36 : decode b_Ker_spare 36 = .ok (.ireturn, 1) := by decide +kernel
theorem d_Ker_tickets_0 : decode b_Ker_tickets 0 = .ok (.aload_n 0, 1) := by decide +kernel
theorem d_Ker_tickets_1 : decode b_Ker_tickets 1 = .ok (.getfield 10, 3) := by decide +kernel
theorem d_Ker_tickets_4 : decode b_Ker_tickets 4 = .ok (.getfield 202, 3) := by decide +kernel
theorem d_Ker_tickets_7 : decode b_Ker_tickets 7 = .ok (.aload_n 0, 1) := by decide +kernel
theorem d_Ker_tickets_8 : decode b_Ker_tickets 8 = .ok (.getfield 10, 3) := by decide +kernel
theorem d_Ker_tickets_11 : decode b_Ker_tickets 11 = .ok (.getfield 205, 3) := by decide +kernel
theorem d_Ker_tickets_14 : decode b_Ker_tickets 14 = .ok (.isub, 1) := by decide +kernel
theorem d_Ker_tickets_15 : decode b_Ker_tickets 15 = .ok (.ireturn, 1) := by decide +kernel
theorem d_Ker_steps_0 : decode b_Ker_steps 0 = .ok (.aload_n 0, 1) := by decide +kernel
theorem d_Ker_steps_1 : decode b_Ker_steps 1 = .ok (.getfield 96, 3) := by decide +kernel
theorem d_Ker_steps_4 : decode b_Ker_steps 4 = .ok (.ireturn, 1) := by decide +kernel
