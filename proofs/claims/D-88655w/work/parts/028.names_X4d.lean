set_option maxRecDepth 100000
theorem dX4_fault_38 : decode cX4_fault 38 = .ok (.isub, 1) := by decide +kernel
theorem dX4_fault_39 : decode cX4_fault 39 = .ok (.goto 4, 3) := by decide +kernel
theorem dX4_fault_42 : decode cX4_fault 42 = .ok (.iconst 1, 1) := by decide +kernel
theorem dX4_fault_43 : decode cX4_fault 43 = .ok (.invokestatic 75, 3) := by decide +kernel
theorem dX4_fault_46 : decode cX4_fault 46 = .ok (.ifCond .ne 9, 3) := by decide +kernel
theorem dX4_fault_49 : decode cX4_fault 49 = .ok (.aload_n 0, 1) := by decide +kernel
theorem dX4_fault_50 : decode cX4_fault 50 = .ok (.iconst (-1), 1) := by decide +kernel
theorem dX4_fault_51 : decode cX4_fault 51 = .ok (.invokevirtual 79, 3) := by decide +kernel
theorem dX4_fault_54 : decode cX4_fault 54 = .ok (.ireturn, 1) := by decide +kernel
theorem dX4_fault_55 : decode cX4_fault 55 = .ok (.aload_n 0, 1) := by decide +kernel
theorem dX4_fault_56 : decode cX4_fault 56 = .ok (.getfield 45, 3) := by decide +kernel
theorem dX4_fault_59 : decode cX4_fault 59 = .ok (.iload_n 1, 1) := by decide +kernel
theorem dX4_fault_60 : decode cX4_fault 60 = .ok (.iload_n 2, 1) := by decide +kernel
theorem dX4_fault_61 : decode cX4_fault 61 = .ok (.iastore, 1) := by decide +kernel
theorem dX4_fault_62 : decode cX4_fault 62 = .ok (.iconst 1, 1) := by decide +kernel
theorem dX4_fault_63 : decode cX4_fault 63 = .ok (.ireturn, 1) := by decide +kernel
theorem dX4_mend_0 : decode cX4_mend 0 = .ok (.aload_n 0, 1) := by decide +kernel
theorem dX4_mend_1 : decode cX4_mend 1 = .ok (.invokevirtual 175, 3) := by decide +kernel
theorem dX4_mend_4 : decode cX4_mend 4 = .ok (.istore_n 1, 1) := by decide +kernel
theorem dX4_mend_5 : decode cX4_mend 5 = .ok (.iconst 1, 1) := by decide +kernel
theorem dX4_mend_6 : decode cX4_mend 6 = .ok (.istore_n 2, 1) := by decide +kernel
theorem dX4_mend_7 : decode cX4_mend 7 = .ok (.iload_n 2, 1) := by decide +kernel
theorem dX4_mend_8 : decode cX4_mend 8 = .ok (.iconst 4, 1) := by decide +kernel
theorem dX4_mend_9 : decode cX4_mend 9 = .ok (.if_icmp .ge 16, 3) := by decide +kernel
theorem dX4_mend_12 : decode cX4_mend 12 = .ok (.aload_n 0, 1) := by decide +kernel
theorem dX4_mend_13 : decode cX4_mend 13 = .ok (.getfield 45, 3) := by decide +kernel
theorem dX4_mend_16 : decode cX4_mend 16 = .ok (.iload_n 2, 1) := by decide +kernel
theorem dX4_mend_17 : decode cX4_mend 17 = .ok (.iconst (-1), 1) := by decide +kernel
theorem dX4_mend_18 : decode cX4_mend 18 = .ok (.iastore, 1) := by decide +kernel
theorem dX4_mend_19 : decode cX4_mend 19 = .ok (.iinc 2 1, 3) := by decide +kernel
theorem dX4_mend_22 : decode cX4_mend 22 = .ok (.goto (-15), 3) := by decide +kernel
theorem dX4_mend_25 : decode cX4_mend 25 = .ok (.iload_n 1, 1) := by decide +kernel
theorem dX4_mend_26 : decode cX4_mend 26 = .ok (.ireturn, 1) := by decide +kernel
theorem dX4_faultMany_0 : decode cX4_faultMany 0 = .ok (.aload_n 0, 1) := by decide +kernel
theorem dX4_faultMany_1 : decode cX4_faultMany 1 = .ok (.getfield 45, 3) := by decide +kernel
theorem dX4_faultMany_4 : decode cX4_faultMany 4 = .ok (.iconst 1, 1) := by decide +kernel
theorem dX4_faultMany_5 : decode cX4_faultMany 5 = .ok (.iaload, 1) := by decide +kernel
theorem dX4_faultMany_6 : decode cX4_faultMany 6 = .ok (.ifCond .ge 7, 3) := by decide +kernel
theorem dX4_faultMany_9 : decode cX4_faultMany 9 = .ok (.iconst 0, 1) := by decide +kernel
theorem dX4_faultMany_10 : decode cX4_faultMany 10 = .ok (.goto 4, 3) := by decide +kernel
theorem dX4_faultMany_13 : decode cX4_faultMany 13 = .ok (.iconst 1, 1) := by decide +kernel
theorem dX4_faultMany_14 : decode cX4_faultMany 14 = .ok (.aload_n 0, 1) := by decide +kernel
theorem dX4_faultMany_15 : decode cX4_faultMany 15 = .ok (.getfield 45, 3) := by decide +kernel
theorem dX4_faultMany_18 : decode cX4_faultMany 18 = .ok (.iconst 2, 1) := by decide +kernel
theorem dX4_faultMany_19 : decode cX4_faultMany 19 = .ok (.iaload, 1) := by decide +kernel
theorem dX4_faultMany_20 : decode cX4_faultMany 20 = .ok (.ifCond .ge 7, 3) := by decide +kernel
theorem dX4_faultMany_23 : decode cX4_faultMany 23 = .ok (.iconst 0, 1) := by decide +kernel
theorem dX4_faultMany_24 : decode cX4_faultMany 24 = .ok (.goto 4, 3) := by decide +kernel
theorem dX4_faultMany_27 : decode cX4_faultMany 27 = .ok (.iconst 1, 1) := by decide +kernel
theorem dX4_faultMany_28 : decode cX4_faultMany 28 = .ok (.iadd, 1) := by decide +kernel
theorem dX4_faultMany_29 : decode cX4_faultMany 29 = .ok (.aload_n 0, 1) := by decide +kernel
theorem dX4_faultMany_30 : decode cX4_faultMany 30 = .ok (.getfield 45, 3) := by decide +kernel
theorem dX4_faultMany_33 : decode cX4_faultMany 33 = .ok (.iconst 3, 1) := by decide +kernel
theorem dX4_faultMany_34 : decode cX4_faultMany 34 = .ok (.iaload, 1) := by decide +kernel
theorem dX4_faultMany_35 : decode cX4_faultMany 35 = .ok (.ifCond .ge 7, 3) := by decide +kernel
theorem dX4_faultMany_38 : decode cX4_faultMany 38 = .ok (.iconst 0, 1) := by decide +kernel
theorem dX4_faultMany_39 : decode cX4_faultMany 39 = .ok (.goto 4, 3) := by decide +kernel
theorem dX4_faultMany_42 : decode cX4_faultMany 42 = .ok (.iconst 1, 1) := by decide +kernel
theorem dX4_faultMany_43 : decode cX4_faultMany 43 = .ok (.iadd, 1) := by decide +kernel
theorem dX4_faultMany_44 : decode cX4_faultMany 44 = .ok (.ireturn, 1) := by decide +kernel
theorem dX4_explained_0 : decode cX4_explained 0 = .ok (.iload_n 1, 1) := by decide +kernel
theorem dX4_explained_1 : decode cX4_explained 1 = .ok (.iconst 0, 1) := by decide +kernel
theorem dX4_explained_2 : decode cX4_explained 2 = .ok (.iconst 1, 1) := by decide +kernel
theorem dX4_explained_3 : decode cX4_explained 3 = .ok (.invokestatic 75, 3) := by decide +kernel
theorem dX4_explained_6 : decode cX4_explained 6 = .ok (.ifCond .ne 10, 3) := by decide +kernel
theorem dX4_explained_9 : decode cX4_explained 9 = .ok (.aload_n 0, 1) := by decide +kernel
theorem dX4_explained_10 : decode cX4_explained 10 = .ok (.bipush (-2), 2) := by decide +kernel
theorem dX4_explained_12 : decode cX4_explained 12 = .ok (.invokevirtual 79, 3) := by decide +kernel
theorem dX4_explained_15 : decode cX4_explained 15 = .ok (.ireturn, 1) := by decide +kernel
theorem dX4_explained_16 : decode cX4_explained 16 = .ok (.aload_n 0, 1) := by decide +kernel
theorem dX4_explained_17 : decode cX4_explained 17 = .ok (.invokevirtual 142, 3) := by decide +kernel
theorem dX4_explained_20 : decode cX4_explained 20 = .ok (.ifCond .ne 10, 3) := by decide +kernel
theorem dX4_explained_23 : decode cX4_explained 23 = .ok (.aload_n 0, 1) := by decide +kernel
theorem dX4_explained_24 : decode cX4_explained 24 = .ok (.bipush (-3), 2) := by decide +kernel
theorem dX4_explained_26 : decode cX4_explained 26 = .ok (.invokevirtual 79, 3) := by decide +kernel
theorem dX4_explained_29 : decode cX4_explained 29 = .ok (.ireturn, 1) := by decide +kernel
theorem dX4_explained_30 : decode cX4_explained 30 = .ok (.aload_n 0, 1) := by decide +kernel
theorem dX4_explained_31 : decode cX4_explained 31 = .ok (.invokevirtual 184, 3) := by decide +kernel
theorem dX4_explained_34 : decode cX4_explained 34 = .ok (.istore_n 2, 1) := by decide +kernel
theorem dX4_explained_35 : decode cX4_explained 35 = .ok (.iload_n 1, 1) := by decide +kernel
theorem dX4_explained_36 : decode cX4_explained 36 = .ok (.ifCond .ne 7, 3) := by decide +kernel
theorem dX4_explained_39 : decode cX4_explained 39 = .ok (.iload_n 2, 1) := by decide +kernel
theorem dX4_explained_40 : decode cX4_explained 40 = .ok (.goto 7, 3) := by decide +kernel
theorem dX4_explained_43 : decode cX4_explained 43 = .ok (.aload_n 0, 1) := by decide +kernel
theorem dX4_explained_44 : decode cX4_explained 44 = .ok (.getfield 178, 3) := by decide +kernel
theorem dX4_explained_47 : decode cX4_explained 47 = .ok (.ireturn, 1) := by decide +kernel
theorem dX4_findKind_0 : decode cX4_findKind 0 = .ok (.aload_n 0, 1) := by decide +kernel
theorem dX4_findKind_1 : decode cX4_findKind 1 = .ok (.bipush (-9), 2) := by decide +kernel
theorem dX4_findKind_3 : decode cX4_findKind 3 = .ok (.putfield 178, 3) := by decide +kernel
theorem dX4_findKind_6 : decode cX4_findKind 6 = .ok (.aload_n 0, 1) := by decide +kernel
theorem dX4_findKind_7 : decode cX4_findKind 7 = .ok (.iconst (-1), 1) := by decide +kernel
theorem dX4_findKind_8 : decode cX4_findKind 8 = .ok (.iconst (-1), 1) := by decide +kernel
theorem dX4_findKind_9 : decode cX4_findKind 9 = .ok (.iconst (-1), 1) := by decide +kernel
theorem dX4_findKind_10 : decode cX4_findKind 10 = .ok (.invokevirtual 181, 3) := by decide +kernel
theorem dX4_findKind_13 : decode cX4_findKind 13 = .ok (.ifCond .eq 5, 3) := by decide +kernel
theorem dX4_findKind_16 : decode cX4_findKind 16 = .ok (.iconst 0, 1) := by decide +kernel
theorem dX4_findKind_17 : decode cX4_findKind 17 = .ok (.ireturn, 1) := by decide +kernel
theorem dX4_findKind_18 : decode cX4_findKind 18 = .ok (.iconst 0, 1) := by decide +kernel
theorem dX4_findKind_19 : decode cX4_findKind 19 = .ok (.istore_n 1, 1) := by decide +kernel
theorem dX4_findKind_20 : decode cX4_findKind 20 = .ok (.iload_n 1, 1) := by decide +kernel
theorem dX4_findKind_21 : decode cX4_findKind 21 = .ok (.bipush 12, 2) := by decide +kernel
theorem dX4_findKind_23 : decode cX4_findKind 23 = .ok (.if_icmp .ge 35, 3) := by decide +kernel
theorem dX4_findKind_26 : decode cX4_findKind 26 = .ok (.aload_n 0, 1) := by decide +kernel
theorem dX4_findKind_27 : decode cX4_findKind 27 = .ok (.getfield 13, 3) := by decide +kernel
theorem dX4_findKind_30 : decode cX4_findKind 30 = .ok (.iload_n 1, 1) := by decide +kernel
theorem dX4_findKind_31 : decode cX4_findKind 31 = .ok (.baload, 1) := by decide +kernel
theorem dX4_findKind_32 : decode cX4_findKind 32 = .ok (.ifCond .eq 20, 3) := by decide +kernel
theorem dX4_findKind_35 : decode cX4_findKind 35 = .ok (.aload_n 0, 1) := by decide +kernel
theorem dX4_findKind_36 : decode cX4_findKind 36 = .ok (.iload_n 1, 1) := by decide +kernel
theorem dX4_findKind_37 : decode cX4_findKind 37 = .ok (.iconst (-1), 1) := by decide +kernel
theorem dX4_findKind_38 : decode cX4_findKind 38 = .ok (.iconst (-1), 1) := by decide +kernel
theorem dX4_findKind_39 : decode cX4_findKind 39 = .ok (.invokevirtual 181, 3) := by decide +kernel
theorem dX4_findKind_42 : decode cX4_findKind 42 = .ok (.ifCond .eq 10, 3) := by decide +kernel
theorem dX4_findKind_45 : decode cX4_findKind 45 = .ok (.aload_n 0, 1) := by decide +kernel
theorem dX4_findKind_46 : decode cX4_findKind 46 = .ok (.iload_n 1, 1) := by decide +kernel
theorem dX4_findKind_47 : decode cX4_findKind 47 = .ok (.putfield 178, 3) := by decide +kernel
theorem dX4_findKind_50 : decode cX4_findKind 50 = .ok (.iconst 1, 1) := by decide +kernel
theorem dX4_findKind_51 : decode cX4_findKind 51 = .ok (.ireturn, 1) := by decide +kernel
theorem dX4_findKind_52 : decode cX4_findKind 52 = .ok (.iinc 1 1, 3) := by decide +kernel
theorem dX4_findKind_55 : decode cX4_findKind 55 = .ok (.goto (-35), 3) := by decide +kernel
theorem dX4_findKind_58 : decode cX4_findKind 58 = .ok (.iconst 0, 1) := by decide +kernel
theorem dX4_findKind_59 : decode cX4_findKind 59 = .ok (.istore_n 1, 1) := by decide +kernel
theorem dX4_findKind_60 : decode cX4_findKind 60 = .ok (.iload_n 1, 1) := by decide +kernel
theorem dX4_findKind_61 : decode cX4_findKind 61 = .ok (.aload_n 0, 1) := by decide +kernel
theorem dX4_findKind_62 : decode cX4_findKind 62 = .ok (.getfield 104, 3) := by decide +kernel
theorem dX4_findKind_65 : decode cX4_findKind 65 = .ok (.if_icmp .ge 26, 3) := by decide +kernel
theorem dX4_findKind_68 : decode cX4_findKind 68 = .ok (.aload_n 0, 1) := by decide +kernel
theorem dX4_findKind_69 : decode cX4_findKind 69 = .ok (.iconst (-1), 1) := by decide +kernel
theorem dX4_findKind_70 : decode cX4_findKind 70 = .ok (.iload_n 1, 1) := by decide +kernel
theorem dX4_findKind_71 : decode cX4_findKind 71 = .ok (.iconst (-1), 1) := by decide +kernel
theorem dX4_findKind_72 : decode cX4_findKind 72 = .ok (.invokevirtual 181, 3) := by decide +kernel
theorem dX4_findKind_75 : decode cX4_findKind 75 = .ok (.ifCond .eq 10, 3) := by decide +kernel
theorem dX4_findKind_78 : decode cX4_findKind 78 = .ok (.aload_n 0, 1) := by decide +kernel
theorem dX4_findKind_79 : decode cX4_findKind 79 = .ok (.iload_n 1, 1) := by decide +kernel
theorem dX4_findKind_80 : decode cX4_findKind 80 = .ok (.putfield 178, 3) := by decide +kernel
theorem dX4_findKind_83 : decode cX4_findKind 83 = .ok (.iconst 2, 1) := by decide +kernel
theorem dX4_findKind_84 : decode cX4_findKind 84 = .ok (.ireturn, 1) := by decide +kernel
theorem dX4_findKind_85 : decode cX4_findKind 85 = .ok (.iinc 1 1, 3) := by decide +kernel
theorem dX4_findKind_88 : decode cX4_findKind 88 = .ok (.goto (-28), 3) := by decide +kernel
theorem dX4_findKind_91 : decode cX4_findKind 91 = .ok (.iconst 0, 1) := by decide +kernel
theorem dX4_findKind_92 : decode cX4_findKind 92 = .ok (.istore_n 1, 1) := by decide +kernel
theorem dX4_findKind_93 : decode cX4_findKind 93 = .ok (.iload_n 1, 1) := by decide +kernel
theorem dX4_findKind_94 : decode cX4_findKind 94 = .ok (.iconst 2, 1) := by decide +kernel
theorem dX4_findKind_95 : decode cX4_findKind 95 = .ok (.if_icmp .ge 26, 3) := by decide +kernel
theorem dX4_findKind_98 : decode cX4_findKind 98 = .ok (.aload_n 0, 1) := by decide +kernel
theorem dX4_findKind_99 : decode cX4_findKind 99 = .ok (.iconst (-1), 1) := by decide +kernel
theorem dX4_findKind_100 : decode cX4_findKind 100 = .ok (.iconst (-1), 1) := by decide +kernel
theorem dX4_findKind_101 : decode cX4_findKind 101 = .ok (.iload_n 1, 1) := by decide +kernel
theorem dX4_findKind_102 : decode cX4_findKind 102 = .ok (.invokevirtual 181, 3) := by decide +kernel
theorem dX4_findKind_105 : decode cX4_findKind 105 = .ok (.ifCond .eq 10, 3) := by decide +kernel
theorem dX4_findKind_108 : decode cX4_findKind 108 = .ok (.aload_n 0, 1) := by decide +kernel
theorem dX4_findKind_109 : decode cX4_findKind 109 = .ok (.iload_n 1, 1) := by decide +kernel
theorem dX4_findKind_110 : decode cX4_findKind 110 = .ok (.putfield 178, 3) := by decide +kernel
theorem dX4_findKind_113 : decode cX4_findKind 113 = .ok (.iconst 3, 1) := by decide +kernel
theorem dX4_findKind_114 : decode cX4_findKind 114 = .ok (.ireturn, 1) := by decide +kernel
theorem dX4_findKind_115 : decode cX4_findKind 115 = .ok (.iinc 1 1, 3) := by decide +kernel
theorem dX4_findKind_118 : decode cX4_findKind 118 = .ok (.goto (-25), 3) := by decide +kernel
theorem dX4_findKind_121 : decode cX4_findKind 121 = .ok (.bipush (-9), 2) := by decide +kernel
theorem dX4_findKind_123 : decode cX4_findKind 123 = .ok (.ireturn, 1) := by decide +kernel
theorem dX4_isWritten_0 : decode cX4_isWritten 0 = .ok (.aload_n 0, 1) := by decide +kernel
theorem dX4_isWritten_1 : decode cX4_isWritten 1 = .ok (.iload_n 1, 1) := by decide +kernel
theorem dX4_isWritten_2 : decode cX4_isWritten 2 = .ok (.iload_n 2, 1) := by decide +kernel
theorem dX4_isWritten_3 : decode cX4_isWritten 3 = .ok (.iload_n 3, 1) := by decide +kernel
theorem dX4_isWritten_4 : decode cX4_isWritten 4 = .ok (.invokevirtual 146, 3) := by decide +kernel
theorem dX4_isWritten_7 : decode cX4_isWritten 7 = .ok (.aload_n 0, 1) := by decide +kernel
theorem dX4_isWritten_8 : decode cX4_isWritten 8 = .ok (.invokevirtual 150, 3) := by decide +kernel
theorem dX4_isWritten_11 : decode cX4_isWritten 11 = .ok (.iconst 0, 1) := by decide +kernel
theorem dX4_isWritten_12 : decode cX4_isWritten 12 = .ok (.istore 4, 2) := by decide +kernel
theorem dX4_isWritten_14 : decode cX4_isWritten 14 = .ok (.iload 4, 2) := by decide +kernel
theorem dX4_isWritten_16 : decode cX4_isWritten 16 = .ok (.aload_n 0, 1) := by decide +kernel
theorem dX4_isWritten_17 : decode cX4_isWritten 17 = .ok (.getfield 104, 3) := by decide +kernel
theorem dX4_isWritten_20 : decode cX4_isWritten 20 = .ok (.if_icmp .ge 44, 3) := by decide +kernel
theorem dX4_isWritten_23 : decode cX4_isWritten 23 = .ok (.iconst 0, 1) := by decide +kernel
theorem dX4_isWritten_24 : decode cX4_isWritten 24 = .ok (.istore 5, 2) := by decide +kernel
theorem dX4_isWritten_26 : decode cX4_isWritten 26 = .ok (.iload 5, 2) := by decide +kernel
theorem dX4_isWritten_28 : decode cX4_isWritten 28 = .ok (.aload_n 0, 1) := by decide +kernel
theorem dX4_isWritten_29 : decode cX4_isWritten 29 = .ok (.getfield 7, 3) := by decide +kernel
theorem dX4_isWritten_32 : decode cX4_isWritten 32 = .ok (.if_icmp .ge 26, 3) := by decide +kernel
theorem dX4_isWritten_35 : decode cX4_isWritten 35 = .ok (.iload 4, 2) := by decide +kernel
theorem dX4_isWritten_37 : decode cX4_isWritten 37 = .ok (.aload_n 0, 1) := by decide +kernel
theorem dX4_isWritten_38 : decode cX4_isWritten 38 = .ok (.getfield 116, 3) := by decide +kernel
theorem dX4_isWritten_41 : decode cX4_isWritten 41 = .ok (.if_icmp .eq 17, 3) := by decide +kernel
theorem dX4_isWritten_44 : decode cX4_isWritten 44 = .ok (.aload_n 0, 1) := by decide +kernel
theorem dX4_isWritten_45 : decode cX4_isWritten 45 = .ok (.iload 4, 2) := by decide +kernel
theorem dX4_isWritten_47 : decode cX4_isWritten 47 = .ok (.iload 5, 2) := by decide +kernel
theorem dX4_isWritten_49 : decode cX4_isWritten 49 = .ok (.invokevirtual 162, 3) := by decide +kernel
theorem dX4_isWritten_52 : decode cX4_isWritten 52 = .ok (.iinc 5 1, 3) := by decide +kernel
theorem dX4_isWritten_55 : decode cX4_isWritten 55 = .ok (.goto (-29), 3) := by decide +kernel
theorem dX4_isWritten_58 : decode cX4_isWritten 58 = .ok (.iinc 4 1, 3) := by decide +kernel
theorem dX4_isWritten_61 : decode cX4_isWritten 61 = .ok (.goto (-47), 3) := by decide +kernel
theorem dX4_isWritten_64 : decode cX4_isWritten 64 = .ok (.iconst 1, 1) := by decide +kernel
theorem dX4_isWritten_65 : decode cX4_isWritten 65 = .ok (.istore 4, 2) := by decide +kernel
theorem dX4_isWritten_67 : decode cX4_isWritten 67 = .ok (.iconst 0, 1) := by decide +kernel
theorem dX4_isWritten_68 : decode cX4_isWritten 68 = .ok (.istore 5, 2) := by decide +kernel
theorem dX4_isWritten_70 : decode cX4_isWritten 70 = .ok (.iload 5, 2) := by decide +kernel
theorem dX4_isWritten_72 : decode cX4_isWritten 72 = .ok (.sipush 1200, 3) := by decide +kernel
theorem dX4_isWritten_75 : decode cX4_isWritten 75 = .ok (.if_icmp .ge 54, 3) := by decide +kernel
theorem dX4_isWritten_78 : decode cX4_isWritten 78 = .ok (.iload 4, 2) := by decide +kernel
theorem dX4_isWritten_80 : decode cX4_isWritten 80 = .ok (.ifCond .eq 40, 3) := by decide +kernel
theorem dX4_isWritten_83 : decode cX4_isWritten 83 = .ok (.aload_n 0, 1) := by decide +kernel
theorem dX4_isWritten_84 : decode cX4_isWritten 84 = .ok (.getfield 39, 3) := by decide +kernel
theorem dX4_isWritten_87 : decode cX4_isWritten 87 = .ok (.iload 5, 2) := by decide +kernel
theorem dX4_isWritten_89 : decode cX4_isWritten 89 = .ok (.iaload, 1) := by decide +kernel
theorem dX4_isWritten_90 : decode cX4_isWritten 90 = .ok (.ifCond .ge 7, 3) := by decide +kernel
theorem dX4_isWritten_93 : decode cX4_isWritten 93 = .ok (.iconst 1, 1) := by decide +kernel
theorem dX4_isWritten_94 : decode cX4_isWritten 94 = .ok (.goto 4, 3) := by decide +kernel
theorem dX4_isWritten_97 : decode cX4_isWritten 97 = .ok (.iconst 0, 1) := by decide +kernel
theorem dX4_isWritten_98 : decode cX4_isWritten 98 = .ok (.aload_n 0, 1) := by decide +kernel
theorem dX4_isWritten_99 : decode cX4_isWritten 99 = .ok (.getfield 66, 3) := by decide +kernel
theorem dX4_isWritten_102 : decode cX4_isWritten 102 = .ok (.iload 5, 2) := by decide +kernel
theorem dX4_isWritten_104 : decode cX4_isWritten 104 = .ok (.iaload, 1) := by decide +kernel
theorem dX4_isWritten_105 : decode cX4_isWritten 105 = .ok (.ifCond .ge 7, 3) := by decide +kernel
theorem dX4_isWritten_108 : decode cX4_isWritten 108 = .ok (.iconst 1, 1) := by decide +kernel
theorem dX4_isWritten_109 : decode cX4_isWritten 109 = .ok (.goto 4, 3) := by decide +kernel
theorem dX4_isWritten_112 : decode cX4_isWritten 112 = .ok (.iconst 0, 1) := by decide +kernel
theorem dX4_isWritten_113 : decode cX4_isWritten 113 = .ok (.if_icmp .ne 7, 3) := by decide +kernel
theorem dX4_isWritten_116 : decode cX4_isWritten 116 = .ok (.iconst 1, 1) := by decide +kernel
theorem dX4_isWritten_117 : decode cX4_isWritten 117 = .ok (.goto 4, 3) := by decide +kernel
theorem dX4_isWritten_120 : decode cX4_isWritten 120 = .ok (.iconst 0, 1) := by decide +kernel
theorem dX4_isWritten_121 : decode cX4_isWritten 121 = .ok (.istore 4, 2) := by decide +kernel
theorem dX4_isWritten_123 : decode cX4_isWritten 123 = .ok (.iinc 5 1, 3) := by decide +kernel
theorem dX4_isWritten_126 : decode cX4_isWritten 126 = .ok (.goto (-56), 3) := by decide +kernel
theorem dX4_isWritten_129 : decode cX4_isWritten 129 = .ok (.iload 4, 2) := by decide +kernel
theorem dX4_isWritten_131 : decode cX4_isWritten 131 = .ok (.ireturn, 1) := by decide +kernel
theorem dX4_made_0 : decode cX4_made 0 = .ok (.iload_n 1, 1) := by decide +kernel
theorem dX4_made_1 : decode cX4_made 1 = .ok (.invokestatic 83, 3) := by decide +kernel
theorem dX4_made_4 : decode cX4_made 4 = .ok (.ifCond .eq 12, 3) := by decide +kernel
theorem dX4_made_7 : decode cX4_made 7 = .ok (.iload_n 2, 1) := by decide +kernel
theorem dX4_made_8 : decode cX4_made 8 = .ok (.iconst 0, 1) := by decide +kernel
theorem dX4_made_9 : decode cX4_made 9 = .ok (.iconst 3, 1) := by decide +kernel
theorem dX4_made_10 : decode cX4_made 10 = .ok (.invokestatic 75, 3) := by decide +kernel
theorem dX4_made_13 : decode cX4_made 13 = .ok (.ifCond .ne 9, 3) := by decide +kernel
theorem dX4_made_16 : decode cX4_made 16 = .ok (.aload_n 0, 1) := by decide +kernel
theorem dX4_made_17 : decode cX4_made 17 = .ok (.iconst (-1), 1) := by decide +kernel
theorem dX4_made_18 : decode cX4_made 18 = .ok (.invokevirtual 79, 3) := by decide +kernel
theorem dX4_made_21 : decode cX4_made 21 = .ok (.ireturn, 1) := by decide +kernel
theorem dX4_made_22 : decode cX4_made 22 = .ok (.aload_n 0, 1) := by decide +kernel
theorem dX4_made_23 : decode cX4_made 23 = .ok (.getfield 13, 3) := by decide +kernel
theorem dX4_made_26 : decode cX4_made 26 = .ok (.iload_n 1, 1) := by decide +kernel
theorem dX4_made_27 : decode cX4_made 27 = .ok (.baload, 1) := by decide +kernel
theorem dX4_made_28 : decode cX4_made 28 = .ok (.ifCond .ne 10, 3) := by decide +kernel
theorem dX4_made_31 : decode cX4_made 31 = .ok (.aload_n 0, 1) := by decide +kernel
theorem dX4_made_32 : decode cX4_made 32 = .ok (.bipush (-5), 2) := by decide +kernel
theorem dX4_made_34 : decode cX4_made 34 = .ok (.invokevirtual 79, 3) := by decide +kernel
theorem dX4_made_37 : decode cX4_made 37 = .ok (.ireturn, 1) := by decide +kernel
theorem dX4_made_38 : decode cX4_made 38 = .ok (.aload_n 0, 1) := by decide +kernel
theorem dX4_made_39 : decode cX4_made 39 = .ok (.getfield 51, 3) := by decide +kernel
theorem dX4_made_42 : decode cX4_made 42 = .ok (.iload_n 2, 1) := by decide +kernel
theorem dX4_made_43 : decode cX4_made 43 = .ok (.iaload, 1) := by decide +kernel
theorem dX4_made_44 : decode cX4_made 44 = .ok (.aload_n 0, 1) := by decide +kernel
theorem dX4_made_45 : decode cX4_made 45 = .ok (.getfield 7, 3) := by decide +kernel
theorem dX4_made_48 : decode cX4_made 48 = .ok (.iadd, 1) := by decide +kernel
theorem dX4_made_49 : decode cX4_made 49 = .ok (.sipush 1000, 3) := by decide +kernel
theorem dX4_made_52 : decode cX4_made 52 = .ok (.if_icmp .le 10, 3) := by decide +kernel
theorem dX4_made_55 : decode cX4_made 55 = .ok (.aload_n 0, 1) := by decide +kernel
theorem dX4_made_56 : decode cX4_made 56 = .ok (.bipush (-6), 2) := by decide +kernel
theorem dX4_made_58 : decode cX4_made 58 = .ok (.invokevirtual 79, 3) := by decide +kernel
theorem dX4_made_61 : decode cX4_made 61 = .ok (.ireturn, 1) := by decide +kernel
theorem dX4_made_62 : decode cX4_made 62 = .ok (.iconst 0, 1) := by decide +kernel
theorem dX4_made_63 : decode cX4_made 63 = .ok (.istore_n 3, 1) := by decide +kernel
theorem dX4_made_64 : decode cX4_made 64 = .ok (.iload_n 3, 1) := by decide +kernel
theorem dX4_made_65 : decode cX4_made 65 = .ok (.bipush 10, 2) := by decide +kernel
theorem dX4_made_67 : decode cX4_made 67 = .ok (.if_icmp .ge 29, 3) := by decide +kernel
theorem dX4_made_70 : decode cX4_made 70 = .ok (.aload_n 0, 1) := by decide +kernel
theorem dX4_made_71 : decode cX4_made 71 = .ok (.getfield 48, 3) := by decide +kernel
theorem dX4_made_74 : decode cX4_made 74 = .ok (.bipush 10, 2) := by decide +kernel
theorem dX4_made_76 : decode cX4_made 76 = .ok (.iload_n 2, 1) := by decide +kernel
theorem dX4_made_77 : decode cX4_made 77 = .ok (.imul, 1) := by decide +kernel
theorem dX4_made_78 : decode cX4_made 78 = .ok (.iload_n 3, 1) := by decide +kernel
theorem dX4_made_79 : decode cX4_made 79 = .ok (.iadd, 1) := by decide +kernel
theorem dX4_made_80 : decode cX4_made 80 = .ok (.dup2, 1) := by decide +kernel
theorem dX4_made_81 : decode cX4_made 81 = .ok (.iaload, 1) := by decide +kernel
theorem dX4_made_82 : decode cX4_made 82 = .ok (.aload_n 0, 1) := by decide +kernel
theorem dX4_made_83 : decode cX4_made 83 = .ok (.iload_n 1, 1) := by decide +kernel
theorem dX4_made_84 : decode cX4_made 84 = .ok (.iload_n 3, 1) := by decide +kernel
theorem dX4_made_85 : decode cX4_made 85 = .ok (.invokevirtual 187, 3) := by decide +kernel
theorem dX4_made_88 : decode cX4_made 88 = .ok (.iadd, 1) := by decide +kernel
theorem dX4_made_89 : decode cX4_made 89 = .ok (.iastore, 1) := by decide +kernel
theorem dX4_made_90 : decode cX4_made 90 = .ok (.iinc 3 1, 3) := by decide +kernel
theorem dX4_made_93 : decode cX4_made 93 = .ok (.goto (-29), 3) := by decide +kernel
theorem dX4_made_96 : decode cX4_made 96 = .ok (.aload_n 0, 1) := by decide +kernel
theorem dX4_made_97 : decode cX4_made 97 = .ok (.getfield 51, 3) := by decide +kernel
theorem dX4_made_100 : decode cX4_made 100 = .ok (.iload_n 2, 1) := by decide +kernel
theorem dX4_made_101 : decode cX4_made 101 = .ok (.dup2, 1) := by decide +kernel
theorem dX4_made_102 : decode cX4_made 102 = .ok (.iaload, 1) := by decide +kernel
theorem dX4_made_103 : decode cX4_made 103 = .ok (.aload_n 0, 1) := by decide +kernel
theorem dX4_made_104 : decode cX4_made 104 = .ok (.getfield 7, 3) := by decide +kernel
theorem dX4_made_107 : decode cX4_made 107 = .ok (.iadd, 1) := by decide +kernel
theorem dX4_made_108 : decode cX4_made 108 = .ok (.iastore, 1) := by decide +kernel
theorem dX4_made_109 : decode cX4_made 109 = .ok (.aload_n 0, 1) := by decide +kernel
theorem dX4_made_110 : decode cX4_made 110 = .ok (.getfield 51, 3) := by decide +kernel
theorem dX4_made_113 : decode cX4_made 113 = .ok (.iload_n 2, 1) := by decide +kernel
theorem dX4_made_114 : decode cX4_made 114 = .ok (.iaload, 1) := by decide +kernel
theorem dX4_made_115 : decode cX4_made 115 = .ok (.ireturn, 1) := by decide +kernel
theorem dX4_timesIn_0 : decode cX4_timesIn 0 = .ok (.iconst 0, 1) := by decide +kernel
theorem dX4_timesIn_1 : decode cX4_timesIn 1 = .ok (.istore_n 3, 1) := by decide +kernel
theorem dX4_timesIn_2 : decode cX4_timesIn 2 = .ok (.iconst 0, 1) := by decide +kernel
theorem dX4_timesIn_3 : decode cX4_timesIn 3 = .ok (.istore 4, 2) := by decide +kernel
theorem dX4_timesIn_5 : decode cX4_timesIn 5 = .ok (.iload 4, 2) := by decide +kernel
theorem dX4_timesIn_7 : decode cX4_timesIn 7 = .ok (.aload_n 0, 1) := by decide +kernel
theorem dX4_timesIn_8 : decode cX4_timesIn 8 = .ok (.getfield 7, 3) := by decide +kernel
theorem dX4_timesIn_11 : decode cX4_timesIn 11 = .ok (.if_icmp .ge 33, 3) := by decide +kernel
theorem dX4_timesIn_14 : decode cX4_timesIn 14 = .ok (.iload_n 3, 1) := by decide +kernel
theorem dX4_timesIn_15 : decode cX4_timesIn 15 = .ok (.aload_n 0, 1) := by decide +kernel
theorem dX4_timesIn_16 : decode cX4_timesIn 16 = .ok (.getfield 17, 3) := by decide +kernel
theorem dX4_timesIn_19 : decode cX4_timesIn 19 = .ok (.bipush 16, 2) := by decide +kernel
theorem dX4_timesIn_21 : decode cX4_timesIn 21 = .ok (.iload_n 1, 1) := by decide +kernel
theorem dX4_timesIn_22 : decode cX4_timesIn 22 = .ok (.imul, 1) := by decide +kernel
theorem dX4_timesIn_23 : decode cX4_timesIn 23 = .ok (.iload 4, 2) := by decide +kernel
theorem dX4_timesIn_25 : decode cX4_timesIn 25 = .ok (.iadd, 1) := by decide +kernel
theorem dX4_timesIn_26 : decode cX4_timesIn 26 = .ok (.iaload, 1) := by decide +kernel
theorem dX4_timesIn_27 : decode cX4_timesIn 27 = .ok (.iload_n 2, 1) := by decide +kernel
theorem dX4_timesIn_28 : decode cX4_timesIn 28 = .ok (.if_icmp .ne 7, 3) := by decide +kernel
theorem dX4_timesIn_31 : decode cX4_timesIn 31 = .ok (.iconst 1, 1) := by decide +kernel
theorem dX4_timesIn_32 : decode cX4_timesIn 32 = .ok (.goto 4, 3) := by decide +kernel
theorem dX4_timesIn_35 : decode cX4_timesIn 35 = .ok (.iconst 0, 1) := by decide +kernel
theorem dX4_timesIn_36 : decode cX4_timesIn 36 = .ok (.iadd, 1) := by decide +kernel
theorem dX4_timesIn_37 : decode cX4_timesIn 37 = .ok (.istore_n 3, 1) := by decide +kernel
theorem dX4_timesIn_38 : decode cX4_timesIn 38 = .ok (.iinc 4 1, 3) := by decide +kernel
theorem dX4_timesIn_41 : decode cX4_timesIn 41 = .ok (.goto (-36), 3) := by decide +kernel
theorem dX4_timesIn_44 : decode cX4_timesIn 44 = .ok (.iload_n 3, 1) := by decide +kernel
theorem dX4_timesIn_45 : decode cX4_timesIn 45 = .ok (.ireturn, 1) := by decide +kernel
theorem dX4_like_0 : decode cX4_like 0 = .ok (.iload_n 1, 1) := by decide +kernel
theorem dX4_like_1 : decode cX4_like 1 = .ok (.invokestatic 83, 3) := by decide +kernel
theorem dX4_like_4 : decode cX4_like 4 = .ok (.ifCond .eq 12, 3) := by decide +kernel
theorem dX4_like_7 : decode cX4_like 7 = .ok (.iload_n 2, 1) := by decide +kernel
theorem dX4_like_8 : decode cX4_like 8 = .ok (.iconst 0, 1) := by decide +kernel
theorem dX4_like_9 : decode cX4_like 9 = .ok (.iconst 3, 1) := by decide +kernel
theorem dX4_like_10 : decode cX4_like 10 = .ok (.invokestatic 75, 3) := by decide +kernel
theorem dX4_like_13 : decode cX4_like 13 = .ok (.ifCond .ne 9, 3) := by decide +kernel
theorem dX4_like_16 : decode cX4_like 16 = .ok (.aload_n 0, 1) := by decide +kernel
theorem dX4_like_17 : decode cX4_like 17 = .ok (.iconst (-1), 1) := by decide +kernel
theorem dX4_like_18 : decode cX4_like 18 = .ok (.invokevirtual 79, 3) := by decide +kernel
theorem dX4_like_21 : decode cX4_like 21 = .ok (.ireturn, 1) := by decide +kernel
theorem dX4_like_22 : decode cX4_like 22 = .ok (.aload_n 0, 1) := by decide +kernel
theorem dX4_like_23 : decode cX4_like 23 = .ok (.getfield 13, 3) := by decide +kernel
theorem dX4_like_26 : decode cX4_like 26 = .ok (.iload_n 1, 1) := by decide +kernel
theorem dX4_like_27 : decode cX4_like 27 = .ok (.baload, 1) := by decide +kernel
theorem dX4_like_28 : decode cX4_like 28 = .ok (.ifCond .ne 10, 3) := by decide +kernel
theorem dX4_like_31 : decode cX4_like 31 = .ok (.aload_n 0, 1) := by decide +kernel
theorem dX4_like_32 : decode cX4_like 32 = .ok (.bipush (-5), 2) := by decide +kernel
theorem dX4_like_34 : decode cX4_like 34 = .ok (.invokevirtual 79, 3) := by decide +kernel
theorem dX4_like_37 : decode cX4_like 37 = .ok (.ireturn, 1) := by decide +kernel
theorem dX4_like_38 : decode cX4_like 38 = .ok (.aload_n 0, 1) := by decide +kernel
theorem dX4_like_39 : decode cX4_like 39 = .ok (.getfield 51, 3) := by decide +kernel
theorem dX4_like_42 : decode cX4_like 42 = .ok (.iload_n 2, 1) := by decide +kernel
theorem dX4_like_43 : decode cX4_like 43 = .ok (.iaload, 1) := by decide +kernel
theorem dX4_like_44 : decode cX4_like 44 = .ok (.ifCond .ne 12, 3) := by decide +kernel
theorem dX4_like_47 : decode cX4_like 47 = .ok (.aload_n 0, 1) := by decide +kernel
theorem dX4_like_48 : decode cX4_like 48 = .ok (.bipush (-3), 2) := by decide +kernel
theorem dX4_like_50 : decode cX4_like 50 = .ok (.invokevirtual 79, 3) := by decide +kernel
theorem dX4_like_53 : decode cX4_like 53 = .ok (.goto 9, 3) := by decide +kernel
theorem dX4_like_56 : decode cX4_like 56 = .ok (.aload_n 0, 1) := by decide +kernel
theorem dX4_like_57 : decode cX4_like 57 = .ok (.iload_n 1, 1) := by decide +kernel
theorem dX4_like_58 : decode cX4_like 58 = .ok (.iload_n 2, 1) := by decide +kernel
theorem dX4_like_59 : decode cX4_like 59 = .ok (.invokevirtual 190, 3) := by decide +kernel
theorem dX4_like_62 : decode cX4_like 62 = .ok (.ireturn, 1) := by decide +kernel
theorem dX4_likeness_0 : decode cX4_likeness 0 = .ok (.iconst 0, 1) := by decide +kernel
theorem dX4_likeness_1 : decode cX4_likeness 1 = .ok (.istore_n 3, 1) := by decide +kernel
theorem dX4_likeness_2 : decode cX4_likeness 2 = .ok (.iconst 0, 1) := by decide +kernel
theorem dX4_likeness_3 : decode cX4_likeness 3 = .ok (.istore 4, 2) := by decide +kernel
theorem dX4_likeness_5 : decode cX4_likeness 5 = .ok (.iload 4, 2) := by decide +kernel
theorem dX4_likeness_7 : decode cX4_likeness 7 = .ok (.bipush 10, 2) := by decide +kernel
theorem dX4_likeness_9 : decode cX4_likeness 9 = .ok (.if_icmp .ge 59, 3) := by decide +kernel
theorem dX4_likeness_12 : decode cX4_likeness 12 = .ok (.aload_n 0, 1) := by decide +kernel
theorem dX4_likeness_13 : decode cX4_likeness 13 = .ok (.iload_n 1, 1) := by decide +kernel
theorem dX4_likeness_14 : decode cX4_likeness 14 = .ok (.iload 4, 2) := by decide +kernel
theorem dX4_likeness_16 : decode cX4_likeness 16 = .ok (.invokevirtual 187, 3) := by decide +kernel
theorem dX4_likeness_19 : decode cX4_likeness 19 = .ok (.aload_n 0, 1) := by decide +kernel
theorem dX4_likeness_20 : decode cX4_likeness 20 = .ok (.getfield 51, 3) := by decide +kernel
theorem dX4_likeness_23 : decode cX4_likeness 23 = .ok (.iload_n 2, 1) := by decide +kernel
theorem dX4_likeness_24 : decode cX4_likeness 24 = .ok (.iaload, 1) := by decide +kernel
theorem dX4_likeness_25 : decode cX4_likeness 25 = .ok (.imul, 1) := by decide +kernel
theorem dX4_likeness_26 : decode cX4_likeness 26 = .ok (.aload_n 0, 1) := by decide +kernel
theorem dX4_likeness_27 : decode cX4_likeness 27 = .ok (.getfield 48, 3) := by decide +kernel
theorem dX4_likeness_30 : decode cX4_likeness 30 = .ok (.bipush 10, 2) := by decide +kernel
theorem dX4_likeness_32 : decode cX4_likeness 32 = .ok (.iload_n 2, 1) := by decide +kernel
theorem dX4_likeness_33 : decode cX4_likeness 33 = .ok (.imul, 1) := by decide +kernel
theorem dX4_likeness_34 : decode cX4_likeness 34 = .ok (.iload 4, 2) := by decide +kernel
theorem dX4_likeness_36 : decode cX4_likeness 36 = .ok (.iadd, 1) := by decide +kernel
theorem dX4_likeness_37 : decode cX4_likeness 37 = .ok (.iaload, 1) := by decide +kernel
theorem dX4_likeness_38 : decode cX4_likeness 38 = .ok (.aload_n 0, 1) := by decide +kernel
theorem dX4_likeness_39 : decode cX4_likeness 39 = .ok (.getfield 7, 3) := by decide +kernel
theorem dX4_likeness_42 : decode cX4_likeness 42 = .ok (.imul, 1) := by decide +kernel
theorem dX4_likeness_43 : decode cX4_likeness 43 = .ok (.isub, 1) := by decide +kernel
theorem dX4_likeness_44 : decode cX4_likeness 44 = .ok (.istore 5, 2) := by decide +kernel
theorem dX4_likeness_46 : decode cX4_likeness 46 = .ok (.iload_n 3, 1) := by decide +kernel
theorem dX4_likeness_47 : decode cX4_likeness 47 = .ok (.iload 5, 2) := by decide +kernel
theorem dX4_likeness_49 : decode cX4_likeness 49 = .ok (.ifCond .ge 9, 3) := by decide +kernel
theorem dX4_likeness_52 : decode cX4_likeness 52 = .ok (.iload 5, 2) := by decide +kernel
theorem dX4_likeness_54 : decode cX4_likeness 54 = .ok (.ineg, 1) := by decide +kernel
theorem dX4_likeness_55 : decode cX4_likeness 55 = .ok (.goto 5, 3) := by decide +kernel
theorem dX4_likeness_58 : decode cX4_likeness 58 = .ok (.iload 5, 2) := by decide +kernel
theorem dX4_likeness_60 : decode cX4_likeness 60 = .ok (.iadd, 1) := by decide +kernel
theorem dX4_likeness_61 : decode cX4_likeness 61 = .ok (.istore_n 3, 1) := by decide +kernel
theorem dX4_likeness_62 : decode cX4_likeness 62 = .ok (.iinc 4 1, 3) := by decide +kernel
theorem dX4_likeness_65 : decode cX4_likeness 65 = .ok (.goto (-60), 3) := by decide +kernel
theorem dX4_likeness_68 : decode cX4_likeness 68 = .ok (.iload_n 3, 1) := by decide +kernel
theorem dX4_likeness_69 : decode cX4_likeness 69 = .ok (.ireturn, 1) := by decide +kernel
theorem dX4_whose_0 : decode cX4_whose 0 = .ok (.aload_n 0, 1) := by decide +kernel
theorem dX4_whose_1 : decode cX4_whose 1 = .ok (.iload_n 1, 1) := by decide +kernel
theorem dX4_whose_2 : decode cX4_whose 2 = .ok (.invokevirtual 87, 3) := by decide +kernel
theorem dX4_whose_5 : decode cX4_whose 5 = .ok (.istore_n 2, 1) := by decide +kernel
theorem dX4_whose_6 : decode cX4_whose 6 = .ok (.iload_n 2, 1) := by decide +kernel
theorem dX4_whose_7 : decode cX4_whose 7 = .ok (.ifCond .ge 9, 3) := by decide +kernel
theorem dX4_whose_10 : decode cX4_whose 10 = .ok (.aload_n 0, 1) := by decide +kernel
theorem dX4_whose_11 : decode cX4_whose 11 = .ok (.iload_n 2, 1) := by decide +kernel
theorem dX4_whose_12 : decode cX4_whose 12 = .ok (.invokevirtual 79, 3) := by decide +kernel
theorem dX4_whose_15 : decode cX4_whose 15 = .ok (.ireturn, 1) := by decide +kernel
theorem dX4_whose_16 : decode cX4_whose 16 = .ok (.bipush (-9), 2) := by decide +kernel
theorem dX4_whose_18 : decode cX4_whose 18 = .ok (.istore_n 3, 1) := by decide +kernel
theorem dX4_whose_19 : decode cX4_whose 19 = .ok (.iconst 0, 1) := by decide +kernel
theorem dX4_whose_20 : decode cX4_whose 20 = .ok (.istore 4, 2) := by decide +kernel
theorem dX4_whose_22 : decode cX4_whose 22 = .ok (.iload 4, 2) := by decide +kernel
theorem dX4_whose_24 : decode cX4_whose 24 = .ok (.iconst 4, 1) := by decide +kernel
theorem dX4_whose_25 : decode cX4_whose 25 = .ok (.if_icmp .ge 62, 3) := by decide +kernel
theorem dX4_whose_28 : decode cX4_whose 28 = .ok (.aload_n 0, 1) := by decide +kernel
theorem dX4_whose_29 : decode cX4_whose 29 = .ok (.getfield 51, 3) := by decide +kernel
theorem dX4_whose_32 : decode cX4_whose 32 = .ok (.iload 4, 2) := by decide +kernel
theorem dX4_whose_34 : decode cX4_whose 34 = .ok (.iaload, 1) := by decide +kernel
theorem dX4_whose_35 : decode cX4_whose 35 = .ok (.ifCond .le 46, 3) := by decide +kernel
theorem dX4_whose_38 : decode cX4_whose 38 = .ok (.iload_n 3, 1) := by decide +kernel
theorem dX4_whose_39 : decode cX4_whose 39 = .ok (.ifCond .lt 39, 3) := by decide +kernel
theorem dX4_whose_42 : decode cX4_whose 42 = .ok (.aload_n 0, 1) := by decide +kernel
theorem dX4_whose_43 : decode cX4_whose 43 = .ok (.iload_n 1, 1) := by decide +kernel
theorem dX4_whose_44 : decode cX4_whose 44 = .ok (.iload 4, 2) := by decide +kernel
theorem dX4_whose_46 : decode cX4_whose 46 = .ok (.invokevirtual 190, 3) := by decide +kernel
theorem dX4_whose_49 : decode cX4_whose 49 = .ok (.i2l, 1) := by decide +kernel
theorem dX4_whose_50 : decode cX4_whose 50 = .ok (.aload_n 0, 1) := by decide +kernel
theorem dX4_whose_51 : decode cX4_whose 51 = .ok (.getfield 51, 3) := by decide +kernel
theorem dX4_whose_54 : decode cX4_whose 54 = .ok (.iload_n 3, 1) := by decide +kernel
theorem dX4_whose_55 : decode cX4_whose 55 = .ok (.iaload, 1) := by decide +kernel
theorem dX4_whose_56 : decode cX4_whose 56 = .ok (.i2l, 1) := by decide +kernel
theorem dX4_whose_57 : decode cX4_whose 57 = .ok (.lmul, 1) := by decide +kernel
theorem dX4_whose_58 : decode cX4_whose 58 = .ok (.aload_n 0, 1) := by decide +kernel
theorem dX4_whose_59 : decode cX4_whose 59 = .ok (.iload_n 1, 1) := by decide +kernel
theorem dX4_whose_60 : decode cX4_whose 60 = .ok (.iload_n 3, 1) := by decide +kernel
theorem dX4_whose_61 : decode cX4_whose 61 = .ok (.invokevirtual 190, 3) := by decide +kernel
theorem dX4_whose_64 : decode cX4_whose 64 = .ok (.i2l, 1) := by decide +kernel
theorem dX4_whose_65 : decode cX4_whose 65 = .ok (.aload_n 0, 1) := by decide +kernel
theorem dX4_whose_66 : decode cX4_whose 66 = .ok (.getfield 51, 3) := by decide +kernel
theorem dX4_whose_69 : decode cX4_whose 69 = .ok (.iload 4, 2) := by decide +kernel
theorem dX4_whose_71 : decode cX4_whose 71 = .ok (.iaload, 1) := by decide +kernel
theorem dX4_whose_72 : decode cX4_whose 72 = .ok (.i2l, 1) := by decide +kernel
theorem dX4_whose_73 : decode cX4_whose 73 = .ok (.lmul, 1) := by decide +kernel
theorem dX4_whose_74 : decode cX4_whose 74 = .ok (.lcmp, 1) := by decide +kernel
theorem dX4_whose_75 : decode cX4_whose 75 = .ok (.ifCond .ge 6, 3) := by decide +kernel
theorem dX4_whose_78 : decode cX4_whose 78 = .ok (.iload 4, 2) := by decide +kernel
theorem dX4_whose_80 : decode cX4_whose 80 = .ok (.istore_n 3, 1) := by decide +kernel
theorem dX4_whose_81 : decode cX4_whose 81 = .ok (.iinc 4 1, 3) := by decide +kernel
theorem dX4_whose_84 : decode cX4_whose 84 = .ok (.goto (-62), 3) := by decide +kernel
theorem dX4_whose_87 : decode cX4_whose 87 = .ok (.iload_n 3, 1) := by decide +kernel
theorem dX4_whose_88 : decode cX4_whose 88 = .ok (.ireturn, 1) := by decide +kernel
theorem dX4_count_0 : decode cX4_count 0 = .ok (.iconst 0, 1) := by decide +kernel
theorem dX4_count_1 : decode cX4_count 1 = .ok (.istore_n 2, 1) := by decide +kernel
theorem dX4_count_2 : decode cX4_count 2 = .ok (.iload_n 1, 1) := by decide +kernel
theorem dX4_count_3 : decode cX4_count 3 = .ok (.tableswitch 140 0 10 #[57, 62, 95, 100, 105, 110, 115, 120, 125, 130, 135], 57) := by decide +kernel
theorem dX4_count_60 : decode cX4_count 60 = .ok (.aload_n 0, 1) := by decide +kernel
theorem dX4_count_61 : decode cX4_count 61 = .ok (.getfield 7, 3) := by decide +kernel
theorem dX4_count_64 : decode cX4_count 64 = .ok (.ireturn, 1) := by decide +kernel
theorem dX4_count_65 : decode cX4_count 65 = .ok (.iconst 0, 1) := by decide +kernel
theorem dX4_count_66 : decode cX4_count 66 = .ok (.istore_n 3, 1) := by decide +kernel
theorem dX4_count_67 : decode cX4_count 67 = .ok (.iload_n 3, 1) := by decide +kernel
theorem dX4_count_68 : decode cX4_count 68 = .ok (.bipush 12, 2) := by decide +kernel
theorem dX4_count_70 : decode cX4_count 70 = .ok (.if_icmp .ge 26, 3) := by decide +kernel
theorem dX4_count_73 : decode cX4_count 73 = .ok (.iload_n 2, 1) := by decide +kernel
theorem dX4_count_74 : decode cX4_count 74 = .ok (.aload_n 0, 1) := by decide +kernel
theorem dX4_count_75 : decode cX4_count 75 = .ok (.getfield 13, 3) := by decide +kernel
theorem dX4_count_78 : decode cX4_count 78 = .ok (.iload_n 3, 1) := by decide +kernel
theorem dX4_count_79 : decode cX4_count 79 = .ok (.baload, 1) := by decide +kernel
theorem dX4_count_80 : decode cX4_count 80 = .ok (.ifCond .eq 7, 3) := by decide +kernel
theorem dX4_count_83 : decode cX4_count 83 = .ok (.iconst 1, 1) := by decide +kernel
theorem dX4_count_84 : decode cX4_count 84 = .ok (.goto 4, 3) := by decide +kernel
theorem dX4_count_87 : decode cX4_count 87 = .ok (.iconst 0, 1) := by decide +kernel
theorem dX4_count_88 : decode cX4_count 88 = .ok (.iadd, 1) := by decide +kernel
theorem dX4_count_89 : decode cX4_count 89 = .ok (.istore_n 2, 1) := by decide +kernel
theorem dX4_count_90 : decode cX4_count 90 = .ok (.iinc 3 1, 3) := by decide +kernel
theorem dX4_count_93 : decode cX4_count 93 = .ok (.goto (-26), 3) := by decide +kernel
theorem dX4_count_96 : decode cX4_count 96 = .ok (.iload_n 2, 1) := by decide +kernel
theorem dX4_count_97 : decode cX4_count 97 = .ok (.ireturn, 1) := by decide +kernel
theorem dX4_count_98 : decode cX4_count 98 = .ok (.aload_n 0, 1) := by decide +kernel
theorem dX4_count_99 : decode cX4_count 99 = .ok (.getfield 104, 3) := by decide +kernel
theorem dX4_count_102 : decode cX4_count 102 = .ok (.ireturn, 1) := by decide +kernel
theorem dX4_count_103 : decode cX4_count 103 = .ok (.aload_n 0, 1) := by decide +kernel
theorem dX4_count_104 : decode cX4_count 104 = .ok (.getfield 110, 3) := by decide +kernel
theorem dX4_count_107 : decode cX4_count 107 = .ok (.ireturn, 1) := by decide +kernel
theorem dX4_count_108 : decode cX4_count 108 = .ok (.aload_n 0, 1) := by decide +kernel
theorem dX4_count_109 : decode cX4_count 109 = .ok (.getfield 156, 3) := by decide +kernel
theorem dX4_count_112 : decode cX4_count 112 = .ok (.ireturn, 1) := by decide +kernel
theorem dX4_count_113 : decode cX4_count 113 = .ok (.aload_n 0, 1) := by decide +kernel
theorem dX4_count_114 : decode cX4_count 114 = .ok (.getfield 107, 3) := by decide +kernel
theorem dX4_count_117 : decode cX4_count 117 = .ok (.ireturn, 1) := by decide +kernel
theorem dX4_count_118 : decode cX4_count 118 = .ok (.aload_n 0, 1) := by decide +kernel
theorem dX4_count_119 : decode cX4_count 119 = .ok (.getfield 159, 3) := by decide +kernel
theorem dX4_count_122 : decode cX4_count 122 = .ok (.ireturn, 1) := by decide +kernel
theorem dX4_count_123 : decode cX4_count 123 = .ok (.aload_n 0, 1) := by decide +kernel
theorem dX4_count_124 : decode cX4_count 124 = .ok (.getfield 166, 3) := by decide +kernel
theorem dX4_count_127 : decode cX4_count 127 = .ok (.ireturn, 1) := by decide +kernel
theorem dX4_count_128 : decode cX4_count 128 = .ok (.aload_n 0, 1) := by decide +kernel
theorem dX4_count_129 : decode cX4_count 129 = .ok (.getfield 153, 3) := by decide +kernel
theorem dX4_count_132 : decode cX4_count 132 = .ok (.ireturn, 1) := by decide +kernel
theorem dX4_count_133 : decode cX4_count 133 = .ok (.aload_n 0, 1) := by decide +kernel
theorem dX4_count_134 : decode cX4_count 134 = .ok (.getfield 169, 3) := by decide +kernel
theorem dX4_count_137 : decode cX4_count 137 = .ok (.ireturn, 1) := by decide +kernel
theorem dX4_count_138 : decode cX4_count 138 = .ok (.aload_n 0, 1) := by decide +kernel
theorem dX4_count_139 : decode cX4_count 139 = .ok (.invokevirtual 175, 3) := by decide +kernel
theorem dX4_count_142 : decode cX4_count 142 = .ok (.ireturn, 1) := by decide +kernel
theorem dX4_count_143 : decode cX4_count 143 = .ok (.iload_n 1, 1) := by decide +kernel
theorem dX4_count_144 : decode cX4_count 144 = .ok (.bipush 11, 2) := by decide +kernel
theorem dX4_count_146 : decode cX4_count 146 = .ok (.bipush 17, 2) := by decide +kernel
theorem dX4_count_148 : decode cX4_count 148 = .ok (.invokestatic 75, 3) := by decide +kernel
theorem dX4_count_151 : decode cX4_count 151 = .ok (.ifCond .eq 15, 3) := by decide +kernel
theorem dX4_count_154 : decode cX4_count 154 = .ok (.aload_n 0, 1) := by decide +kernel
theorem dX4_count_155 : decode cX4_count 155 = .ok (.getfield 54, 3) := by decide +kernel
theorem dX4_count_158 : decode cX4_count 158 = .ok (.iload_n 1, 1) := by decide +kernel
theorem dX4_count_159 : decode cX4_count 159 = .ok (.bipush 10, 2) := by decide +kernel
theorem dX4_count_161 : decode cX4_count 161 = .ok (.isub, 1) := by decide +kernel
theorem dX4_count_162 : decode cX4_count 162 = .ok (.iaload, 1) := by decide +kernel
theorem dX4_count_163 : decode cX4_count 163 = .ok (.goto 5, 3) := by decide +kernel
theorem dX4_count_166 : decode cX4_count 166 = .ok (.bipush (-9), 2) := by decide +kernel
theorem dX4_count_168 : decode cX4_count 168 = .ok (.ireturn, 1) := by decide +kernel
