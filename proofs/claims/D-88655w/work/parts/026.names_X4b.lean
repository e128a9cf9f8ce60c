set_option maxRecDepth 100000
theorem dX4_findBlanks_29 : decode cX4_findBlanks 29 = .ok (.iload_n 2, 1) := by decide +kernel
theorem dX4_findBlanks_30 : decode cX4_findBlanks 30 = .ok (.if_icmp .ge 74, 3) := by decide +kernel
theorem dX4_findBlanks_33 : decode cX4_findBlanks 33 = .ok (.aload_n 0, 1) := by decide +kernel
theorem dX4_findBlanks_34 : decode cX4_findBlanks 34 = .ok (.getfield 13, 3) := by decide +kernel
theorem dX4_findBlanks_37 : decode cX4_findBlanks 37 = .ok (.iload_n 2, 1) := by decide +kernel
theorem dX4_findBlanks_38 : decode cX4_findBlanks 38 = .ok (.baload, 1) := by decide +kernel
theorem dX4_findBlanks_39 : decode cX4_findBlanks 39 = .ok (.ifCond .eq 65, 3) := by decide +kernel
theorem dX4_findBlanks_42 : decode cX4_findBlanks 42 = .ok (.aload_n 0, 1) := by decide +kernel
theorem dX4_findBlanks_43 : decode cX4_findBlanks 43 = .ok (.getfield 60, 3) := by decide +kernel
theorem dX4_findBlanks_46 : decode cX4_findBlanks 46 = .ok (.iload_n 2, 1) := by decide +kernel
theorem dX4_findBlanks_47 : decode cX4_findBlanks 47 = .ok (.iaload, 1) := by decide +kernel
theorem dX4_findBlanks_48 : decode cX4_findBlanks 48 = .ok (.ifCond .ge 56, 3) := by decide +kernel
theorem dX4_findBlanks_51 : decode cX4_findBlanks 51 = .ok (.aload_n 0, 1) := by decide +kernel
theorem dX4_findBlanks_52 : decode cX4_findBlanks 52 = .ok (.getfield 13, 3) := by decide +kernel
theorem dX4_findBlanks_55 : decode cX4_findBlanks 55 = .ok (.iload_n 3, 1) := by decide +kernel
theorem dX4_findBlanks_56 : decode cX4_findBlanks 56 = .ok (.baload, 1) := by decide +kernel
theorem dX4_findBlanks_57 : decode cX4_findBlanks 57 = .ok (.ifCond .eq 41, 3) := by decide +kernel
theorem dX4_findBlanks_60 : decode cX4_findBlanks 60 = .ok (.aload_n 0, 1) := by decide +kernel
theorem dX4_findBlanks_61 : decode cX4_findBlanks 61 = .ok (.getfield 60, 3) := by decide +kernel
theorem dX4_findBlanks_64 : decode cX4_findBlanks 64 = .ok (.iload_n 3, 1) := by decide +kernel
theorem dX4_findBlanks_65 : decode cX4_findBlanks 65 = .ok (.iaload, 1) := by decide +kernel
theorem dX4_findBlanks_66 : decode cX4_findBlanks 66 = .ok (.iload_n 3, 1) := by decide +kernel
theorem dX4_findBlanks_67 : decode cX4_findBlanks 67 = .ok (.if_icmp .ne 31, 3) := by decide +kernel
theorem dX4_findBlanks_70 : decode cX4_findBlanks 70 = .ok (.aload_n 0, 1) := by decide +kernel
theorem dX4_findBlanks_71 : decode cX4_findBlanks 71 = .ok (.iload_n 3, 1) := by decide +kernel
theorem dX4_findBlanks_72 : decode cX4_findBlanks 72 = .ok (.iload_n 2, 1) := by decide +kernel
theorem dX4_findBlanks_73 : decode cX4_findBlanks 73 = .ok (.invokevirtual 90, 3) := by decide +kernel
theorem dX4_findBlanks_76 : decode cX4_findBlanks 76 = .ok (.ifCond .lt 22, 3) := by decide +kernel
theorem dX4_findBlanks_79 : decode cX4_findBlanks 79 = .ok (.aload_n 0, 1) := by decide +kernel
theorem dX4_findBlanks_80 : decode cX4_findBlanks 80 = .ok (.getfield 60, 3) := by decide +kernel
theorem dX4_findBlanks_83 : decode cX4_findBlanks 83 = .ok (.iload_n 2, 1) := by decide +kernel
theorem dX4_findBlanks_84 : decode cX4_findBlanks 84 = .ok (.iload_n 3, 1) := by decide +kernel
theorem dX4_findBlanks_85 : decode cX4_findBlanks 85 = .ok (.iastore, 1) := by decide +kernel
theorem dX4_findBlanks_86 : decode cX4_findBlanks 86 = .ok (.aload_n 0, 1) := by decide +kernel
theorem dX4_findBlanks_87 : decode cX4_findBlanks 87 = .ok (.getfield 63, 3) := by decide +kernel
theorem dX4_findBlanks_90 : decode cX4_findBlanks 90 = .ok (.iload_n 2, 1) := by decide +kernel
theorem dX4_findBlanks_91 : decode cX4_findBlanks 91 = .ok (.aload_n 0, 1) := by decide +kernel
theorem dX4_findBlanks_92 : decode cX4_findBlanks 92 = .ok (.getfield 63, 3) := by decide +kernel
theorem dX4_findBlanks_95 : decode cX4_findBlanks 95 = .ok (.iload_n 3, 1) := by decide +kernel
theorem dX4_findBlanks_96 : decode cX4_findBlanks 96 = .ok (.iaload, 1) := by decide +kernel
theorem dX4_findBlanks_97 : decode cX4_findBlanks 97 = .ok (.iastore, 1) := by decide +kernel
theorem dX4_findBlanks_98 : decode cX4_findBlanks 98 = .ok (.iinc 3 1, 3) := by decide +kernel
theorem dX4_findBlanks_101 : decode cX4_findBlanks 101 = .ok (.goto (-73), 3) := by decide +kernel
theorem dX4_findBlanks_104 : decode cX4_findBlanks 104 = .ok (.aload_n 0, 1) := by decide +kernel
theorem dX4_findBlanks_105 : decode cX4_findBlanks 105 = .ok (.getfield 13, 3) := by decide +kernel
theorem dX4_findBlanks_108 : decode cX4_findBlanks 108 = .ok (.iload_n 2, 1) := by decide +kernel
theorem dX4_findBlanks_109 : decode cX4_findBlanks 109 = .ok (.baload, 1) := by decide +kernel
theorem dX4_findBlanks_110 : decode cX4_findBlanks 110 = .ok (.ifCond .eq 29, 3) := by decide +kernel
theorem dX4_findBlanks_113 : decode cX4_findBlanks 113 = .ok (.aload_n 0, 1) := by decide +kernel
theorem dX4_findBlanks_114 : decode cX4_findBlanks 114 = .ok (.getfield 60, 3) := by decide +kernel
theorem dX4_findBlanks_117 : decode cX4_findBlanks 117 = .ok (.iload_n 2, 1) := by decide +kernel
theorem dX4_findBlanks_118 : decode cX4_findBlanks 118 = .ok (.iaload, 1) := by decide +kernel
theorem dX4_findBlanks_119 : decode cX4_findBlanks 119 = .ok (.ifCond .ge 20, 3) := by decide +kernel
theorem dX4_findBlanks_122 : decode cX4_findBlanks 122 = .ok (.aload_n 0, 1) := by decide +kernel
theorem dX4_findBlanks_123 : decode cX4_findBlanks 123 = .ok (.getfield 60, 3) := by decide +kernel
theorem dX4_findBlanks_126 : decode cX4_findBlanks 126 = .ok (.iload_n 2, 1) := by decide +kernel
theorem dX4_findBlanks_127 : decode cX4_findBlanks 127 = .ok (.iload_n 2, 1) := by decide +kernel
theorem dX4_findBlanks_128 : decode cX4_findBlanks 128 = .ok (.iastore, 1) := by decide +kernel
theorem dX4_findBlanks_129 : decode cX4_findBlanks 129 = .ok (.aload_n 0, 1) := by decide +kernel
theorem dX4_findBlanks_130 : decode cX4_findBlanks 130 = .ok (.getfield 63, 3) := by decide +kernel
theorem dX4_findBlanks_133 : decode cX4_findBlanks 133 = .ok (.iload_n 2, 1) := by decide +kernel
theorem dX4_findBlanks_134 : decode cX4_findBlanks 134 = .ok (.iload_n 1, 1) := by decide +kernel
theorem dX4_findBlanks_135 : decode cX4_findBlanks 135 = .ok (.iastore, 1) := by decide +kernel
theorem dX4_findBlanks_136 : decode cX4_findBlanks 136 = .ok (.iinc 1 1, 3) := by decide +kernel
theorem dX4_findBlanks_139 : decode cX4_findBlanks 139 = .ok (.iinc 2 1, 3) := by decide +kernel
theorem dX4_findBlanks_142 : decode cX4_findBlanks 142 = .ok (.goto (-138), 3) := by decide +kernel
theorem dX4_findBlanks_145 : decode cX4_findBlanks 145 = .ok (.iload_n 1, 1) := by decide +kernel
theorem dX4_findBlanks_146 : decode cX4_findBlanks 146 = .ok (.ireturn, 1) := by decide +kernel
theorem dX4_turnedBy_0 : decode cX4_turnedBy 0 = .ok (.iconst 0, 1) := by decide +kernel
theorem dX4_turnedBy_1 : decode cX4_turnedBy 1 = .ok (.istore_n 3, 1) := by decide +kernel
theorem dX4_turnedBy_2 : decode cX4_turnedBy 2 = .ok (.iload_n 3, 1) := by decide +kernel
theorem dX4_turnedBy_3 : decode cX4_turnedBy 3 = .ok (.aload_n 0, 1) := by decide +kernel
theorem dX4_turnedBy_4 : decode cX4_turnedBy 4 = .ok (.getfield 7, 3) := by decide +kernel
theorem dX4_turnedBy_7 : decode cX4_turnedBy 7 = .ok (.if_icmp .ge 83, 3) := by decide +kernel
theorem dX4_turnedBy_10 : decode cX4_turnedBy 10 = .ok (.iconst 1, 1) := by decide +kernel
theorem dX4_turnedBy_11 : decode cX4_turnedBy 11 = .ok (.istore 4, 2) := by decide +kernel
theorem dX4_turnedBy_13 : decode cX4_turnedBy 13 = .ok (.iconst 0, 1) := by decide +kernel
theorem dX4_turnedBy_14 : decode cX4_turnedBy 14 = .ok (.istore 5, 2) := by decide +kernel
theorem dX4_turnedBy_16 : decode cX4_turnedBy 16 = .ok (.iload 5, 2) := by decide +kernel
theorem dX4_turnedBy_18 : decode cX4_turnedBy 18 = .ok (.aload_n 0, 1) := by decide +kernel
theorem dX4_turnedBy_19 : decode cX4_turnedBy 19 = .ok (.getfield 7, 3) := by decide +kernel
theorem dX4_turnedBy_22 : decode cX4_turnedBy 22 = .ok (.if_icmp .ge 55, 3) := by decide +kernel
theorem dX4_turnedBy_25 : decode cX4_turnedBy 25 = .ok (.iload 4, 2) := by decide +kernel
theorem dX4_turnedBy_27 : decode cX4_turnedBy 27 = .ok (.ifCond .eq 41, 3) := by decide +kernel
theorem dX4_turnedBy_30 : decode cX4_turnedBy 30 = .ok (.aload_n 0, 1) := by decide +kernel
theorem dX4_turnedBy_31 : decode cX4_turnedBy 31 = .ok (.getfield 17, 3) := by decide +kernel
theorem dX4_turnedBy_34 : decode cX4_turnedBy 34 = .ok (.bipush 16, 2) := by decide +kernel
theorem dX4_turnedBy_36 : decode cX4_turnedBy 36 = .ok (.iload_n 2, 1) := by decide +kernel
theorem dX4_turnedBy_37 : decode cX4_turnedBy 37 = .ok (.imul, 1) := by decide +kernel
theorem dX4_turnedBy_38 : decode cX4_turnedBy 38 = .ok (.iload 5, 2) := by decide +kernel
theorem dX4_turnedBy_40 : decode cX4_turnedBy 40 = .ok (.iload_n 3, 1) := by decide +kernel
theorem dX4_turnedBy_41 : decode cX4_turnedBy 41 = .ok (.iadd, 1) := by decide +kernel
theorem dX4_turnedBy_42 : decode cX4_turnedBy 42 = .ok (.aload_n 0, 1) := by decide +kernel
theorem dX4_turnedBy_43 : decode cX4_turnedBy 43 = .ok (.getfield 7, 3) := by decide +kernel
theorem dX4_turnedBy_46 : decode cX4_turnedBy 46 = .ok (.irem, 1) := by decide +kernel
theorem dX4_turnedBy_47 : decode cX4_turnedBy 47 = .ok (.iadd, 1) := by decide +kernel
theorem dX4_turnedBy_48 : decode cX4_turnedBy 48 = .ok (.iaload, 1) := by decide +kernel
theorem dX4_turnedBy_49 : decode cX4_turnedBy 49 = .ok (.aload_n 0, 1) := by decide +kernel
theorem dX4_turnedBy_50 : decode cX4_turnedBy 50 = .ok (.getfield 17, 3) := by decide +kernel
theorem dX4_turnedBy_53 : decode cX4_turnedBy 53 = .ok (.bipush 16, 2) := by decide +kernel
theorem dX4_turnedBy_55 : decode cX4_turnedBy 55 = .ok (.iload_n 1, 1) := by decide +kernel
theorem dX4_turnedBy_56 : decode cX4_turnedBy 56 = .ok (.imul, 1) := by decide +kernel
theorem dX4_turnedBy_57 : decode cX4_turnedBy 57 = .ok (.iload 5, 2) := by decide +kernel
theorem dX4_turnedBy_59 : decode cX4_turnedBy 59 = .ok (.iadd, 1) := by decide +kernel
theorem dX4_turnedBy_60 : decode cX4_turnedBy 60 = .ok (.iaload, 1) := by decide +kernel
theorem dX4_turnedBy_61 : decode cX4_turnedBy 61 = .ok (.if_icmp .ne 7, 3) := by decide +kernel
theorem dX4_turnedBy_64 : decode cX4_turnedBy 64 = .ok (.iconst 1, 1) := by decide +kernel
theorem dX4_turnedBy_65 : decode cX4_turnedBy 65 = .ok (.goto 4, 3) := by decide +kernel
theorem dX4_turnedBy_68 : decode cX4_turnedBy 68 = .ok (.iconst 0, 1) := by decide +kernel
theorem dX4_turnedBy_69 : decode cX4_turnedBy 69 = .ok (.istore 4, 2) := by decide +kernel
theorem dX4_turnedBy_71 : decode cX4_turnedBy 71 = .ok (.iinc 5 1, 3) := by decide +kernel
theorem dX4_turnedBy_74 : decode cX4_turnedBy 74 = .ok (.goto (-58), 3) := by decide +kernel
theorem dX4_turnedBy_77 : decode cX4_turnedBy 77 = .ok (.iload 4, 2) := by decide +kernel
theorem dX4_turnedBy_79 : decode cX4_turnedBy 79 = .ok (.ifCond .eq 5, 3) := by decide +kernel
theorem dX4_turnedBy_82 : decode cX4_turnedBy 82 = .ok (.iload_n 3, 1) := by decide +kernel
theorem dX4_turnedBy_83 : decode cX4_turnedBy 83 = .ok (.ireturn, 1) := by decide +kernel
theorem dX4_turnedBy_84 : decode cX4_turnedBy 84 = .ok (.iinc 3 1, 3) := by decide +kernel
theorem dX4_turnedBy_87 : decode cX4_turnedBy 87 = .ok (.goto (-85), 3) := by decide +kernel
theorem dX4_turnedBy_90 : decode cX4_turnedBy 90 = .ok (.bipush (-9), 2) := by decide +kernel
theorem dX4_turnedBy_92 : decode cX4_turnedBy 92 = .ok (.ireturn, 1) := by decide +kernel
theorem dX4_camOf_0 : decode cX4_camOf 0 = .ok (.aload_n 0, 1) := by decide +kernel
theorem dX4_camOf_1 : decode cX4_camOf 1 = .ok (.iload_n 1, 1) := by decide +kernel
theorem dX4_camOf_2 : decode cX4_camOf 2 = .ok (.invokevirtual 87, 3) := by decide +kernel
theorem dX4_camOf_5 : decode cX4_camOf 5 = .ok (.istore_n 3, 1) := by decide +kernel
theorem dX4_camOf_6 : decode cX4_camOf 6 = .ok (.iload_n 3, 1) := by decide +kernel
theorem dX4_camOf_7 : decode cX4_camOf 7 = .ok (.ifCond .ge 9, 3) := by decide +kernel
theorem dX4_camOf_10 : decode cX4_camOf 10 = .ok (.aload_n 0, 1) := by decide +kernel
theorem dX4_camOf_11 : decode cX4_camOf 11 = .ok (.iload_n 3, 1) := by decide +kernel
theorem dX4_camOf_12 : decode cX4_camOf 12 = .ok (.invokevirtual 79, 3) := by decide +kernel
theorem dX4_camOf_15 : decode cX4_camOf 15 = .ok (.ireturn, 1) := by decide +kernel
theorem dX4_camOf_16 : decode cX4_camOf 16 = .ok (.iload_n 2, 1) := by decide +kernel
theorem dX4_camOf_17 : decode cX4_camOf 17 = .ok (.iconst 0, 1) := by decide +kernel
theorem dX4_camOf_18 : decode cX4_camOf 18 = .ok (.iconst 2, 1) := by decide +kernel
theorem dX4_camOf_19 : decode cX4_camOf 19 = .ok (.invokestatic 75, 3) := by decide +kernel
theorem dX4_camOf_22 : decode cX4_camOf 22 = .ok (.ifCond .ne 10, 3) := by decide +kernel
theorem dX4_camOf_25 : decode cX4_camOf 25 = .ok (.aload_n 0, 1) := by decide +kernel
theorem dX4_camOf_26 : decode cX4_camOf 26 = .ok (.bipush (-2), 2) := by decide +kernel
theorem dX4_camOf_28 : decode cX4_camOf 28 = .ok (.invokevirtual 79, 3) := by decide +kernel
theorem dX4_camOf_31 : decode cX4_camOf 31 = .ok (.ireturn, 1) := by decide +kernel
theorem dX4_camOf_32 : decode cX4_camOf 32 = .ok (.aload_n 0, 1) := by decide +kernel
theorem dX4_camOf_33 : decode cX4_camOf 33 = .ok (.invokevirtual 94, 3) := by decide +kernel
theorem dX4_camOf_36 : decode cX4_camOf 36 = .ok (.istore 4, 2) := by decide +kernel
theorem dX4_camOf_38 : decode cX4_camOf 38 = .ok (.iload_n 2, 1) := by decide +kernel
theorem dX4_camOf_39 : decode cX4_camOf 39 = .ok (.ifCond .ne 12, 3) := by decide +kernel
theorem dX4_camOf_42 : decode cX4_camOf 42 = .ok (.aload_n 0, 1) := by decide +kernel
theorem dX4_camOf_43 : decode cX4_camOf 43 = .ok (.getfield 63, 3) := by decide +kernel
theorem dX4_camOf_46 : decode cX4_camOf 46 = .ok (.iload_n 1, 1) := by decide +kernel
theorem dX4_camOf_47 : decode cX4_camOf 47 = .ok (.iaload, 1) := by decide +kernel
theorem dX4_camOf_48 : decode cX4_camOf 48 = .ok (.goto 27, 3) := by decide +kernel
theorem dX4_camOf_51 : decode cX4_camOf 51 = .ok (.iload_n 2, 1) := by decide +kernel
theorem dX4_camOf_52 : decode cX4_camOf 52 = .ok (.iconst 1, 1) := by decide +kernel
theorem dX4_camOf_53 : decode cX4_camOf 53 = .ok (.if_icmp .ne 17, 3) := by decide +kernel
theorem dX4_camOf_56 : decode cX4_camOf 56 = .ok (.aload_n 0, 1) := by decide +kernel
theorem dX4_camOf_57 : decode cX4_camOf 57 = .ok (.aload_n 0, 1) := by decide +kernel
theorem dX4_camOf_58 : decode cX4_camOf 58 = .ok (.getfield 60, 3) := by decide +kernel
theorem dX4_camOf_61 : decode cX4_camOf 61 = .ok (.iload_n 1, 1) := by decide +kernel
theorem dX4_camOf_62 : decode cX4_camOf 62 = .ok (.iaload, 1) := by decide +kernel
theorem dX4_camOf_63 : decode cX4_camOf 63 = .ok (.iload_n 1, 1) := by decide +kernel
theorem dX4_camOf_64 : decode cX4_camOf 64 = .ok (.invokevirtual 90, 3) := by decide +kernel
theorem dX4_camOf_67 : decode cX4_camOf 67 = .ok (.goto 8, 3) := by decide +kernel
theorem dX4_camOf_70 : decode cX4_camOf 70 = .ok (.aload_n 0, 1) := by decide +kernel
theorem dX4_camOf_71 : decode cX4_camOf 71 = .ok (.iload_n 1, 1) := by decide +kernel
theorem dX4_camOf_72 : decode cX4_camOf 72 = .ok (.invokevirtual 98, 3) := by decide +kernel
theorem dX4_camOf_75 : decode cX4_camOf 75 = .ok (.ireturn, 1) := by decide +kernel
theorem dX4_smoothOf_0 : decode cX4_smoothOf 0 = .ok (.iconst 0, 1) := by decide +kernel
theorem dX4_smoothOf_1 : decode cX4_smoothOf 1 = .ok (.istore_n 2, 1) := by decide +kernel
theorem dX4_smoothOf_2 : decode cX4_smoothOf 2 = .ok (.iconst 0, 1) := by decide +kernel
theorem dX4_smoothOf_3 : decode cX4_smoothOf 3 = .ok (.istore_n 3, 1) := by decide +kernel
theorem dX4_smoothOf_4 : decode cX4_smoothOf 4 = .ok (.iload_n 3, 1) := by decide +kernel
theorem dX4_smoothOf_5 : decode cX4_smoothOf 5 = .ok (.aload_n 0, 1) := by decide +kernel
theorem dX4_smoothOf_6 : decode cX4_smoothOf 6 = .ok (.getfield 7, 3) := by decide +kernel
theorem dX4_smoothOf_9 : decode cX4_smoothOf 9 = .ok (.if_icmp .ge 69, 3) := by decide +kernel
theorem dX4_smoothOf_12 : decode cX4_smoothOf 12 = .ok (.aload_n 0, 1) := by decide +kernel
theorem dX4_smoothOf_13 : decode cX4_smoothOf 13 = .ok (.getfield 17, 3) := by decide +kernel
theorem dX4_smoothOf_16 : decode cX4_smoothOf 16 = .ok (.bipush 16, 2) := by decide +kernel
theorem dX4_smoothOf_18 : decode cX4_smoothOf 18 = .ok (.iload_n 1, 1) := by decide +kernel
theorem dX4_smoothOf_19 : decode cX4_smoothOf 19 = .ok (.imul, 1) := by decide +kernel
theorem dX4_smoothOf_20 : decode cX4_smoothOf 20 = .ok (.iload_n 3, 1) := by decide +kernel
theorem dX4_smoothOf_21 : decode cX4_smoothOf 21 = .ok (.iadd, 1) := by decide +kernel
theorem dX4_smoothOf_22 : decode cX4_smoothOf 22 = .ok (.iaload, 1) := by decide +kernel
theorem dX4_smoothOf_23 : decode cX4_smoothOf 23 = .ok (.aload_n 0, 1) := by decide +kernel
theorem dX4_smoothOf_24 : decode cX4_smoothOf 24 = .ok (.getfield 17, 3) := by decide +kernel
theorem dX4_smoothOf_27 : decode cX4_smoothOf 27 = .ok (.bipush 16, 2) := by decide +kernel
theorem dX4_smoothOf_29 : decode cX4_smoothOf 29 = .ok (.iload_n 1, 1) := by decide +kernel
theorem dX4_smoothOf_30 : decode cX4_smoothOf 30 = .ok (.imul, 1) := by decide +kernel
theorem dX4_smoothOf_31 : decode cX4_smoothOf 31 = .ok (.iload_n 3, 1) := by decide +kernel
theorem dX4_smoothOf_32 : decode cX4_smoothOf 32 = .ok (.iconst 1, 1) := by decide +kernel
theorem dX4_smoothOf_33 : decode cX4_smoothOf 33 = .ok (.iadd, 1) := by decide +kernel
theorem dX4_smoothOf_34 : decode cX4_smoothOf 34 = .ok (.aload_n 0, 1) := by decide +kernel
theorem dX4_smoothOf_35 : decode cX4_smoothOf 35 = .ok (.getfield 7, 3) := by decide +kernel
theorem dX4_smoothOf_38 : decode cX4_smoothOf 38 = .ok (.irem, 1) := by decide +kernel
theorem dX4_smoothOf_39 : decode cX4_smoothOf 39 = .ok (.iadd, 1) := by decide +kernel
theorem dX4_smoothOf_40 : decode cX4_smoothOf 40 = .ok (.iaload, 1) := by decide +kernel
theorem dX4_smoothOf_41 : decode cX4_smoothOf 41 = .ok (.isub, 1) := by decide +kernel
theorem dX4_smoothOf_42 : decode cX4_smoothOf 42 = .ok (.istore 4, 2) := by decide +kernel
theorem dX4_smoothOf_44 : decode cX4_smoothOf 44 = .ok (.iload 4, 2) := by decide +kernel
theorem dX4_smoothOf_46 : decode cX4_smoothOf 46 = .ok (.ifCond .ge 9, 3) := by decide +kernel
theorem dX4_smoothOf_49 : decode cX4_smoothOf 49 = .ok (.iload 4, 2) := by decide +kernel
theorem dX4_smoothOf_51 : decode cX4_smoothOf 51 = .ok (.ineg, 1) := by decide +kernel
theorem dX4_smoothOf_52 : decode cX4_smoothOf 52 = .ok (.goto 5, 3) := by decide +kernel
theorem dX4_smoothOf_55 : decode cX4_smoothOf 55 = .ok (.iload 4, 2) := by decide +kernel
theorem dX4_smoothOf_57 : decode cX4_smoothOf 57 = .ok (.istore 4, 2) := by decide +kernel
theorem dX4_smoothOf_59 : decode cX4_smoothOf 59 = .ok (.iload 4, 2) := by decide +kernel
theorem dX4_smoothOf_61 : decode cX4_smoothOf 61 = .ok (.iload_n 2, 1) := by decide +kernel
theorem dX4_smoothOf_62 : decode cX4_smoothOf 62 = .ok (.if_icmp .le 8, 3) := by decide +kernel
theorem dX4_smoothOf_65 : decode cX4_smoothOf 65 = .ok (.iload 4, 2) := by decide +kernel
theorem dX4_smoothOf_67 : decode cX4_smoothOf 67 = .ok (.goto 4, 3) := by decide +kernel
theorem dX4_smoothOf_70 : decode cX4_smoothOf 70 = .ok (.iload_n 2, 1) := by decide +kernel
theorem dX4_smoothOf_71 : decode cX4_smoothOf 71 = .ok (.istore_n 2, 1) := by decide +kernel
theorem dX4_smoothOf_72 : decode cX4_smoothOf 72 = .ok (.iinc 3 1, 3) := by decide +kernel
theorem dX4_smoothOf_75 : decode cX4_smoothOf 75 = .ok (.goto (-71), 3) := by decide +kernel
theorem dX4_smoothOf_78 : decode cX4_smoothOf 78 = .ok (.iload_n 2, 1) := by decide +kernel
theorem dX4_smoothOf_79 : decode cX4_smoothOf 79 = .ok (.ireturn, 1) := by decide +kernel
theorem dX4_letter_0 : decode cX4_letter 0 = .ok (.iload_n 1, 1) := by decide +kernel
theorem dX4_letter_1 : decode cX4_letter 1 = .ok (.iconst 0, 1) := by decide +kernel
theorem dX4_letter_2 : decode cX4_letter 2 = .ok (.bipush 9, 2) := by decide +kernel
theorem dX4_letter_4 : decode cX4_letter 4 = .ok (.invokestatic 75, 3) := by decide +kernel
theorem dX4_letter_7 : decode cX4_letter 7 = .ok (.ifCond .eq 25, 3) := by decide +kernel
theorem dX4_letter_10 : decode cX4_letter 10 = .ok (.iload_n 2, 1) := by decide +kernel
theorem dX4_letter_11 : decode cX4_letter 11 = .ok (.invokestatic 83, 3) := by decide +kernel
theorem dX4_letter_14 : decode cX4_letter 14 = .ok (.ifCond .eq 18, 3) := by decide +kernel
theorem dX4_letter_17 : decode cX4_letter 17 = .ok (.iload_n 3, 1) := by decide +kernel
theorem dX4_letter_18 : decode cX4_letter 18 = .ok (.invokestatic 83, 3) := by decide +kernel
theorem dX4_letter_21 : decode cX4_letter 21 = .ok (.ifCond .eq 11, 3) := by decide +kernel
theorem dX4_letter_24 : decode cX4_letter 24 = .ok (.iload 4, 2) := by decide +kernel
theorem dX4_letter_26 : decode cX4_letter 26 = .ok (.invokestatic 83, 3) := by decide +kernel
theorem dX4_letter_29 : decode cX4_letter 29 = .ok (.ifCond .ne 9, 3) := by decide +kernel
theorem dX4_letter_32 : decode cX4_letter 32 = .ok (.aload_n 0, 1) := by decide +kernel
theorem dX4_letter_33 : decode cX4_letter 33 = .ok (.iconst (-1), 1) := by decide +kernel
theorem dX4_letter_34 : decode cX4_letter 34 = .ok (.invokevirtual 79, 3) := by decide +kernel
theorem dX4_letter_37 : decode cX4_letter 37 = .ok (.ireturn, 1) := by decide +kernel
theorem dX4_letter_38 : decode cX4_letter 38 = .ok (.aload_n 0, 1) := by decide +kernel
theorem dX4_letter_39 : decode cX4_letter 39 = .ok (.getfield 21, 3) := by decide +kernel
theorem dX4_letter_42 : decode cX4_letter 42 = .ok (.iload_n 1, 1) := by decide +kernel
theorem dX4_letter_43 : decode cX4_letter 43 = .ok (.iload_n 2, 1) := by decide +kernel
theorem dX4_letter_44 : decode cX4_letter 44 = .ok (.iastore, 1) := by decide +kernel
theorem dX4_letter_45 : decode cX4_letter 45 = .ok (.aload_n 0, 1) := by decide +kernel
theorem dX4_letter_46 : decode cX4_letter 46 = .ok (.getfield 24, 3) := by decide +kernel
theorem dX4_letter_49 : decode cX4_letter 49 = .ok (.iload_n 1, 1) := by decide +kernel
theorem dX4_letter_50 : decode cX4_letter 50 = .ok (.iload_n 3, 1) := by decide +kernel
theorem dX4_letter_51 : decode cX4_letter 51 = .ok (.iastore, 1) := by decide +kernel
theorem dX4_letter_52 : decode cX4_letter 52 = .ok (.aload_n 0, 1) := by decide +kernel
theorem dX4_letter_53 : decode cX4_letter 53 = .ok (.getfield 27, 3) := by decide +kernel
theorem dX4_letter_56 : decode cX4_letter 56 = .ok (.iload_n 1, 1) := by decide +kernel
theorem dX4_letter_57 : decode cX4_letter 57 = .ok (.iload 4, 2) := by decide +kernel
theorem dX4_letter_59 : decode cX4_letter 59 = .ok (.iastore, 1) := by decide +kernel
theorem dX4_letter_60 : decode cX4_letter 60 = .ok (.iconst 1, 1) := by decide +kernel
theorem dX4_letter_61 : decode cX4_letter 61 = .ok (.ireturn, 1) := by decide +kernel
theorem dX4_isCut_0 : decode cX4_isCut 0 = .ok (.iload_n 1, 1) := by decide +kernel
theorem dX4_isCut_1 : decode cX4_isCut 1 = .ok (.iconst 0, 1) := by decide +kernel
theorem dX4_isCut_2 : decode cX4_isCut 2 = .ok (.bipush 9, 2) := by decide +kernel
theorem dX4_isCut_4 : decode cX4_isCut 4 = .ok (.invokestatic 75, 3) := by decide +kernel
theorem dX4_isCut_7 : decode cX4_isCut 7 = .ok (.ifCond .eq 19, 3) := by decide +kernel
theorem dX4_isCut_10 : decode cX4_isCut 10 = .ok (.aload_n 0, 1) := by decide +kernel
theorem dX4_isCut_11 : decode cX4_isCut 11 = .ok (.iload_n 1, 1) := by decide +kernel
theorem dX4_isCut_12 : decode cX4_isCut 12 = .ok (.invokevirtual 101, 3) := by decide +kernel
theorem dX4_isCut_15 : decode cX4_isCut 15 = .ok (.ifCond .eq 7, 3) := by decide +kernel
theorem dX4_isCut_18 : decode cX4_isCut 18 = .ok (.iconst 1, 1) := by decide +kernel
theorem dX4_isCut_19 : decode cX4_isCut 19 = .ok (.goto 12, 3) := by decide +kernel
theorem dX4_isCut_22 : decode cX4_isCut 22 = .ok (.iconst 0, 1) := by decide +kernel
theorem dX4_isCut_23 : decode cX4_isCut 23 = .ok (.goto 8, 3) := by decide +kernel
theorem dX4_isCut_26 : decode cX4_isCut 26 = .ok (.aload_n 0, 1) := by decide +kernel
theorem dX4_isCut_27 : decode cX4_isCut 27 = .ok (.iconst (-1), 1) := by decide +kernel
theorem dX4_isCut_28 : decode cX4_isCut 28 = .ok (.invokevirtual 79, 3) := by decide +kernel
theorem dX4_isCut_31 : decode cX4_isCut 31 = .ok (.ireturn, 1) := by decide +kernel
theorem dX4_isCutLetter_0 : decode cX4_isCutLetter 0 = .ok (.aload_n 0, 1) := by decide +kernel
theorem dX4_isCutLetter_1 : decode cX4_isCutLetter 1 = .ok (.getfield 13, 3) := by decide +kernel
theorem dX4_isCutLetter_4 : decode cX4_isCutLetter 4 = .ok (.aload_n 0, 1) := by decide +kernel
theorem dX4_isCutLetter_5 : decode cX4_isCutLetter 5 = .ok (.getfield 21, 3) := by decide +kernel
theorem dX4_isCutLetter_8 : decode cX4_isCutLetter 8 = .ok (.iload_n 1, 1) := by decide +kernel
theorem dX4_isCutLetter_9 : decode cX4_isCutLetter 9 = .ok (.iaload, 1) := by decide +kernel
theorem dX4_isCutLetter_10 : decode cX4_isCutLetter 10 = .ok (.baload, 1) := by decide +kernel
theorem dX4_isCutLetter_11 : decode cX4_isCutLetter 11 = .ok (.ifCond .eq 35, 3) := by decide +kernel
theorem dX4_isCutLetter_14 : decode cX4_isCutLetter 14 = .ok (.aload_n 0, 1) := by decide +kernel
theorem dX4_isCutLetter_15 : decode cX4_isCutLetter 15 = .ok (.getfield 13, 3) := by decide +kernel
theorem dX4_isCutLetter_18 : decode cX4_isCutLetter 18 = .ok (.aload_n 0, 1) := by decide +kernel
theorem dX4_isCutLetter_19 : decode cX4_isCutLetter 19 = .ok (.getfield 24, 3) := by decide +kernel
theorem dX4_isCutLetter_22 : decode cX4_isCutLetter 22 = .ok (.iload_n 1, 1) := by decide +kernel
theorem dX4_isCutLetter_23 : decode cX4_isCutLetter 23 = .ok (.iaload, 1) := by decide +kernel
theorem dX4_isCutLetter_24 : decode cX4_isCutLetter 24 = .ok (.baload, 1) := by decide +kernel
theorem dX4_isCutLetter_25 : decode cX4_isCutLetter 25 = .ok (.ifCond .eq 21, 3) := by decide +kernel
theorem dX4_isCutLetter_28 : decode cX4_isCutLetter 28 = .ok (.aload_n 0, 1) := by decide +kernel
theorem dX4_isCutLetter_29 : decode cX4_isCutLetter 29 = .ok (.getfield 13, 3) := by decide +kernel
theorem dX4_isCutLetter_32 : decode cX4_isCutLetter 32 = .ok (.aload_n 0, 1) := by decide +kernel
theorem dX4_isCutLetter_33 : decode cX4_isCutLetter 33 = .ok (.getfield 27, 3) := by decide +kernel
theorem dX4_isCutLetter_36 : decode cX4_isCutLetter 36 = .ok (.iload_n 1, 1) := by decide +kernel
theorem dX4_isCutLetter_37 : decode cX4_isCutLetter 37 = .ok (.iaload, 1) := by decide +kernel
theorem dX4_isCutLetter_38 : decode cX4_isCutLetter 38 = .ok (.baload, 1) := by decide +kernel
theorem dX4_isCutLetter_39 : decode cX4_isCutLetter 39 = .ok (.ifCond .eq 7, 3) := by decide +kernel
theorem dX4_isCutLetter_42 : decode cX4_isCutLetter 42 = .ok (.iconst 1, 1) := by decide +kernel
theorem dX4_isCutLetter_43 : decode cX4_isCutLetter 43 = .ok (.goto 4, 3) := by decide +kernel
theorem dX4_isCutLetter_46 : decode cX4_isCutLetter 46 = .ok (.iconst 0, 1) := by decide +kernel
theorem dX4_isCutLetter_47 : decode cX4_isCutLetter 47 = .ok (.ireturn, 1) := by decide +kernel
theorem dX4_peg_0 : decode cX4_peg 0 = .ok (.iload_n 1, 1) := by decide +kernel
theorem dX4_peg_1 : decode cX4_peg 1 = .ok (.iconst 0, 1) := by decide +kernel
theorem dX4_peg_2 : decode cX4_peg 2 = .ok (.bipush 9, 2) := by decide +kernel
theorem dX4_peg_4 : decode cX4_peg 4 = .ok (.invokestatic 75, 3) := by decide +kernel
theorem dX4_peg_7 : decode cX4_peg 7 = .ok (.ifCond .ne 9, 3) := by decide +kernel
theorem dX4_peg_10 : decode cX4_peg 10 = .ok (.aload_n 0, 1) := by decide +kernel
theorem dX4_peg_11 : decode cX4_peg 11 = .ok (.iconst (-1), 1) := by decide +kernel
theorem dX4_peg_12 : decode cX4_peg 12 = .ok (.invokevirtual 79, 3) := by decide +kernel
theorem dX4_peg_15 : decode cX4_peg 15 = .ok (.ireturn, 1) := by decide +kernel
theorem dX4_peg_16 : decode cX4_peg 16 = .ok (.aload_n 0, 1) := by decide +kernel
theorem dX4_peg_17 : decode cX4_peg 17 = .ok (.getfield 104, 3) := by decide +kernel
theorem dX4_peg_20 : decode cX4_peg 20 = .ok (.bipush 12, 2) := by decide +kernel
theorem dX4_peg_22 : decode cX4_peg 22 = .ok (.if_icmp .ne 10, 3) := by decide +kernel
theorem dX4_peg_25 : decode cX4_peg 25 = .ok (.aload_n 0, 1) := by decide +kernel
theorem dX4_peg_26 : decode cX4_peg 26 = .ok (.bipush (-6), 2) := by decide +kernel
theorem dX4_peg_28 : decode cX4_peg 28 = .ok (.invokevirtual 79, 3) := by decide +kernel
theorem dX4_peg_31 : decode cX4_peg 31 = .ok (.ireturn, 1) := by decide +kernel
theorem dX4_peg_32 : decode cX4_peg 32 = .ok (.aload_n 0, 1) := by decide +kernel
theorem dX4_peg_33 : decode cX4_peg 33 = .ok (.getfield 30, 3) := by decide +kernel
theorem dX4_peg_36 : decode cX4_peg 36 = .ok (.aload_n 0, 1) := by decide +kernel
theorem dX4_peg_37 : decode cX4_peg 37 = .ok (.getfield 104, 3) := by decide +kernel
theorem dX4_peg_40 : decode cX4_peg 40 = .ok (.iload_n 1, 1) := by decide +kernel
theorem dX4_peg_41 : decode cX4_peg 41 = .ok (.iastore, 1) := by decide +kernel
theorem dX4_peg_42 : decode cX4_peg 42 = .ok (.aload_n 0, 1) := by decide +kernel
theorem dX4_peg_43 : decode cX4_peg 43 = .ok (.dup, 1) := by decide +kernel
theorem dX4_peg_44 : decode cX4_peg 44 = .ok (.getfield 104, 3) := by decide +kernel
theorem dX4_peg_47 : decode cX4_peg 47 = .ok (.iconst 1, 1) := by decide +kernel
theorem dX4_peg_48 : decode cX4_peg 48 = .ok (.iadd, 1) := by decide +kernel
theorem dX4_peg_49 : decode cX4_peg 49 = .ok (.putfield 104, 3) := by decide +kernel
theorem dX4_peg_52 : decode cX4_peg 52 = .ok (.aload_n 0, 1) := by decide +kernel
theorem dX4_peg_53 : decode cX4_peg 53 = .ok (.getfield 104, 3) := by decide +kernel
theorem dX4_peg_56 : decode cX4_peg 56 = .ok (.ireturn, 1) := by decide +kernel
theorem dX4_unpeg_0 : decode cX4_unpeg 0 = .ok (.aload_n 0, 1) := by decide +kernel
theorem dX4_unpeg_1 : decode cX4_unpeg 1 = .ok (.getfield 104, 3) := by decide +kernel
theorem dX4_unpeg_4 : decode cX4_unpeg 4 = .ok (.ifCond .ne 10, 3) := by decide +kernel
theorem dX4_unpeg_7 : decode cX4_unpeg 7 = .ok (.aload_n 0, 1) := by decide +kernel
theorem dX4_unpeg_8 : decode cX4_unpeg 8 = .ok (.bipush (-3), 2) := by decide +kernel
theorem dX4_unpeg_10 : decode cX4_unpeg 10 = .ok (.invokevirtual 79, 3) := by decide +kernel
theorem dX4_unpeg_13 : decode cX4_unpeg 13 = .ok (.ireturn, 1) := by decide +kernel
theorem dX4_unpeg_14 : decode cX4_unpeg 14 = .ok (.aload_n 0, 1) := by decide +kernel
theorem dX4_unpeg_15 : decode cX4_unpeg 15 = .ok (.dup, 1) := by decide +kernel
theorem dX4_unpeg_16 : decode cX4_unpeg 16 = .ok (.getfield 104, 3) := by decide +kernel
theorem dX4_unpeg_19 : decode cX4_unpeg 19 = .ok (.iconst 1, 1) := by decide +kernel
theorem dX4_unpeg_20 : decode cX4_unpeg 20 = .ok (.isub, 1) := by decide +kernel
theorem dX4_unpeg_21 : decode cX4_unpeg 21 = .ok (.putfield 104, 3) := by decide +kernel
theorem dX4_unpeg_24 : decode cX4_unpeg 24 = .ok (.aload_n 0, 1) := by decide +kernel
theorem dX4_unpeg_25 : decode cX4_unpeg 25 = .ok (.getfield 104, 3) := by decide +kernel
theorem dX4_unpeg_28 : decode cX4_unpeg 28 = .ok (.ireturn, 1) := by decide +kernel
theorem dX4_advance_0 : decode cX4_advance 0 = .ok (.iload_n 1, 1) := by decide +kernel
theorem dX4_advance_1 : decode cX4_advance 1 = .ok (.ifCond .ge 10, 3) := by decide +kernel
theorem dX4_advance_4 : decode cX4_advance 4 = .ok (.aload_n 0, 1) := by decide +kernel
theorem dX4_advance_5 : decode cX4_advance 5 = .ok (.bipush (-4), 2) := by decide +kernel
theorem dX4_advance_7 : decode cX4_advance 7 = .ok (.invokevirtual 79, 3) := by decide +kernel
theorem dX4_advance_10 : decode cX4_advance 10 = .ok (.ireturn, 1) := by decide +kernel
theorem dX4_advance_11 : decode cX4_advance 11 = .ok (.iload_n 1, 1) := by decide +kernel
theorem dX4_advance_12 : decode cX4_advance 12 = .ok (.bipush 9, 2) := by decide +kernel
theorem dX4_advance_14 : decode cX4_advance 14 = .ok (.if_icmp .le 10, 3) := by decide +kernel
theorem dX4_advance_17 : decode cX4_advance 17 = .ok (.aload_n 0, 1) := by decide +kernel
theorem dX4_advance_18 : decode cX4_advance 18 = .ok (.bipush (-6), 2) := by decide +kernel
theorem dX4_advance_20 : decode cX4_advance 20 = .ok (.invokevirtual 79, 3) := by decide +kernel
theorem dX4_advance_23 : decode cX4_advance 23 = .ok (.ireturn, 1) := by decide +kernel
theorem dX4_advance_24 : decode cX4_advance 24 = .ok (.aload_n 0, 1) := by decide +kernel
theorem dX4_advance_25 : decode cX4_advance 25 = .ok (.getfield 33, 3) := by decide +kernel
theorem dX4_advance_28 : decode cX4_advance 28 = .ok (.istore_n 2, 1) := by decide +kernel
theorem dX4_advance_29 : decode cX4_advance 29 = .ok (.aload_n 0, 1) := by decide +kernel
theorem dX4_advance_30 : decode cX4_advance 30 = .ok (.iload_n 1, 1) := by decide +kernel
theorem dX4_advance_31 : decode cX4_advance 31 = .ok (.putfield 33, 3) := by decide +kernel
theorem dX4_advance_34 : decode cX4_advance 34 = .ok (.iload_n 2, 1) := by decide +kernel
theorem dX4_advance_35 : decode cX4_advance 35 = .ok (.ireturn, 1) := by decide +kernel
theorem dX4_pull_0 : decode cX4_pull 0 = .ok (.iload_n 1, 1) := by decide +kernel
theorem dX4_pull_1 : decode cX4_pull 1 = .ok (.iconst 1, 1) := by decide +kernel
theorem dX4_pull_2 : decode cX4_pull 2 = .ok (.if_icmp .ge 10, 3) := by decide +kernel
theorem dX4_pull_5 : decode cX4_pull 5 = .ok (.aload_n 0, 1) := by decide +kernel
theorem dX4_pull_6 : decode cX4_pull 6 = .ok (.bipush (-4), 2) := by decide +kernel
theorem dX4_pull_8 : decode cX4_pull 8 = .ok (.invokevirtual 79, 3) := by decide +kernel
theorem dX4_pull_11 : decode cX4_pull 11 = .ok (.ireturn, 1) := by decide +kernel
theorem dX4_pull_12 : decode cX4_pull 12 = .ok (.iload_n 1, 1) := by decide +kernel
theorem dX4_pull_13 : decode cX4_pull 13 = .ok (.bipush 20, 2) := by decide +kernel
theorem dX4_pull_15 : decode cX4_pull 15 = .ok (.if_icmp .le 10, 3) := by decide +kernel
theorem dX4_pull_18 : decode cX4_pull 18 = .ok (.aload_n 0, 1) := by decide +kernel
theorem dX4_pull_19 : decode cX4_pull 19 = .ok (.bipush (-6), 2) := by decide +kernel
theorem dX4_pull_21 : decode cX4_pull 21 = .ok (.invokevirtual 79, 3) := by decide +kernel
theorem dX4_pull_24 : decode cX4_pull 24 = .ok (.ireturn, 1) := by decide +kernel
theorem dX4_pull_25 : decode cX4_pull 25 = .ok (.aload_n 0, 1) := by decide +kernel
theorem dX4_pull_26 : decode cX4_pull 26 = .ok (.getfield 36, 3) := by decide +kernel
theorem dX4_pull_29 : decode cX4_pull 29 = .ok (.istore_n 2, 1) := by decide +kernel
theorem dX4_pull_30 : decode cX4_pull 30 = .ok (.aload_n 0, 1) := by decide +kernel
theorem dX4_pull_31 : decode cX4_pull 31 = .ok (.iload_n 1, 1) := by decide +kernel
theorem dX4_pull_32 : decode cX4_pull 32 = .ok (.putfield 36, 3) := by decide +kernel
theorem dX4_pull_35 : decode cX4_pull 35 = .ok (.iload_n 2, 1) := by decide +kernel
theorem dX4_pull_36 : decode cX4_pull 36 = .ok (.ireturn, 1) := by decide +kernel
theorem dX4_wind_0 : decode cX4_wind 0 = .ok (.iload_n 1, 1) := by decide +kernel
theorem dX4_wind_1 : decode cX4_wind 1 = .ok (.ifCond .ge 10, 3) := by decide +kernel
theorem dX4_wind_4 : decode cX4_wind 4 = .ok (.aload_n 0, 1) := by decide +kernel
theorem dX4_wind_5 : decode cX4_wind 5 = .ok (.bipush (-4), 2) := by decide +kernel
theorem dX4_wind_7 : decode cX4_wind 7 = .ok (.invokevirtual 79, 3) := by decide +kernel
theorem dX4_wind_10 : decode cX4_wind 10 = .ok (.ireturn, 1) := by decide +kernel
theorem dX4_wind_11 : decode cX4_wind 11 = .ok (.iload_n 1, 1) := by decide +kernel
theorem dX4_wind_12 : decode cX4_wind 12 = .ok (.sipush 5000, 3) := by decide +kernel
theorem dX4_wind_15 : decode cX4_wind 15 = .ok (.if_icmp .le 10, 3) := by decide +kernel
theorem dX4_wind_18 : decode cX4_wind 18 = .ok (.aload_n 0, 1) := by decide +kernel
theorem dX4_wind_19 : decode cX4_wind 19 = .ok (.bipush (-6), 2) := by decide +kernel
theorem dX4_wind_21 : decode cX4_wind 21 = .ok (.invokevirtual 79, 3) := by decide +kernel
theorem dX4_wind_24 : decode cX4_wind 24 = .ok (.ireturn, 1) := by decide +kernel
theorem dX4_wind_25 : decode cX4_wind 25 = .ok (.aload_n 0, 1) := by decide +kernel
theorem dX4_wind_26 : decode cX4_wind 26 = .ok (.dup, 1) := by decide +kernel
theorem dX4_wind_27 : decode cX4_wind 27 = .ok (.getfield 107, 3) := by decide +kernel
theorem dX4_wind_30 : decode cX4_wind 30 = .ok (.iload_n 1, 1) := by decide +kernel
theorem dX4_wind_31 : decode cX4_wind 31 = .ok (.sipush 1000, 3) := by decide +kernel
theorem dX4_wind_34 : decode cX4_wind 34 = .ok (.aload_n 0, 1) := by decide +kernel
theorem dX4_wind_35 : decode cX4_wind 35 = .ok (.getfield 110, 3) := by decide +kernel
theorem dX4_wind_38 : decode cX4_wind 38 = .ok (.isub, 1) := by decide +kernel
theorem dX4_wind_39 : decode cX4_wind 39 = .ok (.if_icmp .le 7, 3) := by decide +kernel
theorem dX4_wind_42 : decode cX4_wind 42 = .ok (.iconst 1, 1) := by decide +kernel
theorem dX4_wind_43 : decode cX4_wind 43 = .ok (.goto 4, 3) := by decide +kernel
theorem dX4_wind_46 : decode cX4_wind 46 = .ok (.iconst 0, 1) := by decide +kernel
theorem dX4_wind_47 : decode cX4_wind 47 = .ok (.iadd, 1) := by decide +kernel
theorem dX4_wind_48 : decode cX4_wind 48 = .ok (.putfield 107, 3) := by decide +kernel
theorem dX4_wind_51 : decode cX4_wind 51 = .ok (.aload_n 0, 1) := by decide +kernel
theorem dX4_wind_52 : decode cX4_wind 52 = .ok (.iload_n 1, 1) := by decide +kernel
theorem dX4_wind_53 : decode cX4_wind 53 = .ok (.sipush 1000, 3) := by decide +kernel
theorem dX4_wind_56 : decode cX4_wind 56 = .ok (.aload_n 0, 1) := by decide +kernel
theorem dX4_wind_57 : decode cX4_wind 57 = .ok (.getfield 110, 3) := by decide +kernel
theorem dX4_wind_60 : decode cX4_wind 60 = .ok (.isub, 1) := by decide +kernel
theorem dX4_wind_61 : decode cX4_wind 61 = .ok (.if_icmp .le 9, 3) := by decide +kernel
theorem dX4_wind_64 : decode cX4_wind 64 = .ok (.sipush 1000, 3) := by decide +kernel
theorem dX4_wind_67 : decode cX4_wind 67 = .ok (.goto 9, 3) := by decide +kernel
theorem dX4_wind_70 : decode cX4_wind 70 = .ok (.aload_n 0, 1) := by decide +kernel
theorem dX4_wind_71 : decode cX4_wind 71 = .ok (.getfield 110, 3) := by decide +kernel
theorem dX4_wind_74 : decode cX4_wind 74 = .ok (.iload_n 1, 1) := by decide +kernel
theorem dX4_wind_75 : decode cX4_wind 75 = .ok (.iadd, 1) := by decide +kernel
theorem dX4_wind_76 : decode cX4_wind 76 = .ok (.putfield 110, 3) := by decide +kernel
theorem dX4_wind_79 : decode cX4_wind 79 = .ok (.aload_n 0, 1) := by decide +kernel
theorem dX4_wind_80 : decode cX4_wind 80 = .ok (.getfield 110, 3) := by decide +kernel
theorem dX4_wind_83 : decode cX4_wind 83 = .ok (.ireturn, 1) := by decide +kernel
theorem dX4_show_0 : decode cX4_show 0 = .ok (.aload_n 0, 1) := by decide +kernel
theorem dX4_show_1 : decode cX4_show 1 = .ok (.invokevirtual 142, 3) := by decide +kernel
theorem dX4_show_4 : decode cX4_show 4 = .ok (.ifCond .ne 10, 3) := by decide +kernel
theorem dX4_show_7 : decode cX4_show 7 = .ok (.aload_n 0, 1) := by decide +kernel
theorem dX4_show_8 : decode cX4_show 8 = .ok (.bipush (-3), 2) := by decide +kernel
theorem dX4_show_10 : decode cX4_show 10 = .ok (.invokevirtual 79, 3) := by decide +kernel
theorem dX4_show_13 : decode cX4_show 13 = .ok (.ireturn, 1) := by decide +kernel
theorem dX4_show_14 : decode cX4_show 14 = .ok (.aload_n 0, 1) := by decide +kernel
theorem dX4_show_15 : decode cX4_show 15 = .ok (.aload_n 0, 1) := by decide +kernel
theorem dX4_show_16 : decode cX4_show 16 = .ok (.getfield 45, 3) := by decide +kernel
theorem dX4_show_19 : decode cX4_show 19 = .ok (.iconst 1, 1) := by decide +kernel
theorem dX4_show_20 : decode cX4_show 20 = .ok (.iaload, 1) := by decide +kernel
theorem dX4_show_21 : decode cX4_show 21 = .ok (.aload_n 0, 1) := by decide +kernel
theorem dX4_show_22 : decode cX4_show 22 = .ok (.getfield 45, 3) := by decide +kernel
theorem dX4_show_25 : decode cX4_show 25 = .ok (.iconst 2, 1) := by decide +kernel
theorem dX4_show_26 : decode cX4_show 26 = .ok (.iaload, 1) := by decide +kernel
theorem dX4_show_27 : decode cX4_show 27 = .ok (.aload_n 0, 1) := by decide +kernel
theorem dX4_show_28 : decode cX4_show 28 = .ok (.getfield 45, 3) := by decide +kernel
theorem dX4_show_31 : decode cX4_show 31 = .ok (.iconst 3, 1) := by decide +kernel
theorem dX4_show_32 : decode cX4_show 32 = .ok (.iaload, 1) := by decide +kernel
theorem dX4_show_33 : decode cX4_show 33 = .ok (.invokevirtual 146, 3) := by decide +kernel
theorem dX4_show_36 : decode cX4_show 36 = .ok (.aload_n 0, 1) := by decide +kernel
theorem dX4_show_37 : decode cX4_show 37 = .ok (.invokevirtual 150, 3) := by decide +kernel
theorem dX4_show_40 : decode cX4_show 40 = .ok (.aload_n 0, 1) := by decide +kernel
theorem dX4_show_41 : decode cX4_show 41 = .ok (.dup, 1) := by decide +kernel
theorem dX4_show_42 : decode cX4_show 42 = .ok (.getfield 153, 3) := by decide +kernel
theorem dX4_show_45 : decode cX4_show 45 = .ok (.iconst 1, 1) := by decide +kernel
theorem dX4_show_46 : decode cX4_show 46 = .ok (.iadd, 1) := by decide +kernel
theorem dX4_show_47 : decode cX4_show 47 = .ok (.putfield 153, 3) := by decide +kernel
theorem dX4_show_50 : decode cX4_show 50 = .ok (.iconst 0, 1) := by decide +kernel
theorem dX4_show_51 : decode cX4_show 51 = .ok (.istore_n 1, 1) := by decide +kernel
theorem dX4_show_52 : decode cX4_show 52 = .ok (.iconst 0, 1) := by decide +kernel
theorem dX4_show_53 : decode cX4_show 53 = .ok (.istore_n 2, 1) := by decide +kernel
theorem dX4_show_54 : decode cX4_show 54 = .ok (.iconst 0, 1) := by decide +kernel
theorem dX4_show_55 : decode cX4_show 55 = .ok (.istore_n 3, 1) := by decide +kernel
theorem dX4_show_56 : decode cX4_show 56 = .ok (.iload_n 3, 1) := by decide +kernel
theorem dX4_show_57 : decode cX4_show 57 = .ok (.aload_n 0, 1) := by decide +kernel
theorem dX4_show_58 : decode cX4_show 58 = .ok (.getfield 104, 3) := by decide +kernel
theorem dX4_show_61 : decode cX4_show 61 = .ok (.if_icmp .ge 169, 3) := by decide +kernel
theorem dX4_show_64 : decode cX4_show 64 = .ok (.iconst 0, 1) := by decide +kernel
theorem dX4_show_65 : decode cX4_show 65 = .ok (.istore 4, 2) := by decide +kernel
theorem dX4_show_67 : decode cX4_show 67 = .ok (.iload 4, 2) := by decide +kernel
theorem dX4_show_69 : decode cX4_show 69 = .ok (.aload_n 0, 1) := by decide +kernel
theorem dX4_show_70 : decode cX4_show 70 = .ok (.getfield 7, 3) := by decide +kernel
theorem dX4_show_73 : decode cX4_show 73 = .ok (.if_icmp .ge 151, 3) := by decide +kernel
theorem dX4_show_76 : decode cX4_show 76 = .ok (.iload_n 3, 1) := by decide +kernel
theorem dX4_show_77 : decode cX4_show 77 = .ok (.aload_n 0, 1) := by decide +kernel
theorem dX4_show_78 : decode cX4_show 78 = .ok (.getfield 116, 3) := by decide +kernel
theorem dX4_show_81 : decode cX4_show 81 = .ok (.if_icmp .eq 143, 3) := by decide +kernel
theorem dX4_show_84 : decode cX4_show 84 = .ok (.iload_n 2, 1) := by decide +kernel
theorem dX4_show_85 : decode cX4_show 85 = .ok (.ifCond .ne 139, 3) := by decide +kernel
theorem dX4_show_88 : decode cX4_show 88 = .ok (.aload_n 0, 1) := by decide +kernel
theorem dX4_show_89 : decode cX4_show 89 = .ok (.getfield 110, 3) := by decide +kernel
theorem dX4_show_92 : decode cX4_show 92 = .ok (.aload_n 0, 1) := by decide +kernel
theorem dX4_show_93 : decode cX4_show 93 = .ok (.getfield 36, 3) := by decide +kernel
theorem dX4_show_96 : decode cX4_show 96 = .ok (.aload_n 0, 1) := by decide +kernel
theorem dX4_show_97 : decode cX4_show 97 = .ok (.getfield 156, 3) := by decide +kernel
theorem dX4_show_100 : decode cX4_show 100 = .ok (.iadd, 1) := by decide +kernel
theorem dX4_show_101 : decode cX4_show 101 = .ok (.if_icmp .ge 8, 3) := by decide +kernel
theorem dX4_show_104 : decode cX4_show 104 = .ok (.iconst 1, 1) := by decide +kernel
theorem dX4_show_105 : decode cX4_show 105 = .ok (.istore_n 2, 1) := by decide +kernel
theorem dX4_show_106 : decode cX4_show 106 = .ok (.goto 112, 3) := by decide +kernel
theorem dX4_show_109 : decode cX4_show 109 = .ok (.aload_n 0, 1) := by decide +kernel
theorem dX4_show_110 : decode cX4_show 110 = .ok (.dup, 1) := by decide +kernel
theorem dX4_show_111 : decode cX4_show 111 = .ok (.getfield 159, 3) := by decide +kernel
theorem dX4_show_114 : decode cX4_show 114 = .ok (.aload_n 0, 1) := by decide +kernel
theorem dX4_show_115 : decode cX4_show 115 = .ok (.getfield 110, 3) := by decide +kernel
theorem dX4_show_118 : decode cX4_show 118 = .ok (.sipush 500, 3) := by decide +kernel
theorem dX4_show_121 : decode cX4_show 121 = .ok (.if_icmp .lt 7, 3) := by decide +kernel
theorem dX4_show_124 : decode cX4_show 124 = .ok (.iconst 1, 1) := by decide +kernel
theorem dX4_show_125 : decode cX4_show 125 = .ok (.goto 18, 3) := by decide +kernel
theorem dX4_show_128 : decode cX4_show 128 = .ok (.aload_n 0, 1) := by decide +kernel
theorem dX4_show_129 : decode cX4_show 129 = .ok (.getfield 110, 3) := by decide +kernel
theorem dX4_show_132 : decode cX4_show 132 = .ok (.sipush 200, 3) := by decide +kernel
theorem dX4_show_135 : decode cX4_show 135 = .ok (.if_icmp .lt 7, 3) := by decide +kernel
theorem dX4_show_138 : decode cX4_show 138 = .ok (.iconst 2, 1) := by decide +kernel
theorem dX4_show_139 : decode cX4_show 139 = .ok (.goto 4, 3) := by decide +kernel
theorem dX4_show_142 : decode cX4_show 142 = .ok (.iconst 4, 1) := by decide +kernel
theorem dX4_show_143 : decode cX4_show 143 = .ok (.iadd, 1) := by decide +kernel
theorem dX4_show_144 : decode cX4_show 144 = .ok (.putfield 159, 3) := by decide +kernel
theorem dX4_show_147 : decode cX4_show 147 = .ok (.aload_n 0, 1) := by decide +kernel
theorem dX4_show_148 : decode cX4_show 148 = .ok (.dup, 1) := by decide +kernel
theorem dX4_show_149 : decode cX4_show 149 = .ok (.getfield 110, 3) := by decide +kernel
theorem dX4_show_152 : decode cX4_show 152 = .ok (.aload_n 0, 1) := by decide +kernel
theorem dX4_show_153 : decode cX4_show 153 = .ok (.getfield 36, 3) := by decide +kernel
theorem dX4_show_156 : decode cX4_show 156 = .ok (.aload_n 0, 1) := by decide +kernel
theorem dX4_show_157 : decode cX4_show 157 = .ok (.getfield 156, 3) := by decide +kernel
theorem dX4_show_160 : decode cX4_show 160 = .ok (.iadd, 1) := by decide +kernel
theorem dX4_show_161 : decode cX4_show 161 = .ok (.isub, 1) := by decide +kernel
theorem dX4_show_162 : decode cX4_show 162 = .ok (.putfield 110, 3) := by decide +kernel
theorem dX4_show_165 : decode cX4_show 165 = .ok (.aload_n 0, 1) := by decide +kernel
theorem dX4_show_166 : decode cX4_show 166 = .ok (.iload_n 3, 1) := by decide +kernel
