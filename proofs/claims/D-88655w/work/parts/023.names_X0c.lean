set_option maxRecDepth 100000
theorem dX0_fault_13 : decode cX0_fault 13 = .ok (.invokevirtual 97, 3) := by decide +kernel
theorem dX0_fault_16 : decode cX0_fault 16 = .ok (.ireturn, 1) := by decide +kernel
theorem dX0_fault_17 : decode cX0_fault 17 = .ok (.iload_n 2, 1) := by decide +kernel
theorem dX0_fault_18 : decode cX0_fault 18 = .ok (.iload_n 1, 1) := by decide +kernel
theorem dX0_fault_19 : decode cX0_fault 19 = .ok (.iconst 1, 1) := by decide +kernel
theorem dX0_fault_20 : decode cX0_fault 20 = .ok (.if_icmp .ne 8, 3) := by decide +kernel
theorem dX0_fault_23 : decode cX0_fault 23 = .ok (.bipush 12, 2) := by decide +kernel
theorem dX0_fault_25 : decode cX0_fault 25 = .ok (.goto 16, 3) := by decide +kernel
theorem dX0_fault_28 : decode cX0_fault 28 = .ok (.iload_n 1, 1) := by decide +kernel
theorem dX0_fault_29 : decode cX0_fault 29 = .ok (.iconst 2, 1) := by decide +kernel
theorem dX0_fault_30 : decode cX0_fault 30 = .ok (.if_icmp .ne 10, 3) := by decide +kernel
theorem dX0_fault_33 : decode cX0_fault 33 = .ok (.aload_n 0, 1) := by decide +kernel
theorem dX0_fault_34 : decode cX0_fault 34 = .ok (.getfield 32, 3) := by decide +kernel
theorem dX0_fault_37 : decode cX0_fault 37 = .ok (.goto 4, 3) := by decide +kernel
theorem dX0_fault_40 : decode cX0_fault 40 = .ok (.iconst 2, 1) := by decide +kernel
theorem dX0_fault_41 : decode cX0_fault 41 = .ok (.invokestatic 3, 3) := by decide +kernel
theorem dX0_fault_44 : decode cX0_fault 44 = .ok (.ifCond .ne 9, 3) := by decide +kernel
theorem dX0_fault_47 : decode cX0_fault 47 = .ok (.aload_n 0, 1) := by decide +kernel
theorem dX0_fault_48 : decode cX0_fault 48 = .ok (.iconst (-1), 1) := by decide +kernel
theorem dX0_fault_49 : decode cX0_fault 49 = .ok (.invokevirtual 97, 3) := by decide +kernel
theorem dX0_fault_52 : decode cX0_fault 52 = .ok (.ireturn, 1) := by decide +kernel
theorem dX0_fault_53 : decode cX0_fault 53 = .ok (.aload_n 0, 1) := by decide +kernel
theorem dX0_fault_54 : decode cX0_fault 54 = .ok (.getfield 47, 3) := by decide +kernel
theorem dX0_fault_57 : decode cX0_fault 57 = .ok (.iload_n 1, 1) := by decide +kernel
theorem dX0_fault_58 : decode cX0_fault 58 = .ok (.iconst 1, 1) := by decide +kernel
theorem dX0_fault_59 : decode cX0_fault 59 = .ok (.isub, 1) := by decide +kernel
theorem dX0_fault_60 : decode cX0_fault 60 = .ok (.iload_n 1, 1) := by decide +kernel
theorem dX0_fault_61 : decode cX0_fault 61 = .ok (.iconst 1, 1) := by decide +kernel
theorem dX0_fault_62 : decode cX0_fault 62 = .ok (.if_icmp .ne 14, 3) := by decide +kernel
theorem dX0_fault_65 : decode cX0_fault 65 = .ok (.new 202, 3) := by decide +kernel
theorem dX0_fault_68 : decode cX0_fault 68 = .ok (.dup, 1) := by decide +kernel
theorem dX0_fault_69 : decode cX0_fault 69 = .ok (.iload_n 2, 1) := by decide +kernel
theorem dX0_fault_70 : decode cX0_fault 70 = .ok (.invokespecial 204, 3) := by decide +kernel
theorem dX0_fault_73 : decode cX0_fault 73 = .ok (.goto 27, 3) := by decide +kernel
theorem dX0_fault_76 : decode cX0_fault 76 = .ok (.iload_n 1, 1) := by decide +kernel
theorem dX0_fault_77 : decode cX0_fault 77 = .ok (.iconst 2, 1) := by decide +kernel
theorem dX0_fault_78 : decode cX0_fault 78 = .ok (.if_icmp .ne 14, 3) := by decide +kernel
theorem dX0_fault_81 : decode cX0_fault 81 = .ok (.new 205, 3) := by decide +kernel
theorem dX0_fault_84 : decode cX0_fault 84 = .ok (.dup, 1) := by decide +kernel
theorem dX0_fault_85 : decode cX0_fault 85 = .ok (.iload_n 2, 1) := by decide +kernel
theorem dX0_fault_86 : decode cX0_fault 86 = .ok (.invokespecial 207, 3) := by decide +kernel
theorem dX0_fault_89 : decode cX0_fault 89 = .ok (.goto 11, 3) := by decide +kernel
theorem dX0_fault_92 : decode cX0_fault 92 = .ok (.new 208, 3) := by decide +kernel
theorem dX0_fault_95 : decode cX0_fault 95 = .ok (.dup, 1) := by decide +kernel
theorem dX0_fault_96 : decode cX0_fault 96 = .ok (.iload_n 2, 1) := by decide +kernel
theorem dX0_fault_97 : decode cX0_fault 97 = .ok (.invokespecial 210, 3) := by decide +kernel
theorem dX0_fault_100 : decode cX0_fault 100 = .ok (.aastore, 1) := by decide +kernel
theorem dX0_fault_101 : decode cX0_fault 101 = .ok (.iconst 1, 1) := by decide +kernel
theorem dX0_fault_102 : decode cX0_fault 102 = .ok (.ireturn, 1) := by decide +kernel
theorem dX0_mend_0 : decode cX0_mend 0 = .ok (.aload_n 0, 1) := by decide +kernel
theorem dX0_mend_1 : decode cX0_mend 1 = .ok (.invokevirtual 211, 3) := by decide +kernel
theorem dX0_mend_4 : decode cX0_mend 4 = .ok (.istore_n 1, 1) := by decide +kernel
theorem dX0_mend_5 : decode cX0_mend 5 = .ok (.iconst 0, 1) := by decide +kernel
theorem dX0_mend_6 : decode cX0_mend 6 = .ok (.istore_n 2, 1) := by decide +kernel
theorem dX0_mend_7 : decode cX0_mend 7 = .ok (.iload_n 2, 1) := by decide +kernel
theorem dX0_mend_8 : decode cX0_mend 8 = .ok (.iconst 3, 1) := by decide +kernel
theorem dX0_mend_9 : decode cX0_mend 9 = .ok (.if_icmp .ge 16, 3) := by decide +kernel
theorem dX0_mend_12 : decode cX0_mend 12 = .ok (.aload_n 0, 1) := by decide +kernel
theorem dX0_mend_13 : decode cX0_mend 13 = .ok (.getfield 47, 3) := by decide +kernel
theorem dX0_mend_16 : decode cX0_mend 16 = .ok (.iload_n 2, 1) := by decide +kernel
theorem dX0_mend_17 : decode cX0_mend 17 = .ok (.aconst_null, 1) := by decide +kernel
theorem dX0_mend_18 : decode cX0_mend 18 = .ok (.aastore, 1) := by decide +kernel
theorem dX0_mend_19 : decode cX0_mend 19 = .ok (.iinc 2 1, 3) := by decide +kernel
theorem dX0_mend_22 : decode cX0_mend 22 = .ok (.goto (-15), 3) := by decide +kernel
theorem dX0_mend_25 : decode cX0_mend 25 = .ok (.iload_n 1, 1) := by decide +kernel
theorem dX0_mend_26 : decode cX0_mend 26 = .ok (.ireturn, 1) := by decide +kernel
theorem dX0_told_0 : decode cX0_told 0 = .ok (.iconst 0, 1) := by decide +kernel
theorem dX0_told_1 : decode cX0_told 1 = .ok (.istore_n 1, 1) := by decide +kernel
theorem dX0_told_2 : decode cX0_told 2 = .ok (.iconst 0, 1) := by decide +kernel
theorem dX0_told_3 : decode cX0_told 3 = .ok (.istore_n 2, 1) := by decide +kernel
theorem dX0_told_4 : decode cX0_told 4 = .ok (.iload_n 2, 1) := by decide +kernel
theorem dX0_told_5 : decode cX0_told 5 = .ok (.iconst 3, 1) := by decide +kernel
theorem dX0_told_6 : decode cX0_told 6 = .ok (.if_icmp .ge 26, 3) := by decide +kernel
theorem dX0_told_9 : decode cX0_told 9 = .ok (.iload_n 1, 1) := by decide +kernel
theorem dX0_told_10 : decode cX0_told 10 = .ok (.aload_n 0, 1) := by decide +kernel
theorem dX0_told_11 : decode cX0_told 11 = .ok (.getfield 47, 3) := by decide +kernel
theorem dX0_told_14 : decode cX0_told 14 = .ok (.iload_n 2, 1) := by decide +kernel
theorem dX0_told_15 : decode cX0_told 15 = .ok (.aaload, 1) := by decide +kernel
theorem dX0_told_16 : decode cX0_told 16 = .ok (.ifnonnull 7, 3) := by decide +kernel
theorem dX0_told_19 : decode cX0_told 19 = .ok (.iconst 0, 1) := by decide +kernel
theorem dX0_told_20 : decode cX0_told 20 = .ok (.goto 4, 3) := by decide +kernel
theorem dX0_told_23 : decode cX0_told 23 = .ok (.iconst 1, 1) := by decide +kernel
theorem dX0_told_24 : decode cX0_told 24 = .ok (.iadd, 1) := by decide +kernel
theorem dX0_told_25 : decode cX0_told 25 = .ok (.istore_n 1, 1) := by decide +kernel
theorem dX0_told_26 : decode cX0_told 26 = .ok (.iinc 2 1, 3) := by decide +kernel
theorem dX0_told_29 : decode cX0_told 29 = .ok (.goto (-25), 3) := by decide +kernel
theorem dX0_told_32 : decode cX0_told 32 = .ok (.iload_n 1, 1) := by decide +kernel
theorem dX0_told_33 : decode cX0_told 33 = .ok (.ireturn, 1) := by decide +kernel
theorem dX0_explained_0 : decode cX0_explained 0 = .ok (.iload_n 1, 1) := by decide +kernel
theorem dX0_explained_1 : decode cX0_explained 1 = .ok (.iconst 2, 1) := by decide +kernel
theorem dX0_explained_2 : decode cX0_explained 2 = .ok (.invokestatic 3, 3) := by decide +kernel
theorem dX0_explained_5 : decode cX0_explained 5 = .ok (.ifCond .ne 10, 3) := by decide +kernel
theorem dX0_explained_8 : decode cX0_explained 8 = .ok (.aload_n 0, 1) := by decide +kernel
theorem dX0_explained_9 : decode cX0_explained 9 = .ok (.bipush (-2), 2) := by decide +kernel
theorem dX0_explained_11 : decode cX0_explained 11 = .ok (.invokevirtual 97, 3) := by decide +kernel
theorem dX0_explained_14 : decode cX0_explained 14 = .ok (.ireturn, 1) := by decide +kernel
theorem dX0_explained_15 : decode cX0_explained 15 = .ok (.aload_n 0, 1) := by decide +kernel
theorem dX0_explained_16 : decode cX0_explained 16 = .ok (.invokevirtual 163, 3) := by decide +kernel
theorem dX0_explained_19 : decode cX0_explained 19 = .ok (.ifCond .ne 10, 3) := by decide +kernel
theorem dX0_explained_22 : decode cX0_explained 22 = .ok (.aload_n 0, 1) := by decide +kernel
theorem dX0_explained_23 : decode cX0_explained 23 = .ok (.bipush (-3), 2) := by decide +kernel
theorem dX0_explained_25 : decode cX0_explained 25 = .ok (.invokevirtual 97, 3) := by decide +kernel
theorem dX0_explained_28 : decode cX0_explained 28 = .ok (.ireturn, 1) := by decide +kernel
theorem dX0_explained_29 : decode cX0_explained 29 = .ok (.aload_n 0, 1) := by decide +kernel
theorem dX0_explained_30 : decode cX0_explained 30 = .ok (.invokevirtual 235, 3) := by decide +kernel
theorem dX0_explained_33 : decode cX0_explained 33 = .ok (.iload_n 1, 1) := by decide +kernel
theorem dX0_explained_34 : decode cX0_explained 34 = .ok (.ifCond .ne 10, 3) := by decide +kernel
theorem dX0_explained_37 : decode cX0_explained 37 = .ok (.aload_n 0, 1) := by decide +kernel
theorem dX0_explained_38 : decode cX0_explained 38 = .ok (.getfield 221, 3) := by decide +kernel
theorem dX0_explained_41 : decode cX0_explained 41 = .ok (.goto 7, 3) := by decide +kernel
theorem dX0_explained_44 : decode cX0_explained 44 = .ok (.aload_n 0, 1) := by decide +kernel
theorem dX0_explained_45 : decode cX0_explained 45 = .ok (.getfield 224, 3) := by decide +kernel
theorem dX0_explained_48 : decode cX0_explained 48 = .ok (.ireturn, 1) := by decide +kernel
theorem dX0_looks_0 : decode cX0_looks 0 = .ok (.aload_n 0, 1) := by decide +kernel
theorem dX0_looks_1 : decode cX0_looks 1 = .ok (.bipush (-9), 2) := by decide +kernel
theorem dX0_looks_3 : decode cX0_looks 3 = .ok (.putfield 221, 3) := by decide +kernel
theorem dX0_looks_6 : decode cX0_looks 6 = .ok (.aload_n 0, 1) := by decide +kernel
theorem dX0_looks_7 : decode cX0_looks 7 = .ok (.bipush (-9), 2) := by decide +kernel
theorem dX0_looks_9 : decode cX0_looks 9 = .ok (.putfield 224, 3) := by decide +kernel
theorem dX0_looks_12 : decode cX0_looks 12 = .ok (.aload_n 0, 1) := by decide +kernel
theorem dX0_looks_13 : decode cX0_looks 13 = .ok (.iconst 0, 1) := by decide +kernel
theorem dX0_looks_14 : decode cX0_looks 14 = .ok (.bipush (-9), 2) := by decide +kernel
theorem dX0_looks_16 : decode cX0_looks 16 = .ok (.aload_n 0, 1) := by decide +kernel
theorem dX0_looks_17 : decode cX0_looks 17 = .ok (.aload_n 0, 1) := by decide +kernel
theorem dX0_looks_18 : decode cX0_looks 18 = .ok (.getfield 51, 3) := by decide +kernel
theorem dX0_looks_21 : decode cX0_looks 21 = .ok (.aload_n 0, 1) := by decide +kernel
theorem dX0_looks_22 : decode cX0_looks 22 = .ok (.getfield 51, 3) := by decide +kernel
theorem dX0_looks_25 : decode cX0_looks 25 = .ok (.aload_n 0, 1) := by decide +kernel
theorem dX0_looks_26 : decode cX0_looks 26 = .ok (.getfield 51, 3) := by decide +kernel
theorem dX0_looks_29 : decode cX0_looks 29 = .ok (.invokevirtual 227, 3) := by decide +kernel
theorem dX0_looks_32 : decode cX0_looks 32 = .ok (.invokevirtual 231, 3) := by decide +kernel
theorem dX0_looks_35 : decode cX0_looks 35 = .ok (.iconst 0, 1) := by decide +kernel
theorem dX0_looks_36 : decode cX0_looks 36 = .ok (.istore_n 1, 1) := by decide +kernel
theorem dX0_looks_37 : decode cX0_looks 37 = .ok (.iload_n 1, 1) := by decide +kernel
theorem dX0_looks_38 : decode cX0_looks 38 = .ok (.bipush 12, 2) := by decide +kernel
theorem dX0_looks_40 : decode cX0_looks 40 = .ok (.if_icmp .ge 51, 3) := by decide +kernel
theorem dX0_looks_43 : decode cX0_looks 43 = .ok (.aload_n 0, 1) := by decide +kernel
theorem dX0_looks_44 : decode cX0_looks 44 = .ok (.getfield 221, 3) := by decide +kernel
theorem dX0_looks_47 : decode cX0_looks 47 = .ok (.ifCond .ge 44, 3) := by decide +kernel
theorem dX0_looks_50 : decode cX0_looks 50 = .ok (.aload_n 0, 1) := by decide +kernel
theorem dX0_looks_51 : decode cX0_looks 51 = .ok (.getfield 13, 3) := by decide +kernel
theorem dX0_looks_54 : decode cX0_looks 54 = .ok (.iload_n 1, 1) := by decide +kernel
theorem dX0_looks_55 : decode cX0_looks 55 = .ok (.aaload, 1) := by decide +kernel
theorem dX0_looks_56 : decode cX0_looks 56 = .ok (.ifnull 29, 3) := by decide +kernel
theorem dX0_looks_59 : decode cX0_looks 59 = .ok (.aload_n 0, 1) := by decide +kernel
theorem dX0_looks_60 : decode cX0_looks 60 = .ok (.iconst 1, 1) := by decide +kernel
theorem dX0_looks_61 : decode cX0_looks 61 = .ok (.iload_n 1, 1) := by decide +kernel
theorem dX0_looks_62 : decode cX0_looks 62 = .ok (.aload_n 0, 1) := by decide +kernel
theorem dX0_looks_63 : decode cX0_looks 63 = .ok (.new 202, 3) := by decide +kernel
theorem dX0_looks_66 : decode cX0_looks 66 = .ok (.dup, 1) := by decide +kernel
theorem dX0_looks_67 : decode cX0_looks 67 = .ok (.iload_n 1, 1) := by decide +kernel
theorem dX0_looks_68 : decode cX0_looks 68 = .ok (.invokespecial 204, 3) := by decide +kernel
theorem dX0_looks_71 : decode cX0_looks 71 = .ok (.aload_n 0, 1) := by decide +kernel
theorem dX0_looks_72 : decode cX0_looks 72 = .ok (.getfield 51, 3) := by decide +kernel
theorem dX0_looks_75 : decode cX0_looks 75 = .ok (.aload_n 0, 1) := by decide +kernel
theorem dX0_looks_76 : decode cX0_looks 76 = .ok (.getfield 51, 3) := by decide +kernel
theorem dX0_looks_79 : decode cX0_looks 79 = .ok (.invokevirtual 227, 3) := by decide +kernel
theorem dX0_looks_82 : decode cX0_looks 82 = .ok (.invokevirtual 231, 3) := by decide +kernel
theorem dX0_looks_85 : decode cX0_looks 85 = .ok (.iinc 1 1, 3) := by decide +kernel
theorem dX0_looks_88 : decode cX0_looks 88 = .ok (.goto (-51), 3) := by decide +kernel
theorem dX0_looks_91 : decode cX0_looks 91 = .ok (.iconst 0, 1) := by decide +kernel
theorem dX0_looks_92 : decode cX0_looks 92 = .ok (.istore_n 1, 1) := by decide +kernel
theorem dX0_looks_93 : decode cX0_looks 93 = .ok (.iload_n 1, 1) := by decide +kernel
theorem dX0_looks_94 : decode cX0_looks 94 = .ok (.aload_n 0, 1) := by decide +kernel
theorem dX0_looks_95 : decode cX0_looks 95 = .ok (.getfield 32, 3) := by decide +kernel
theorem dX0_looks_98 : decode cX0_looks 98 = .ok (.if_icmp .ge 42, 3) := by decide +kernel
theorem dX0_looks_101 : decode cX0_looks 101 = .ok (.aload_n 0, 1) := by decide +kernel
theorem dX0_looks_102 : decode cX0_looks 102 = .ok (.getfield 221, 3) := by decide +kernel
theorem dX0_looks_105 : decode cX0_looks 105 = .ok (.ifCond .ge 35, 3) := by decide +kernel
theorem dX0_looks_108 : decode cX0_looks 108 = .ok (.aload_n 0, 1) := by decide +kernel
theorem dX0_looks_109 : decode cX0_looks 109 = .ok (.iconst 2, 1) := by decide +kernel
theorem dX0_looks_110 : decode cX0_looks 110 = .ok (.iload_n 1, 1) := by decide +kernel
theorem dX0_looks_111 : decode cX0_looks 111 = .ok (.aload_n 0, 1) := by decide +kernel
theorem dX0_looks_112 : decode cX0_looks 112 = .ok (.aload_n 0, 1) := by decide +kernel
theorem dX0_looks_113 : decode cX0_looks 113 = .ok (.getfield 51, 3) := by decide +kernel
theorem dX0_looks_116 : decode cX0_looks 116 = .ok (.new 205, 3) := by decide +kernel
theorem dX0_looks_119 : decode cX0_looks 119 = .ok (.dup, 1) := by decide +kernel
theorem dX0_looks_120 : decode cX0_looks 120 = .ok (.iload_n 1, 1) := by decide +kernel
theorem dX0_looks_121 : decode cX0_looks 121 = .ok (.invokespecial 207, 3) := by decide +kernel
theorem dX0_looks_124 : decode cX0_looks 124 = .ok (.aload_n 0, 1) := by decide +kernel
theorem dX0_looks_125 : decode cX0_looks 125 = .ok (.getfield 51, 3) := by decide +kernel
theorem dX0_looks_128 : decode cX0_looks 128 = .ok (.invokevirtual 227, 3) := by decide +kernel
theorem dX0_looks_131 : decode cX0_looks 131 = .ok (.invokevirtual 231, 3) := by decide +kernel
theorem dX0_looks_134 : decode cX0_looks 134 = .ok (.iinc 1 1, 3) := by decide +kernel
theorem dX0_looks_137 : decode cX0_looks 137 = .ok (.goto (-44), 3) := by decide +kernel
theorem dX0_looks_140 : decode cX0_looks 140 = .ok (.iconst 0, 1) := by decide +kernel
theorem dX0_looks_141 : decode cX0_looks 141 = .ok (.istore_n 1, 1) := by decide +kernel
theorem dX0_looks_142 : decode cX0_looks 142 = .ok (.iload_n 1, 1) := by decide +kernel
theorem dX0_looks_143 : decode cX0_looks 143 = .ok (.iconst 2, 1) := by decide +kernel
theorem dX0_looks_144 : decode cX0_looks 144 = .ok (.if_icmp .ge 42, 3) := by decide +kernel
theorem dX0_looks_147 : decode cX0_looks 147 = .ok (.aload_n 0, 1) := by decide +kernel
theorem dX0_looks_148 : decode cX0_looks 148 = .ok (.getfield 221, 3) := by decide +kernel
theorem dX0_looks_151 : decode cX0_looks 151 = .ok (.ifCond .ge 35, 3) := by decide +kernel
theorem dX0_looks_154 : decode cX0_looks 154 = .ok (.aload_n 0, 1) := by decide +kernel
theorem dX0_looks_155 : decode cX0_looks 155 = .ok (.iconst 3, 1) := by decide +kernel
theorem dX0_looks_156 : decode cX0_looks 156 = .ok (.iload_n 1, 1) := by decide +kernel
theorem dX0_looks_157 : decode cX0_looks 157 = .ok (.aload_n 0, 1) := by decide +kernel
theorem dX0_looks_158 : decode cX0_looks 158 = .ok (.aload_n 0, 1) := by decide +kernel
theorem dX0_looks_159 : decode cX0_looks 159 = .ok (.getfield 51, 3) := by decide +kernel
theorem dX0_looks_162 : decode cX0_looks 162 = .ok (.aload_n 0, 1) := by decide +kernel
theorem dX0_looks_163 : decode cX0_looks 163 = .ok (.getfield 51, 3) := by decide +kernel
theorem dX0_looks_166 : decode cX0_looks 166 = .ok (.new 208, 3) := by decide +kernel
theorem dX0_looks_169 : decode cX0_looks 169 = .ok (.dup, 1) := by decide +kernel
theorem dX0_looks_170 : decode cX0_looks 170 = .ok (.iload_n 1, 1) := by decide +kernel
theorem dX0_looks_171 : decode cX0_looks 171 = .ok (.invokespecial 210, 3) := by decide +kernel
theorem dX0_looks_174 : decode cX0_looks 174 = .ok (.invokevirtual 227, 3) := by decide +kernel
theorem dX0_looks_177 : decode cX0_looks 177 = .ok (.invokevirtual 231, 3) := by decide +kernel
theorem dX0_looks_180 : decode cX0_looks 180 = .ok (.iinc 1 1, 3) := by decide +kernel
theorem dX0_looks_183 : decode cX0_looks 183 = .ok (.goto (-41), 3) := by decide +kernel
theorem dX0_looks_186 : decode cX0_looks 186 = .ok (.return_, 1) := by decide +kernel
theorem dX0_explains_0 : decode cX0_explains 0 = .ok (.aload_n 0, 1) := by decide +kernel
theorem dX0_explains_1 : decode cX0_explains 1 = .ok (.getfield 75, 3) := by decide +kernel
theorem dX0_explains_4 : decode cX0_explains 4 = .ok (.invokevirtual 101, 3) := by decide +kernel
theorem dX0_explains_7 : decode cX0_explains 7 = .ok (.new 167, 3) := by decide +kernel
theorem dX0_explains_10 : decode cX0_explains 10 = .ok (.dup, 1) := by decide +kernel
theorem dX0_explains_11 : decode cX0_explains 11 = .ok (.aload_n 0, 1) := by decide +kernel
theorem dX0_explains_12 : decode cX0_explains 12 = .ok (.aload_n 0, 1) := by decide +kernel
theorem dX0_explains_13 : decode cX0_explains 13 = .ok (.getfield 75, 3) := by decide +kernel
theorem dX0_explains_16 : decode cX0_explains 16 = .ok (.aload_n 1, 1) := by decide +kernel
theorem dX0_explains_17 : decode cX0_explains 17 = .ok (.aload_n 2, 1) := by decide +kernel
theorem dX0_explains_18 : decode cX0_explains 18 = .ok (.aload_n 3, 1) := by decide +kernel
theorem dX0_explains_19 : decode cX0_explains 19 = .ok (.invokespecial 173, 3) := by decide +kernel
theorem dX0_explains_22 : decode cX0_explains 22 = .ok (.invokevirtual 214, 3) := by decide +kernel
theorem dX0_explains_25 : decode cX0_explains 25 = .ok (.aload_n 0, 1) := by decide +kernel
theorem dX0_explains_26 : decode cX0_explains 26 = .ok (.getfield 75, 3) := by decide +kernel
theorem dX0_explains_29 : decode cX0_explains 29 = .ok (.aload_n 0, 1) := by decide +kernel
theorem dX0_explains_30 : decode cX0_explains 30 = .ok (.getfield 71, 3) := by decide +kernel
theorem dX0_explains_33 : decode cX0_explains 33 = .ok (.invokevirtual 217, 3) := by decide +kernel
theorem dX0_explains_36 : decode cX0_explains 36 = .ok (.ireturn, 1) := by decide +kernel
theorem dX0_finds_0 : decode cX0_finds 0 = .ok (.aload_n 0, 1) := by decide +kernel
theorem dX0_finds_1 : decode cX0_finds 1 = .ok (.getfield 221, 3) := by decide +kernel
theorem dX0_finds_4 : decode cX0_finds 4 = .ok (.ifCond .ge 7, 3) := by decide +kernel
theorem dX0_finds_7 : decode cX0_finds 7 = .ok (.iload_n 3, 1) := by decide +kernel
theorem dX0_finds_8 : decode cX0_finds 8 = .ok (.ifCond .ne 4, 3) := by decide +kernel
theorem dX0_finds_11 : decode cX0_finds 11 = .ok (.return_, 1) := by decide +kernel
theorem dX0_finds_12 : decode cX0_finds 12 = .ok (.aload_n 0, 1) := by decide +kernel
theorem dX0_finds_13 : decode cX0_finds 13 = .ok (.iload_n 1, 1) := by decide +kernel
theorem dX0_finds_14 : decode cX0_finds 14 = .ok (.putfield 221, 3) := by decide +kernel
theorem dX0_finds_17 : decode cX0_finds 17 = .ok (.aload_n 0, 1) := by decide +kernel
theorem dX0_finds_18 : decode cX0_finds 18 = .ok (.iload_n 2, 1) := by decide +kernel
theorem dX0_finds_19 : decode cX0_finds 19 = .ok (.putfield 224, 3) := by decide +kernel
theorem dX0_finds_22 : decode cX0_finds 22 = .ok (.return_, 1) := by decide +kernel
theorem dX0_made_0 : decode cX0_made 0 = .ok (.iload_n 2, 1) := by decide +kernel
theorem dX0_made_1 : decode cX0_made 1 = .ok (.iconst 4, 1) := by decide +kernel
theorem dX0_made_2 : decode cX0_made 2 = .ok (.invokestatic 3, 3) := by decide +kernel
theorem dX0_made_5 : decode cX0_made 5 = .ok (.ifCond .ne 12, 3) := by decide +kernel
theorem dX0_made_8 : decode cX0_made 8 = .ok (.new 7, 3) := by decide +kernel
theorem dX0_made_11 : decode cX0_made 11 = .ok (.dup, 1) := by decide +kernel
theorem dX0_made_12 : decode cX0_made 12 = .ok (.iconst (-1), 1) := by decide +kernel
theorem dX0_made_13 : decode cX0_made 13 = .ok (.invokespecial 9, 3) := by decide +kernel
theorem dX0_made_16 : decode cX0_made 16 = .ok (.athrow, 1) := by decide +kernel
theorem dX0_made_17 : decode cX0_made 17 = .ok (.aload_n 0, 1) := by decide +kernel
theorem dX0_made_18 : decode cX0_made 18 = .ok (.iload_n 1, 1) := by decide +kernel
theorem dX0_made_19 : decode cX0_made 19 = .ok (.invokevirtual 105, 3) := by decide +kernel
theorem dX0_made_22 : decode cX0_made 22 = .ok (.astore_n 3, 1) := by decide +kernel
theorem dX0_made_23 : decode cX0_made 23 = .ok (.aload_n 0, 1) := by decide +kernel
theorem dX0_made_24 : decode cX0_made 24 = .ok (.getfield 83, 3) := by decide +kernel
theorem dX0_made_27 : decode cX0_made 27 = .ok (.iload_n 2, 1) := by decide +kernel
theorem dX0_made_28 : decode cX0_made 28 = .ok (.iaload, 1) := by decide +kernel
theorem dX0_made_29 : decode cX0_made 29 = .ok (.aload_n 0, 1) := by decide +kernel
theorem dX0_made_30 : decode cX0_made 30 = .ok (.getfield 17, 3) := by decide +kernel
theorem dX0_made_33 : decode cX0_made 33 = .ok (.iadd, 1) := by decide +kernel
theorem dX0_made_34 : decode cX0_made 34 = .ok (.sipush 1000, 3) := by decide +kernel
theorem dX0_made_37 : decode cX0_made 37 = .ok (.if_icmp .le 13, 3) := by decide +kernel
theorem dX0_made_40 : decode cX0_made 40 = .ok (.new 7, 3) := by decide +kernel
theorem dX0_made_43 : decode cX0_made 43 = .ok (.dup, 1) := by decide +kernel
theorem dX0_made_44 : decode cX0_made 44 = .ok (.bipush (-6), 2) := by decide +kernel
theorem dX0_made_46 : decode cX0_made 46 = .ok (.invokespecial 9, 3) := by decide +kernel
theorem dX0_made_49 : decode cX0_made 49 = .ok (.athrow, 1) := by decide +kernel
theorem dX0_made_50 : decode cX0_made 50 = .ok (.iconst 0, 1) := by decide +kernel
theorem dX0_made_51 : decode cX0_made 51 = .ok (.istore 4, 2) := by decide +kernel
theorem dX0_made_53 : decode cX0_made 53 = .ok (.iload 4, 2) := by decide +kernel
theorem dX0_made_55 : decode cX0_made 55 = .ok (.bipush 10, 2) := by decide +kernel
theorem dX0_made_57 : decode cX0_made 57 = .ok (.if_icmp .ge 27, 3) := by decide +kernel
theorem dX0_made_60 : decode cX0_made 60 = .ok (.aload_n 0, 1) := by decide +kernel
theorem dX0_made_61 : decode cX0_made 61 = .ok (.getfield 80, 3) := by decide +kernel
theorem dX0_made_64 : decode cX0_made 64 = .ok (.iload_n 2, 1) := by decide +kernel
theorem dX0_made_65 : decode cX0_made 65 = .ok (.aaload, 1) := by decide +kernel
theorem dX0_made_66 : decode cX0_made 66 = .ok (.iload 4, 2) := by decide +kernel
theorem dX0_made_68 : decode cX0_made 68 = .ok (.dup2, 1) := by decide +kernel
theorem dX0_made_69 : decode cX0_made 69 = .ok (.iaload, 1) := by decide +kernel
theorem dX0_made_70 : decode cX0_made 70 = .ok (.aload_n 3, 1) := by decide +kernel
theorem dX0_made_71 : decode cX0_made 71 = .ok (.iload 4, 2) := by decide +kernel
theorem dX0_made_73 : decode cX0_made 73 = .ok (.invokevirtual 238, 3) := by decide +kernel
theorem dX0_made_76 : decode cX0_made 76 = .ok (.iadd, 1) := by decide +kernel
theorem dX0_made_77 : decode cX0_made 77 = .ok (.iastore, 1) := by decide +kernel
theorem dX0_made_78 : decode cX0_made 78 = .ok (.iinc 4 1, 3) := by decide +kernel
theorem dX0_made_81 : decode cX0_made 81 = .ok (.goto (-28), 3) := by decide +kernel
theorem dX0_made_84 : decode cX0_made 84 = .ok (.aload_n 0, 1) := by decide +kernel
theorem dX0_made_85 : decode cX0_made 85 = .ok (.getfield 83, 3) := by decide +kernel
theorem dX0_made_88 : decode cX0_made 88 = .ok (.iload_n 2, 1) := by decide +kernel
theorem dX0_made_89 : decode cX0_made 89 = .ok (.dup2, 1) := by decide +kernel
theorem dX0_made_90 : decode cX0_made 90 = .ok (.iaload, 1) := by decide +kernel
theorem dX0_made_91 : decode cX0_made 91 = .ok (.aload_n 0, 1) := by decide +kernel
theorem dX0_made_92 : decode cX0_made 92 = .ok (.getfield 17, 3) := by decide +kernel
theorem dX0_made_95 : decode cX0_made 95 = .ok (.iadd, 1) := by decide +kernel
theorem dX0_made_96 : decode cX0_made 96 = .ok (.iastore, 1) := by decide +kernel
theorem dX0_made_97 : decode cX0_made 97 = .ok (.aload_n 0, 1) := by decide +kernel
theorem dX0_made_98 : decode cX0_made 98 = .ok (.getfield 83, 3) := by decide +kernel
theorem dX0_made_101 : decode cX0_made 101 = .ok (.iload_n 2, 1) := by decide +kernel
theorem dX0_made_102 : decode cX0_made 102 = .ok (.iaload, 1) := by decide +kernel
theorem dX0_made_103 : decode cX0_made 103 = .ok (.ireturn, 1) := by decide +kernel
theorem dX0_made_104 : decode cX0_made 104 = .ok (.astore_n 3, 1) := by decide +kernel
theorem dX0_made_105 : decode cX0_made 105 = .ok (.aload_n 0, 1) := by decide +kernel
theorem dX0_made_106 : decode cX0_made 106 = .ok (.aload_n 3, 1) := by decide +kernel
theorem dX0_made_107 : decode cX0_made 107 = .ok (.getfield 109, 3) := by decide +kernel
theorem dX0_made_110 : decode cX0_made 110 = .ok (.invokevirtual 97, 3) := by decide +kernel
theorem dX0_made_113 : decode cX0_made 113 = .ok (.ireturn, 1) := by decide +kernel
theorem dX0_like_0 : decode cX0_like 0 = .ok (.iload_n 2, 1) := by decide +kernel
theorem dX0_like_1 : decode cX0_like 1 = .ok (.iconst 4, 1) := by decide +kernel
theorem dX0_like_2 : decode cX0_like 2 = .ok (.invokestatic 3, 3) := by decide +kernel
theorem dX0_like_5 : decode cX0_like 5 = .ok (.ifCond .ne 12, 3) := by decide +kernel
theorem dX0_like_8 : decode cX0_like 8 = .ok (.new 7, 3) := by decide +kernel
theorem dX0_like_11 : decode cX0_like 11 = .ok (.dup, 1) := by decide +kernel
theorem dX0_like_12 : decode cX0_like 12 = .ok (.iconst (-1), 1) := by decide +kernel
theorem dX0_like_13 : decode cX0_like 13 = .ok (.invokespecial 9, 3) := by decide +kernel
theorem dX0_like_16 : decode cX0_like 16 = .ok (.athrow, 1) := by decide +kernel
theorem dX0_like_17 : decode cX0_like 17 = .ok (.aload_n 0, 1) := by decide +kernel
theorem dX0_like_18 : decode cX0_like 18 = .ok (.iload_n 1, 1) := by decide +kernel
theorem dX0_like_19 : decode cX0_like 19 = .ok (.invokevirtual 105, 3) := by decide +kernel
theorem dX0_like_22 : decode cX0_like 22 = .ok (.astore_n 3, 1) := by decide +kernel
theorem dX0_like_23 : decode cX0_like 23 = .ok (.aload_n 0, 1) := by decide +kernel
theorem dX0_like_24 : decode cX0_like 24 = .ok (.getfield 83, 3) := by decide +kernel
theorem dX0_like_27 : decode cX0_like 27 = .ok (.iload_n 2, 1) := by decide +kernel
theorem dX0_like_28 : decode cX0_like 28 = .ok (.iaload, 1) := by decide +kernel
theorem dX0_like_29 : decode cX0_like 29 = .ok (.ifCond .ne 13, 3) := by decide +kernel
theorem dX0_like_32 : decode cX0_like 32 = .ok (.new 7, 3) := by decide +kernel
theorem dX0_like_35 : decode cX0_like 35 = .ok (.dup, 1) := by decide +kernel
theorem dX0_like_36 : decode cX0_like 36 = .ok (.bipush (-3), 2) := by decide +kernel
theorem dX0_like_38 : decode cX0_like 38 = .ok (.invokespecial 9, 3) := by decide +kernel
theorem dX0_like_41 : decode cX0_like 41 = .ok (.athrow, 1) := by decide +kernel
theorem dX0_like_42 : decode cX0_like 42 = .ok (.aload_n 0, 1) := by decide +kernel
theorem dX0_like_43 : decode cX0_like 43 = .ok (.aload_n 3, 1) := by decide +kernel
theorem dX0_like_44 : decode cX0_like 44 = .ok (.iload_n 2, 1) := by decide +kernel
theorem dX0_like_45 : decode cX0_like 45 = .ok (.invokevirtual 244, 3) := by decide +kernel
theorem dX0_like_48 : decode cX0_like 48 = .ok (.ireturn, 1) := by decide +kernel
theorem dX0_like_49 : decode cX0_like 49 = .ok (.astore_n 3, 1) := by decide +kernel
theorem dX0_like_50 : decode cX0_like 50 = .ok (.aload_n 0, 1) := by decide +kernel
theorem dX0_like_51 : decode cX0_like 51 = .ok (.aload_n 3, 1) := by decide +kernel
theorem dX0_like_52 : decode cX0_like 52 = .ok (.getfield 109, 3) := by decide +kernel
theorem dX0_like_55 : decode cX0_like 55 = .ok (.invokevirtual 97, 3) := by decide +kernel
theorem dX0_like_58 : decode cX0_like 58 = .ok (.ireturn, 1) := by decide +kernel
theorem dX0_likeOf_0 : decode cX0_likeOf 0 = .ok (.iconst 0, 1) := by decide +kernel
theorem dX0_likeOf_1 : decode cX0_likeOf 1 = .ok (.istore_n 3, 1) := by decide +kernel
theorem dX0_likeOf_2 : decode cX0_likeOf 2 = .ok (.iconst 0, 1) := by decide +kernel
theorem dX0_likeOf_3 : decode cX0_likeOf 3 = .ok (.istore 4, 2) := by decide +kernel
theorem dX0_likeOf_5 : decode cX0_likeOf 5 = .ok (.iload 4, 2) := by decide +kernel
theorem dX0_likeOf_7 : decode cX0_likeOf 7 = .ok (.bipush 10, 2) := by decide +kernel
theorem dX0_likeOf_9 : decode cX0_likeOf 9 = .ok (.if_icmp .ge 43, 3) := by decide +kernel
theorem dX0_likeOf_12 : decode cX0_likeOf 12 = .ok (.iload_n 3, 1) := by decide +kernel
theorem dX0_likeOf_13 : decode cX0_likeOf 13 = .ok (.aload_n 1, 1) := by decide +kernel
theorem dX0_likeOf_14 : decode cX0_likeOf 14 = .ok (.iload 4, 2) := by decide +kernel
theorem dX0_likeOf_16 : decode cX0_likeOf 16 = .ok (.invokevirtual 238, 3) := by decide +kernel
theorem dX0_likeOf_19 : decode cX0_likeOf 19 = .ok (.aload_n 0, 1) := by decide +kernel
theorem dX0_likeOf_20 : decode cX0_likeOf 20 = .ok (.getfield 83, 3) := by decide +kernel
theorem dX0_likeOf_23 : decode cX0_likeOf 23 = .ok (.iload_n 2, 1) := by decide +kernel
theorem dX0_likeOf_24 : decode cX0_likeOf 24 = .ok (.iaload, 1) := by decide +kernel
theorem dX0_likeOf_25 : decode cX0_likeOf 25 = .ok (.imul, 1) := by decide +kernel
theorem dX0_likeOf_26 : decode cX0_likeOf 26 = .ok (.aload_n 0, 1) := by decide +kernel
theorem dX0_likeOf_27 : decode cX0_likeOf 27 = .ok (.getfield 80, 3) := by decide +kernel
theorem dX0_likeOf_30 : decode cX0_likeOf 30 = .ok (.iload_n 2, 1) := by decide +kernel
theorem dX0_likeOf_31 : decode cX0_likeOf 31 = .ok (.aaload, 1) := by decide +kernel
theorem dX0_likeOf_32 : decode cX0_likeOf 32 = .ok (.iload 4, 2) := by decide +kernel
theorem dX0_likeOf_34 : decode cX0_likeOf 34 = .ok (.iaload, 1) := by decide +kernel
theorem dX0_likeOf_35 : decode cX0_likeOf 35 = .ok (.aload_n 0, 1) := by decide +kernel
theorem dX0_likeOf_36 : decode cX0_likeOf 36 = .ok (.getfield 17, 3) := by decide +kernel
theorem dX0_likeOf_39 : decode cX0_likeOf 39 = .ok (.imul, 1) := by decide +kernel
theorem dX0_likeOf_40 : decode cX0_likeOf 40 = .ok (.isub, 1) := by decide +kernel
theorem dX0_likeOf_41 : decode cX0_likeOf 41 = .ok (.invokestatic 241, 3) := by decide +kernel
theorem dX0_likeOf_44 : decode cX0_likeOf 44 = .ok (.iadd, 1) := by decide +kernel
theorem dX0_likeOf_45 : decode cX0_likeOf 45 = .ok (.istore_n 3, 1) := by decide +kernel
theorem dX0_likeOf_46 : decode cX0_likeOf 46 = .ok (.iinc 4 1, 3) := by decide +kernel
theorem dX0_likeOf_49 : decode cX0_likeOf 49 = .ok (.goto (-44), 3) := by decide +kernel
theorem dX0_likeOf_52 : decode cX0_likeOf 52 = .ok (.iload_n 3, 1) := by decide +kernel
theorem dX0_likeOf_53 : decode cX0_likeOf 53 = .ok (.ireturn, 1) := by decide +kernel
theorem dX0_whose_0 : decode cX0_whose 0 = .ok (.aload_n 0, 1) := by decide +kernel
theorem dX0_whose_1 : decode cX0_whose 1 = .ok (.iload_n 1, 1) := by decide +kernel
theorem dX0_whose_2 : decode cX0_whose 2 = .ok (.invokevirtual 105, 3) := by decide +kernel
theorem dX0_whose_5 : decode cX0_whose 5 = .ok (.astore_n 2, 1) := by decide +kernel
theorem dX0_whose_6 : decode cX0_whose 6 = .ok (.bipush (-9), 2) := by decide +kernel
theorem dX0_whose_8 : decode cX0_whose 8 = .ok (.istore_n 3, 1) := by decide +kernel
theorem dX0_whose_9 : decode cX0_whose 9 = .ok (.iconst 0, 1) := by decide +kernel
theorem dX0_whose_10 : decode cX0_whose 10 = .ok (.istore 4, 2) := by decide +kernel
theorem dX0_whose_12 : decode cX0_whose 12 = .ok (.iload 4, 2) := by decide +kernel
theorem dX0_whose_14 : decode cX0_whose 14 = .ok (.iconst 4, 1) := by decide +kernel
theorem dX0_whose_15 : decode cX0_whose 15 = .ok (.if_icmp .ge 62, 3) := by decide +kernel
theorem dX0_whose_18 : decode cX0_whose 18 = .ok (.aload_n 0, 1) := by decide +kernel
theorem dX0_whose_19 : decode cX0_whose 19 = .ok (.getfield 83, 3) := by decide +kernel
theorem dX0_whose_22 : decode cX0_whose 22 = .ok (.iload 4, 2) := by decide +kernel
theorem dX0_whose_24 : decode cX0_whose 24 = .ok (.iaload, 1) := by decide +kernel
theorem dX0_whose_25 : decode cX0_whose 25 = .ok (.ifCond .le 46, 3) := by decide +kernel
theorem dX0_whose_28 : decode cX0_whose 28 = .ok (.iload_n 3, 1) := by decide +kernel
theorem dX0_whose_29 : decode cX0_whose 29 = .ok (.ifCond .lt 39, 3) := by decide +kernel
theorem dX0_whose_32 : decode cX0_whose 32 = .ok (.aload_n 0, 1) := by decide +kernel
theorem dX0_whose_33 : decode cX0_whose 33 = .ok (.aload_n 2, 1) := by decide +kernel
theorem dX0_whose_34 : decode cX0_whose 34 = .ok (.iload 4, 2) := by decide +kernel
theorem dX0_whose_36 : decode cX0_whose 36 = .ok (.invokevirtual 244, 3) := by decide +kernel
theorem dX0_whose_39 : decode cX0_whose 39 = .ok (.i2l, 1) := by decide +kernel
theorem dX0_whose_40 : decode cX0_whose 40 = .ok (.aload_n 0, 1) := by decide +kernel
theorem dX0_whose_41 : decode cX0_whose 41 = .ok (.getfield 83, 3) := by decide +kernel
theorem dX0_whose_44 : decode cX0_whose 44 = .ok (.iload_n 3, 1) := by decide +kernel
theorem dX0_whose_45 : decode cX0_whose 45 = .ok (.iaload, 1) := by decide +kernel
theorem dX0_whose_46 : decode cX0_whose 46 = .ok (.i2l, 1) := by decide +kernel
theorem dX0_whose_47 : decode cX0_whose 47 = .ok (.lmul, 1) := by decide +kernel
theorem dX0_whose_48 : decode cX0_whose 48 = .ok (.aload_n 0, 1) := by decide +kernel
theorem dX0_whose_49 : decode cX0_whose 49 = .ok (.aload_n 2, 1) := by decide +kernel
theorem dX0_whose_50 : decode cX0_whose 50 = .ok (.iload_n 3, 1) := by decide +kernel
theorem dX0_whose_51 : decode cX0_whose 51 = .ok (.invokevirtual 244, 3) := by decide +kernel
theorem dX0_whose_54 : decode cX0_whose 54 = .ok (.i2l, 1) := by decide +kernel
theorem dX0_whose_55 : decode cX0_whose 55 = .ok (.aload_n 0, 1) := by decide +kernel
theorem dX0_whose_56 : decode cX0_whose 56 = .ok (.getfield 83, 3) := by decide +kernel
theorem dX0_whose_59 : decode cX0_whose 59 = .ok (.iload 4, 2) := by decide +kernel
theorem dX0_whose_61 : decode cX0_whose 61 = .ok (.iaload, 1) := by decide +kernel
theorem dX0_whose_62 : decode cX0_whose 62 = .ok (.i2l, 1) := by decide +kernel
theorem dX0_whose_63 : decode cX0_whose 63 = .ok (.lmul, 1) := by decide +kernel
theorem dX0_whose_64 : decode cX0_whose 64 = .ok (.lcmp, 1) := by decide +kernel
theorem dX0_whose_65 : decode cX0_whose 65 = .ok (.ifCond .ge 6, 3) := by decide +kernel
theorem dX0_whose_68 : decode cX0_whose 68 = .ok (.iload 4, 2) := by decide +kernel
theorem dX0_whose_70 : decode cX0_whose 70 = .ok (.istore_n 3, 1) := by decide +kernel
theorem dX0_whose_71 : decode cX0_whose 71 = .ok (.iinc 4 1, 3) := by decide +kernel
theorem dX0_whose_74 : decode cX0_whose 74 = .ok (.goto (-62), 3) := by decide +kernel
theorem dX0_whose_77 : decode cX0_whose 77 = .ok (.iload_n 3, 1) := by decide +kernel
theorem dX0_whose_78 : decode cX0_whose 78 = .ok (.ireturn, 1) := by decide +kernel
theorem dX0_whose_79 : decode cX0_whose 79 = .ok (.astore_n 2, 1) := by decide +kernel
theorem dX0_whose_80 : decode cX0_whose 80 = .ok (.aload_n 0, 1) := by decide +kernel
theorem dX0_whose_81 : decode cX0_whose 81 = .ok (.aload_n 2, 1) := by decide +kernel
theorem dX0_whose_82 : decode cX0_whose 82 = .ok (.getfield 109, 3) := by decide +kernel
theorem dX0_whose_85 : decode cX0_whose 85 = .ok (.invokevirtual 97, 3) := by decide +kernel
theorem dX0_whose_88 : decode cX0_whose 88 = .ok (.ireturn, 1) := by decide +kernel
theorem dX0_count_0 : decode cX0_count 0 = .ok (.iload_n 1, 1) := by decide +kernel
theorem dX0_count_1 : decode cX0_count 1 = .ok (.bipush 10, 2) := by decide +kernel
theorem dX0_count_3 : decode cX0_count 3 = .ok (.if_icmp .le 19, 3) := by decide +kernel
theorem dX0_count_6 : decode cX0_count 6 = .ok (.iload_n 1, 1) := by decide +kernel
theorem dX0_count_7 : decode cX0_count 7 = .ok (.bipush 18, 2) := by decide +kernel
theorem dX0_count_9 : decode cX0_count 9 = .ok (.if_icmp .ge 13, 3) := by decide +kernel
theorem dX0_count_12 : decode cX0_count 12 = .ok (.aload_n 0, 1) := by decide +kernel
theorem dX0_count_13 : decode cX0_count 13 = .ok (.getfield 86, 3) := by decide +kernel
theorem dX0_count_16 : decode cX0_count 16 = .ok (.iload_n 1, 1) := by decide +kernel
theorem dX0_count_17 : decode cX0_count 17 = .ok (.bipush 10, 2) := by decide +kernel
theorem dX0_count_19 : decode cX0_count 19 = .ok (.isub, 1) := by decide +kernel
theorem dX0_count_20 : decode cX0_count 20 = .ok (.iaload, 1) := by decide +kernel
theorem dX0_count_21 : decode cX0_count 21 = .ok (.ireturn, 1) := by decide +kernel
theorem dX0_count_22 : decode cX0_count 22 = .ok (.iconst 0, 1) := by decide +kernel
theorem dX0_count_23 : decode cX0_count 23 = .ok (.istore_n 2, 1) := by decide +kernel
theorem dX0_count_24 : decode cX0_count 24 = .ok (.iload_n 1, 1) := by decide +kernel
theorem dX0_count_25 : decode cX0_count 25 = .ok (.tableswitch 142 0 10 #[59, 64, 97, 102, 107, 112, 117, 122, 127, 132, 137], 59) := by decide +kernel
theorem dX0_count_84 : decode cX0_count 84 = .ok (.aload_n 0, 1) := by decide +kernel
theorem dX0_count_85 : decode cX0_count 85 = .ok (.getfield 17, 3) := by decide +kernel
theorem dX0_count_88 : decode cX0_count 88 = .ok (.ireturn, 1) := by decide +kernel
theorem dX0_count_89 : decode cX0_count 89 = .ok (.iconst 0, 1) := by decide +kernel
theorem dX0_count_90 : decode cX0_count 90 = .ok (.istore_n 3, 1) := by decide +kernel
theorem dX0_count_91 : decode cX0_count 91 = .ok (.iload_n 3, 1) := by decide +kernel
theorem dX0_count_92 : decode cX0_count 92 = .ok (.bipush 12, 2) := by decide +kernel
theorem dX0_count_94 : decode cX0_count 94 = .ok (.if_icmp .ge 26, 3) := by decide +kernel
theorem dX0_count_97 : decode cX0_count 97 = .ok (.iload_n 2, 1) := by decide +kernel
theorem dX0_count_98 : decode cX0_count 98 = .ok (.aload_n 0, 1) := by decide +kernel
theorem dX0_count_99 : decode cX0_count 99 = .ok (.getfield 13, 3) := by decide +kernel
theorem dX0_count_102 : decode cX0_count 102 = .ok (.iload_n 3, 1) := by decide +kernel
theorem dX0_count_103 : decode cX0_count 103 = .ok (.aaload, 1) := by decide +kernel
theorem dX0_count_104 : decode cX0_count 104 = .ok (.ifnonnull 7, 3) := by decide +kernel
theorem dX0_count_107 : decode cX0_count 107 = .ok (.iconst 0, 1) := by decide +kernel
theorem dX0_count_108 : decode cX0_count 108 = .ok (.goto 4, 3) := by decide +kernel
theorem dX0_count_111 : decode cX0_count 111 = .ok (.iconst 1, 1) := by decide +kernel
theorem dX0_count_112 : decode cX0_count 112 = .ok (.iadd, 1) := by decide +kernel
theorem dX0_count_113 : decode cX0_count 113 = .ok (.istore_n 2, 1) := by decide +kernel
theorem dX0_count_114 : decode cX0_count 114 = .ok (.iinc 3 1, 3) := by decide +kernel
theorem dX0_count_117 : decode cX0_count 117 = .ok (.goto (-26), 3) := by decide +kernel
theorem dX0_count_120 : decode cX0_count 120 = .ok (.iload_n 2, 1) := by decide +kernel
theorem dX0_count_121 : decode cX0_count 121 = .ok (.ireturn, 1) := by decide +kernel
theorem dX0_count_122 : decode cX0_count 122 = .ok (.aload_n 0, 1) := by decide +kernel
theorem dX0_count_123 : decode cX0_count 123 = .ok (.getfield 32, 3) := by decide +kernel
theorem dX0_count_126 : decode cX0_count 126 = .ok (.ireturn, 1) := by decide +kernel
theorem dX0_count_127 : decode cX0_count 127 = .ok (.aload_n 0, 1) := by decide +kernel
theorem dX0_count_128 : decode cX0_count 128 = .ok (.getfield 145, 3) := by decide +kernel
theorem dX0_count_131 : decode cX0_count 131 = .ok (.ireturn, 1) := by decide +kernel
theorem dX0_count_132 : decode cX0_count 132 = .ok (.aload_n 0, 1) := by decide +kernel
theorem dX0_count_133 : decode cX0_count 133 = .ok (.getfield 154, 3) := by decide +kernel
theorem dX0_count_136 : decode cX0_count 136 = .ok (.ireturn, 1) := by decide +kernel
theorem dX0_count_137 : decode cX0_count 137 = .ok (.aload_n 0, 1) := by decide +kernel
theorem dX0_count_138 : decode cX0_count 138 = .ok (.getfield 142, 3) := by decide +kernel
theorem dX0_count_141 : decode cX0_count 141 = .ok (.ireturn, 1) := by decide +kernel
theorem dX0_count_142 : decode cX0_count 142 = .ok (.aload_n 0, 1) := by decide +kernel
theorem dX0_count_143 : decode cX0_count 143 = .ok (.getfield 157, 3) := by decide +kernel
theorem dX0_count_146 : decode cX0_count 146 = .ok (.ireturn, 1) := by decide +kernel
theorem dX0_count_147 : decode cX0_count 147 = .ok (.aload_n 0, 1) := by decide +kernel
theorem dX0_count_148 : decode cX0_count 148 = .ok (.getfield 160, 3) := by decide +kernel
theorem dX0_count_151 : decode cX0_count 151 = .ok (.ireturn, 1) := by decide +kernel
theorem dX0_count_152 : decode cX0_count 152 = .ok (.aload_n 0, 1) := by decide +kernel
theorem dX0_count_153 : decode cX0_count 153 = .ok (.getfield 186, 3) := by decide +kernel
theorem dX0_count_156 : decode cX0_count 156 = .ok (.ireturn, 1) := by decide +kernel
theorem dX0_count_157 : decode cX0_count 157 = .ok (.aload_n 0, 1) := by decide +kernel
theorem dX0_count_158 : decode cX0_count 158 = .ok (.getfield 189, 3) := by decide +kernel
theorem dX0_count_161 : decode cX0_count 161 = .ok (.ireturn, 1) := by decide +kernel
theorem dX0_count_162 : decode cX0_count 162 = .ok (.aload_n 0, 1) := by decide +kernel
theorem dX0_count_163 : decode cX0_count 163 = .ok (.invokevirtual 211, 3) := by decide +kernel
theorem dX0_count_166 : decode cX0_count 166 = .ok (.ireturn, 1) := by decide +kernel
theorem dX0_count_167 : decode cX0_count 167 = .ok (.bipush (-9), 2) := by decide +kernel
theorem dX0_count_169 : decode cX0_count 169 = .ok (.ireturn, 1) := by decide +kernel
