set_option maxRecDepth 100000
theorem dX0_letter_74 : decode cX0_letter 74 = .ok (.iconst 1, 1) := by decide +kernel
theorem dX0_letter_75 : decode cX0_letter 75 = .ok (.ireturn, 1) := by decide +kernel
theorem dX0_isCut_0 : decode cX0_isCut 0 = .ok (.iload_n 1, 1) := by decide +kernel
theorem dX0_isCut_1 : decode cX0_isCut 1 = .ok (.bipush 10, 2) := by decide +kernel
theorem dX0_isCut_3 : decode cX0_isCut 3 = .ok (.invokestatic 3, 3) := by decide +kernel
theorem dX0_isCut_6 : decode cX0_isCut 6 = .ok (.ifCond .eq 24, 3) := by decide +kernel
theorem dX0_isCut_9 : decode cX0_isCut 9 = .ok (.aload_n 0, 1) := by decide +kernel
theorem dX0_isCut_10 : decode cX0_isCut 10 = .ok (.aload_n 0, 1) := by decide +kernel
theorem dX0_isCut_11 : decode cX0_isCut 11 = .ok (.getfield 35, 3) := by decide +kernel
theorem dX0_isCut_14 : decode cX0_isCut 14 = .ok (.iload_n 1, 1) := by decide +kernel
theorem dX0_isCut_15 : decode cX0_isCut 15 = .ok (.aaload, 1) := by decide +kernel
theorem dX0_isCut_16 : decode cX0_isCut 16 = .ok (.invokevirtual 43, 3) := by decide +kernel
theorem dX0_isCut_19 : decode cX0_isCut 19 = .ok (.ifCond .eq 7, 3) := by decide +kernel
theorem dX0_isCut_22 : decode cX0_isCut 22 = .ok (.iconst 1, 1) := by decide +kernel
theorem dX0_isCut_23 : decode cX0_isCut 23 = .ok (.goto 12, 3) := by decide +kernel
theorem dX0_isCut_26 : decode cX0_isCut 26 = .ok (.iconst 0, 1) := by decide +kernel
theorem dX0_isCut_27 : decode cX0_isCut 27 = .ok (.goto 8, 3) := by decide +kernel
theorem dX0_isCut_30 : decode cX0_isCut 30 = .ok (.aload_n 0, 1) := by decide +kernel
theorem dX0_isCut_31 : decode cX0_isCut 31 = .ok (.iconst (-1), 1) := by decide +kernel
theorem dX0_isCut_32 : decode cX0_isCut 32 = .ok (.invokevirtual 97, 3) := by decide +kernel
theorem dX0_isCut_35 : decode cX0_isCut 35 = .ok (.ireturn, 1) := by decide +kernel
theorem dX0_isCutLetter_0 : decode cX0_isCutLetter 0 = .ok (.aload_n 0, 1) := by decide +kernel
theorem dX0_isCutLetter_1 : decode cX0_isCutLetter 1 = .ok (.getfield 13, 3) := by decide +kernel
theorem dX0_isCutLetter_4 : decode cX0_isCutLetter 4 = .ok (.aload_n 1, 1) := by decide +kernel
theorem dX0_isCutLetter_5 : decode cX0_isCutLetter 5 = .ok (.getfield 21, 3) := by decide +kernel
theorem dX0_isCutLetter_8 : decode cX0_isCutLetter 8 = .ok (.aaload, 1) := by decide +kernel
theorem dX0_isCutLetter_9 : decode cX0_isCutLetter 9 = .ok (.ifnull 31, 3) := by decide +kernel
theorem dX0_isCutLetter_12 : decode cX0_isCutLetter 12 = .ok (.aload_n 0, 1) := by decide +kernel
theorem dX0_isCutLetter_13 : decode cX0_isCutLetter 13 = .ok (.getfield 13, 3) := by decide +kernel
theorem dX0_isCutLetter_16 : decode cX0_isCutLetter 16 = .ok (.aload_n 1, 1) := by decide +kernel
theorem dX0_isCutLetter_17 : decode cX0_isCutLetter 17 = .ok (.getfield 26, 3) := by decide +kernel
theorem dX0_isCutLetter_20 : decode cX0_isCutLetter 20 = .ok (.aaload, 1) := by decide +kernel
theorem dX0_isCutLetter_21 : decode cX0_isCutLetter 21 = .ok (.ifnull 19, 3) := by decide +kernel
theorem dX0_isCutLetter_24 : decode cX0_isCutLetter 24 = .ok (.aload_n 0, 1) := by decide +kernel
theorem dX0_isCutLetter_25 : decode cX0_isCutLetter 25 = .ok (.getfield 13, 3) := by decide +kernel
theorem dX0_isCutLetter_28 : decode cX0_isCutLetter 28 = .ok (.aload_n 1, 1) := by decide +kernel
theorem dX0_isCutLetter_29 : decode cX0_isCutLetter 29 = .ok (.getfield 29, 3) := by decide +kernel
theorem dX0_isCutLetter_32 : decode cX0_isCutLetter 32 = .ok (.aaload, 1) := by decide +kernel
theorem dX0_isCutLetter_33 : decode cX0_isCutLetter 33 = .ok (.ifnull 7, 3) := by decide +kernel
theorem dX0_isCutLetter_36 : decode cX0_isCutLetter 36 = .ok (.iconst 1, 1) := by decide +kernel
theorem dX0_isCutLetter_37 : decode cX0_isCutLetter 37 = .ok (.goto 4, 3) := by decide +kernel
theorem dX0_isCutLetter_40 : decode cX0_isCutLetter 40 = .ok (.iconst 0, 1) := by decide +kernel
theorem dX0_isCutLetter_41 : decode cX0_isCutLetter 41 = .ok (.ireturn, 1) := by decide +kernel
theorem dX0_peg_0 : decode cX0_peg 0 = .ok (.iload_n 1, 1) := by decide +kernel
theorem dX0_peg_1 : decode cX0_peg 1 = .ok (.bipush 10, 2) := by decide +kernel
theorem dX0_peg_3 : decode cX0_peg 3 = .ok (.invokestatic 3, 3) := by decide +kernel
theorem dX0_peg_6 : decode cX0_peg 6 = .ok (.ifCond .ne 9, 3) := by decide +kernel
theorem dX0_peg_9 : decode cX0_peg 9 = .ok (.aload_n 0, 1) := by decide +kernel
theorem dX0_peg_10 : decode cX0_peg 10 = .ok (.iconst (-1), 1) := by decide +kernel
theorem dX0_peg_11 : decode cX0_peg 11 = .ok (.invokevirtual 97, 3) := by decide +kernel
theorem dX0_peg_14 : decode cX0_peg 14 = .ok (.ireturn, 1) := by decide +kernel
theorem dX0_peg_15 : decode cX0_peg 15 = .ok (.aload_n 0, 1) := by decide +kernel
theorem dX0_peg_16 : decode cX0_peg 16 = .ok (.getfield 32, 3) := by decide +kernel
theorem dX0_peg_19 : decode cX0_peg 19 = .ok (.bipush 12, 2) := by decide +kernel
theorem dX0_peg_21 : decode cX0_peg 21 = .ok (.if_icmp .ne 10, 3) := by decide +kernel
theorem dX0_peg_24 : decode cX0_peg 24 = .ok (.aload_n 0, 1) := by decide +kernel
theorem dX0_peg_25 : decode cX0_peg 25 = .ok (.bipush (-6), 2) := by decide +kernel
theorem dX0_peg_27 : decode cX0_peg 27 = .ok (.invokevirtual 97, 3) := by decide +kernel
theorem dX0_peg_30 : decode cX0_peg 30 = .ok (.ireturn, 1) := by decide +kernel
theorem dX0_peg_31 : decode cX0_peg 31 = .ok (.aload_n 0, 1) := by decide +kernel
theorem dX0_peg_32 : decode cX0_peg 32 = .ok (.getfield 39, 3) := by decide +kernel
theorem dX0_peg_35 : decode cX0_peg 35 = .ok (.aload_n 0, 1) := by decide +kernel
theorem dX0_peg_36 : decode cX0_peg 36 = .ok (.getfield 32, 3) := by decide +kernel
theorem dX0_peg_39 : decode cX0_peg 39 = .ok (.iload_n 1, 1) := by decide +kernel
theorem dX0_peg_40 : decode cX0_peg 40 = .ok (.iastore, 1) := by decide +kernel
theorem dX0_peg_41 : decode cX0_peg 41 = .ok (.aload_n 0, 1) := by decide +kernel
theorem dX0_peg_42 : decode cX0_peg 42 = .ok (.dup, 1) := by decide +kernel
theorem dX0_peg_43 : decode cX0_peg 43 = .ok (.getfield 32, 3) := by decide +kernel
theorem dX0_peg_46 : decode cX0_peg 46 = .ok (.iconst 1, 1) := by decide +kernel
theorem dX0_peg_47 : decode cX0_peg 47 = .ok (.iadd, 1) := by decide +kernel
theorem dX0_peg_48 : decode cX0_peg 48 = .ok (.putfield 32, 3) := by decide +kernel
theorem dX0_peg_51 : decode cX0_peg 51 = .ok (.aload_n 0, 1) := by decide +kernel
theorem dX0_peg_52 : decode cX0_peg 52 = .ok (.getfield 32, 3) := by decide +kernel
theorem dX0_peg_55 : decode cX0_peg 55 = .ok (.ireturn, 1) := by decide +kernel
theorem dX0_unpeg_0 : decode cX0_unpeg 0 = .ok (.aload_n 0, 1) := by decide +kernel
theorem dX0_unpeg_1 : decode cX0_unpeg 1 = .ok (.getfield 32, 3) := by decide +kernel
theorem dX0_unpeg_4 : decode cX0_unpeg 4 = .ok (.ifCond .ne 10, 3) := by decide +kernel
theorem dX0_unpeg_7 : decode cX0_unpeg 7 = .ok (.aload_n 0, 1) := by decide +kernel
theorem dX0_unpeg_8 : decode cX0_unpeg 8 = .ok (.bipush (-3), 2) := by decide +kernel
theorem dX0_unpeg_10 : decode cX0_unpeg 10 = .ok (.invokevirtual 97, 3) := by decide +kernel
theorem dX0_unpeg_13 : decode cX0_unpeg 13 = .ok (.ireturn, 1) := by decide +kernel
theorem dX0_unpeg_14 : decode cX0_unpeg 14 = .ok (.aload_n 0, 1) := by decide +kernel
theorem dX0_unpeg_15 : decode cX0_unpeg 15 = .ok (.dup, 1) := by decide +kernel
theorem dX0_unpeg_16 : decode cX0_unpeg 16 = .ok (.getfield 32, 3) := by decide +kernel
theorem dX0_unpeg_19 : decode cX0_unpeg 19 = .ok (.iconst 1, 1) := by decide +kernel
theorem dX0_unpeg_20 : decode cX0_unpeg 20 = .ok (.isub, 1) := by decide +kernel
theorem dX0_unpeg_21 : decode cX0_unpeg 21 = .ok (.putfield 32, 3) := by decide +kernel
theorem dX0_unpeg_24 : decode cX0_unpeg 24 = .ok (.aload_n 0, 1) := by decide +kernel
theorem dX0_unpeg_25 : decode cX0_unpeg 25 = .ok (.getfield 32, 3) := by decide +kernel
theorem dX0_unpeg_28 : decode cX0_unpeg 28 = .ok (.ireturn, 1) := by decide +kernel
theorem dX0_advance_0 : decode cX0_advance 0 = .ok (.iload_n 1, 1) := by decide +kernel
theorem dX0_advance_1 : decode cX0_advance 1 = .ok (.iconst 0, 1) := by decide +kernel
theorem dX0_advance_2 : decode cX0_advance 2 = .ok (.bipush 9, 2) := by decide +kernel
theorem dX0_advance_4 : decode cX0_advance 4 = .ok (.invokestatic 93, 3) := by decide +kernel
theorem dX0_advance_7 : decode cX0_advance 7 = .ok (.istore_n 2, 1) := by decide +kernel
theorem dX0_advance_8 : decode cX0_advance 8 = .ok (.iload_n 2, 1) := by decide +kernel
theorem dX0_advance_9 : decode cX0_advance 9 = .ok (.ifCond .eq 9, 3) := by decide +kernel
theorem dX0_advance_12 : decode cX0_advance 12 = .ok (.aload_n 0, 1) := by decide +kernel
theorem dX0_advance_13 : decode cX0_advance 13 = .ok (.iload_n 2, 1) := by decide +kernel
theorem dX0_advance_14 : decode cX0_advance 14 = .ok (.invokevirtual 97, 3) := by decide +kernel
theorem dX0_advance_17 : decode cX0_advance 17 = .ok (.ireturn, 1) := by decide +kernel
theorem dX0_advance_18 : decode cX0_advance 18 = .ok (.aload_n 0, 1) := by decide +kernel
theorem dX0_advance_19 : decode cX0_advance 19 = .ok (.getfield 62, 3) := by decide +kernel
theorem dX0_advance_22 : decode cX0_advance 22 = .ok (.istore_n 3, 1) := by decide +kernel
theorem dX0_advance_23 : decode cX0_advance 23 = .ok (.aload_n 0, 1) := by decide +kernel
theorem dX0_advance_24 : decode cX0_advance 24 = .ok (.iload_n 1, 1) := by decide +kernel
theorem dX0_advance_25 : decode cX0_advance 25 = .ok (.putfield 62, 3) := by decide +kernel
theorem dX0_advance_28 : decode cX0_advance 28 = .ok (.iload_n 3, 1) := by decide +kernel
theorem dX0_advance_29 : decode cX0_advance 29 = .ok (.ireturn, 1) := by decide +kernel
theorem dX0_pull_0 : decode cX0_pull 0 = .ok (.iload_n 1, 1) := by decide +kernel
theorem dX0_pull_1 : decode cX0_pull 1 = .ok (.iconst 1, 1) := by decide +kernel
theorem dX0_pull_2 : decode cX0_pull 2 = .ok (.bipush 20, 2) := by decide +kernel
theorem dX0_pull_4 : decode cX0_pull 4 = .ok (.invokestatic 93, 3) := by decide +kernel
theorem dX0_pull_7 : decode cX0_pull 7 = .ok (.istore_n 2, 1) := by decide +kernel
theorem dX0_pull_8 : decode cX0_pull 8 = .ok (.iload_n 2, 1) := by decide +kernel
theorem dX0_pull_9 : decode cX0_pull 9 = .ok (.ifCond .eq 9, 3) := by decide +kernel
theorem dX0_pull_12 : decode cX0_pull 12 = .ok (.aload_n 0, 1) := by decide +kernel
theorem dX0_pull_13 : decode cX0_pull 13 = .ok (.iload_n 2, 1) := by decide +kernel
theorem dX0_pull_14 : decode cX0_pull 14 = .ok (.invokevirtual 97, 3) := by decide +kernel
theorem dX0_pull_17 : decode cX0_pull 17 = .ok (.ireturn, 1) := by decide +kernel
theorem dX0_pull_18 : decode cX0_pull 18 = .ok (.aload_n 0, 1) := by decide +kernel
theorem dX0_pull_19 : decode cX0_pull 19 = .ok (.getfield 89, 3) := by decide +kernel
theorem dX0_pull_22 : decode cX0_pull 22 = .ok (.istore_n 3, 1) := by decide +kernel
theorem dX0_pull_23 : decode cX0_pull 23 = .ok (.aload_n 0, 1) := by decide +kernel
theorem dX0_pull_24 : decode cX0_pull 24 = .ok (.iload_n 1, 1) := by decide +kernel
theorem dX0_pull_25 : decode cX0_pull 25 = .ok (.putfield 89, 3) := by decide +kernel
theorem dX0_pull_28 : decode cX0_pull 28 = .ok (.iload_n 3, 1) := by decide +kernel
theorem dX0_pull_29 : decode cX0_pull 29 = .ok (.ireturn, 1) := by decide +kernel
theorem dX0_wind_0 : decode cX0_wind 0 = .ok (.iload_n 1, 1) := by decide +kernel
theorem dX0_wind_1 : decode cX0_wind 1 = .ok (.iconst 0, 1) := by decide +kernel
theorem dX0_wind_2 : decode cX0_wind 2 = .ok (.sipush 5000, 3) := by decide +kernel
theorem dX0_wind_5 : decode cX0_wind 5 = .ok (.invokestatic 93, 3) := by decide +kernel
theorem dX0_wind_8 : decode cX0_wind 8 = .ok (.istore_n 2, 1) := by decide +kernel
theorem dX0_wind_9 : decode cX0_wind 9 = .ok (.iload_n 2, 1) := by decide +kernel
theorem dX0_wind_10 : decode cX0_wind 10 = .ok (.ifCond .eq 9, 3) := by decide +kernel
theorem dX0_wind_13 : decode cX0_wind 13 = .ok (.aload_n 0, 1) := by decide +kernel
theorem dX0_wind_14 : decode cX0_wind 14 = .ok (.iload_n 2, 1) := by decide +kernel
theorem dX0_wind_15 : decode cX0_wind 15 = .ok (.invokevirtual 97, 3) := by decide +kernel
theorem dX0_wind_18 : decode cX0_wind 18 = .ok (.ireturn, 1) := by decide +kernel
theorem dX0_wind_19 : decode cX0_wind 19 = .ok (.aload_n 0, 1) := by decide +kernel
theorem dX0_wind_20 : decode cX0_wind 20 = .ok (.dup, 1) := by decide +kernel
theorem dX0_wind_21 : decode cX0_wind 21 = .ok (.getfield 142, 3) := by decide +kernel
theorem dX0_wind_24 : decode cX0_wind 24 = .ok (.aload_n 0, 1) := by decide +kernel
theorem dX0_wind_25 : decode cX0_wind 25 = .ok (.getfield 145, 3) := by decide +kernel
theorem dX0_wind_28 : decode cX0_wind 28 = .ok (.iload_n 1, 1) := by decide +kernel
theorem dX0_wind_29 : decode cX0_wind 29 = .ok (.iadd, 1) := by decide +kernel
theorem dX0_wind_30 : decode cX0_wind 30 = .ok (.sipush 1000, 3) := by decide +kernel
theorem dX0_wind_33 : decode cX0_wind 33 = .ok (.if_icmp .le 7, 3) := by decide +kernel
theorem dX0_wind_36 : decode cX0_wind 36 = .ok (.iconst 1, 1) := by decide +kernel
theorem dX0_wind_37 : decode cX0_wind 37 = .ok (.goto 4, 3) := by decide +kernel
theorem dX0_wind_40 : decode cX0_wind 40 = .ok (.iconst 0, 1) := by decide +kernel
theorem dX0_wind_41 : decode cX0_wind 41 = .ok (.iadd, 1) := by decide +kernel
theorem dX0_wind_42 : decode cX0_wind 42 = .ok (.putfield 142, 3) := by decide +kernel
theorem dX0_wind_45 : decode cX0_wind 45 = .ok (.aload_n 0, 1) := by decide +kernel
theorem dX0_wind_46 : decode cX0_wind 46 = .ok (.sipush 1000, 3) := by decide +kernel
theorem dX0_wind_49 : decode cX0_wind 49 = .ok (.aload_n 0, 1) := by decide +kernel
theorem dX0_wind_50 : decode cX0_wind 50 = .ok (.getfield 145, 3) := by decide +kernel
theorem dX0_wind_53 : decode cX0_wind 53 = .ok (.iload_n 1, 1) := by decide +kernel
theorem dX0_wind_54 : decode cX0_wind 54 = .ok (.iadd, 1) := by decide +kernel
theorem dX0_wind_55 : decode cX0_wind 55 = .ok (.invokestatic 148, 3) := by decide +kernel
theorem dX0_wind_58 : decode cX0_wind 58 = .ok (.putfield 145, 3) := by decide +kernel
theorem dX0_wind_61 : decode cX0_wind 61 = .ok (.aload_n 0, 1) := by decide +kernel
theorem dX0_wind_62 : decode cX0_wind 62 = .ok (.getfield 145, 3) := by decide +kernel
theorem dX0_wind_65 : decode cX0_wind 65 = .ok (.ireturn, 1) := by decide +kernel
theorem dX0_show_0 : decode cX0_show 0 = .ok (.aload_n 0, 1) := by decide +kernel
theorem dX0_show_1 : decode cX0_show 1 = .ok (.invokevirtual 163, 3) := by decide +kernel
theorem dX0_show_4 : decode cX0_show 4 = .ok (.ifCond .ne 10, 3) := by decide +kernel
theorem dX0_show_7 : decode cX0_show 7 = .ok (.aload_n 0, 1) := by decide +kernel
theorem dX0_show_8 : decode cX0_show 8 = .ok (.bipush (-3), 2) := by decide +kernel
theorem dX0_show_10 : decode cX0_show 10 = .ok (.invokevirtual 97, 3) := by decide +kernel
theorem dX0_show_13 : decode cX0_show 13 = .ok (.ireturn, 1) := by decide +kernel
theorem dX0_show_14 : decode cX0_show 14 = .ok (.aload_n 0, 1) := by decide +kernel
theorem dX0_show_15 : decode cX0_show 15 = .ok (.getfield 71, 3) := by decide +kernel
theorem dX0_show_18 : decode cX0_show 18 = .ok (.invokevirtual 101, 3) := by decide +kernel
theorem dX0_show_21 : decode cX0_show 21 = .ok (.new 167, 3) := by decide +kernel
theorem dX0_show_24 : decode cX0_show 24 = .ok (.dup, 1) := by decide +kernel
theorem dX0_show_25 : decode cX0_show 25 = .ok (.aload_n 0, 1) := by decide +kernel
theorem dX0_show_26 : decode cX0_show 26 = .ok (.aload_n 0, 1) := by decide +kernel
theorem dX0_show_27 : decode cX0_show 27 = .ok (.getfield 71, 3) := by decide +kernel
theorem dX0_show_30 : decode cX0_show 30 = .ok (.aload_n 0, 1) := by decide +kernel
theorem dX0_show_31 : decode cX0_show 31 = .ok (.iconst 0, 1) := by decide +kernel
theorem dX0_show_32 : decode cX0_show 32 = .ok (.invokevirtual 169, 3) := by decide +kernel
theorem dX0_show_35 : decode cX0_show 35 = .ok (.aload_n 0, 1) := by decide +kernel
theorem dX0_show_36 : decode cX0_show 36 = .ok (.iconst 1, 1) := by decide +kernel
theorem dX0_show_37 : decode cX0_show 37 = .ok (.invokevirtual 169, 3) := by decide +kernel
theorem dX0_show_40 : decode cX0_show 40 = .ok (.aload_n 0, 1) := by decide +kernel
theorem dX0_show_41 : decode cX0_show 41 = .ok (.iconst 2, 1) := by decide +kernel
theorem dX0_show_42 : decode cX0_show 42 = .ok (.invokevirtual 169, 3) := by decide +kernel
theorem dX0_show_45 : decode cX0_show 45 = .ok (.invokespecial 173, 3) := by decide +kernel
theorem dX0_show_48 : decode cX0_show 48 = .ok (.astore_n 1, 1) := by decide +kernel
theorem dX0_show_49 : decode cX0_show 49 = .ok (.aload_n 0, 1) := by decide +kernel
theorem dX0_show_50 : decode cX0_show 50 = .ok (.getfield 160, 3) := by decide +kernel
theorem dX0_show_53 : decode cX0_show 53 = .ok (.istore_n 2, 1) := by decide +kernel
theorem dX0_show_54 : decode cX0_show 54 = .ok (.iconst 1, 1) := by decide +kernel
theorem dX0_show_55 : decode cX0_show 55 = .ok (.istore_n 3, 1) := by decide +kernel
theorem dX0_show_56 : decode cX0_show 56 = .ok (.iconst 0, 1) := by decide +kernel
theorem dX0_show_57 : decode cX0_show 57 = .ok (.istore 4, 2) := by decide +kernel
theorem dX0_show_59 : decode cX0_show 59 = .ok (.iload 4, 2) := by decide +kernel
theorem dX0_show_61 : decode cX0_show 61 = .ok (.aload_n 0, 1) := by decide +kernel
theorem dX0_show_62 : decode cX0_show 62 = .ok (.getfield 32, 3) := by decide +kernel
theorem dX0_show_65 : decode cX0_show 65 = .ok (.if_icmp .ge 57, 3) := by decide +kernel
theorem dX0_show_68 : decode cX0_show 68 = .ok (.iconst 0, 1) := by decide +kernel
theorem dX0_show_69 : decode cX0_show 69 = .ok (.istore 5, 2) := by decide +kernel
theorem dX0_show_71 : decode cX0_show 71 = .ok (.iload 5, 2) := by decide +kernel
theorem dX0_show_73 : decode cX0_show 73 = .ok (.aload_n 0, 1) := by decide +kernel
theorem dX0_show_74 : decode cX0_show 74 = .ok (.getfield 17, 3) := by decide +kernel
theorem dX0_show_77 : decode cX0_show 77 = .ok (.if_icmp .ge 39, 3) := by decide +kernel
theorem dX0_show_80 : decode cX0_show 80 = .ok (.aload_n 1, 1) := by decide +kernel
theorem dX0_show_81 : decode cX0_show 81 = .ok (.iload 4, 2) := by decide +kernel
theorem dX0_show_83 : decode cX0_show 83 = .ok (.invokevirtual 176, 3) := by decide +kernel
theorem dX0_show_86 : decode cX0_show 86 = .ok (.ifCond .eq 30, 3) := by decide +kernel
theorem dX0_show_89 : decode cX0_show 89 = .ok (.iload_n 3, 1) := by decide +kernel
theorem dX0_show_90 : decode cX0_show 90 = .ok (.ifCond .eq 26, 3) := by decide +kernel
theorem dX0_show_93 : decode cX0_show 93 = .ok (.aload_n 0, 1) := by decide +kernel
theorem dX0_show_94 : decode cX0_show 94 = .ok (.invokevirtual 180, 3) := by decide +kernel
theorem dX0_show_97 : decode cX0_show 97 = .ok (.istore_n 3, 1) := by decide +kernel
theorem dX0_show_98 : decode cX0_show 98 = .ok (.iload_n 3, 1) := by decide +kernel
theorem dX0_show_99 : decode cX0_show 99 = .ok (.ifCond .eq 11, 3) := by decide +kernel
theorem dX0_show_102 : decode cX0_show 102 = .ok (.aload_n 1, 1) := by decide +kernel
theorem dX0_show_103 : decode cX0_show 103 = .ok (.iload 4, 2) := by decide +kernel
theorem dX0_show_105 : decode cX0_show 105 = .ok (.iload 5, 2) := by decide +kernel
theorem dX0_show_107 : decode cX0_show 107 = .ok (.invokevirtual 183, 3) := by decide +kernel
theorem dX0_show_110 : decode cX0_show 110 = .ok (.iinc 5 1, 3) := by decide +kernel
theorem dX0_show_113 : decode cX0_show 113 = .ok (.goto (-42), 3) := by decide +kernel
theorem dX0_show_116 : decode cX0_show 116 = .ok (.iinc 4 1, 3) := by decide +kernel
theorem dX0_show_119 : decode cX0_show 119 = .ok (.goto (-60), 3) := by decide +kernel
theorem dX0_show_122 : decode cX0_show 122 = .ok (.aload_n 0, 1) := by decide +kernel
theorem dX0_show_123 : decode cX0_show 123 = .ok (.dup, 1) := by decide +kernel
theorem dX0_show_124 : decode cX0_show 124 = .ok (.getfield 186, 3) := by decide +kernel
theorem dX0_show_127 : decode cX0_show 127 = .ok (.iconst 1, 1) := by decide +kernel
theorem dX0_show_128 : decode cX0_show 128 = .ok (.iadd, 1) := by decide +kernel
theorem dX0_show_129 : decode cX0_show 129 = .ok (.putfield 186, 3) := by decide +kernel
theorem dX0_show_132 : decode cX0_show 132 = .ok (.aload_n 0, 1) := by decide +kernel
theorem dX0_show_133 : decode cX0_show 133 = .ok (.dup, 1) := by decide +kernel
theorem dX0_show_134 : decode cX0_show 134 = .ok (.getfield 189, 3) := by decide +kernel
theorem dX0_show_137 : decode cX0_show 137 = .ok (.iload_n 3, 1) := by decide +kernel
theorem dX0_show_138 : decode cX0_show 138 = .ok (.ifCond .eq 7, 3) := by decide +kernel
theorem dX0_show_141 : decode cX0_show 141 = .ok (.iconst 1, 1) := by decide +kernel
theorem dX0_show_142 : decode cX0_show 142 = .ok (.goto 4, 3) := by decide +kernel
theorem dX0_show_145 : decode cX0_show 145 = .ok (.iconst 0, 1) := by decide +kernel
theorem dX0_show_146 : decode cX0_show 146 = .ok (.iadd, 1) := by decide +kernel
theorem dX0_show_147 : decode cX0_show 147 = .ok (.putfield 189, 3) := by decide +kernel
theorem dX0_show_150 : decode cX0_show 150 = .ok (.aload_n 0, 1) := by decide +kernel
theorem dX0_show_151 : decode cX0_show 151 = .ok (.getfield 160, 3) := by decide +kernel
theorem dX0_show_154 : decode cX0_show 154 = .ok (.iload_n 2, 1) := by decide +kernel
theorem dX0_show_155 : decode cX0_show 155 = .ok (.isub, 1) := by decide +kernel
theorem dX0_show_156 : decode cX0_show 156 = .ok (.ireturn, 1) := by decide +kernel
theorem dX0_areCut_0 : decode cX0_areCut 0 = .ok (.iconst 1, 1) := by decide +kernel
theorem dX0_areCut_1 : decode cX0_areCut 1 = .ok (.istore_n 1, 1) := by decide +kernel
theorem dX0_areCut_2 : decode cX0_areCut 2 = .ok (.iconst 0, 1) := by decide +kernel
theorem dX0_areCut_3 : decode cX0_areCut 3 = .ok (.istore_n 2, 1) := by decide +kernel
theorem dX0_areCut_4 : decode cX0_areCut 4 = .ok (.iload_n 2, 1) := by decide +kernel
theorem dX0_areCut_5 : decode cX0_areCut 5 = .ok (.aload_n 0, 1) := by decide +kernel
theorem dX0_areCut_6 : decode cX0_areCut 6 = .ok (.getfield 32, 3) := by decide +kernel
theorem dX0_areCut_9 : decode cX0_areCut 9 = .ok (.if_icmp .ge 37, 3) := by decide +kernel
theorem dX0_areCut_12 : decode cX0_areCut 12 = .ok (.iload_n 1, 1) := by decide +kernel
theorem dX0_areCut_13 : decode cX0_areCut 13 = .ok (.ifCond .eq 25, 3) := by decide +kernel
theorem dX0_areCut_16 : decode cX0_areCut 16 = .ok (.aload_n 0, 1) := by decide +kernel
theorem dX0_areCut_17 : decode cX0_areCut 17 = .ok (.aload_n 0, 1) := by decide +kernel
theorem dX0_areCut_18 : decode cX0_areCut 18 = .ok (.getfield 35, 3) := by decide +kernel
theorem dX0_areCut_21 : decode cX0_areCut 21 = .ok (.aload_n 0, 1) := by decide +kernel
theorem dX0_areCut_22 : decode cX0_areCut 22 = .ok (.getfield 39, 3) := by decide +kernel
theorem dX0_areCut_25 : decode cX0_areCut 25 = .ok (.iload_n 2, 1) := by decide +kernel
theorem dX0_areCut_26 : decode cX0_areCut 26 = .ok (.iaload, 1) := by decide +kernel
theorem dX0_areCut_27 : decode cX0_areCut 27 = .ok (.aaload, 1) := by decide +kernel
theorem dX0_areCut_28 : decode cX0_areCut 28 = .ok (.invokevirtual 43, 3) := by decide +kernel
theorem dX0_areCut_31 : decode cX0_areCut 31 = .ok (.ifCond .eq 7, 3) := by decide +kernel
theorem dX0_areCut_34 : decode cX0_areCut 34 = .ok (.iconst 1, 1) := by decide +kernel
theorem dX0_areCut_35 : decode cX0_areCut 35 = .ok (.goto 4, 3) := by decide +kernel
theorem dX0_areCut_38 : decode cX0_areCut 38 = .ok (.iconst 0, 1) := by decide +kernel
theorem dX0_areCut_39 : decode cX0_areCut 39 = .ok (.istore_n 1, 1) := by decide +kernel
theorem dX0_areCut_40 : decode cX0_areCut 40 = .ok (.iinc 2 1, 3) := by decide +kernel
theorem dX0_areCut_43 : decode cX0_areCut 43 = .ok (.goto (-39), 3) := by decide +kernel
theorem dX0_areCut_46 : decode cX0_areCut 46 = .ok (.iload_n 1, 1) := by decide +kernel
theorem dX0_areCut_47 : decode cX0_areCut 47 = .ok (.ireturn, 1) := by decide +kernel
theorem dX0_part_0 : decode cX0_part 0 = .ok (.aload_n 0, 1) := by decide +kernel
theorem dX0_part_1 : decode cX0_part 1 = .ok (.getfield 47, 3) := by decide +kernel
theorem dX0_part_4 : decode cX0_part 4 = .ok (.iload_n 1, 1) := by decide +kernel
theorem dX0_part_5 : decode cX0_part 5 = .ok (.aaload, 1) := by decide +kernel
theorem dX0_part_6 : decode cX0_part 6 = .ok (.ifnonnull 10, 3) := by decide +kernel
theorem dX0_part_9 : decode cX0_part 9 = .ok (.aload_n 0, 1) := by decide +kernel
theorem dX0_part_10 : decode cX0_part 10 = .ok (.getfield 51, 3) := by decide +kernel
theorem dX0_part_13 : decode cX0_part 13 = .ok (.goto 9, 3) := by decide +kernel
theorem dX0_part_16 : decode cX0_part 16 = .ok (.aload_n 0, 1) := by decide +kernel
theorem dX0_part_17 : decode cX0_part 17 = .ok (.getfield 47, 3) := by decide +kernel
theorem dX0_part_20 : decode cX0_part 20 = .ok (.iload_n 1, 1) := by decide +kernel
theorem dX0_part_21 : decode cX0_part 21 = .ok (.aaload, 1) := by decide +kernel
theorem dX0_part_22 : decode cX0_part 22 = .ok (.areturn, 1) := by decide +kernel
theorem dX0_goes_0 : decode cX0_goes 0 = .ok (.aload_n 0, 1) := by decide +kernel
theorem dX0_goes_1 : decode cX0_goes 1 = .ok (.getfield 145, 3) := by decide +kernel
theorem dX0_goes_4 : decode cX0_goes 4 = .ok (.aload_n 0, 1) := by decide +kernel
theorem dX0_goes_5 : decode cX0_goes 5 = .ok (.getfield 89, 3) := by decide +kernel
theorem dX0_goes_8 : decode cX0_goes 8 = .ok (.aload_n 0, 1) := by decide +kernel
theorem dX0_goes_9 : decode cX0_goes 9 = .ok (.getfield 154, 3) := by decide +kernel
theorem dX0_goes_12 : decode cX0_goes 12 = .ok (.iadd, 1) := by decide +kernel
theorem dX0_goes_13 : decode cX0_goes 13 = .ok (.if_icmp .ge 5, 3) := by decide +kernel
theorem dX0_goes_16 : decode cX0_goes 16 = .ok (.iconst 0, 1) := by decide +kernel
theorem dX0_goes_17 : decode cX0_goes 17 = .ok (.ireturn, 1) := by decide +kernel
theorem dX0_goes_18 : decode cX0_goes 18 = .ok (.aload_n 0, 1) := by decide +kernel
theorem dX0_goes_19 : decode cX0_goes 19 = .ok (.dup, 1) := by decide +kernel
theorem dX0_goes_20 : decode cX0_goes 20 = .ok (.getfield 157, 3) := by decide +kernel
theorem dX0_goes_23 : decode cX0_goes 23 = .ok (.aload_n 0, 1) := by decide +kernel
theorem dX0_goes_24 : decode cX0_goes 24 = .ok (.getfield 145, 3) := by decide +kernel
theorem dX0_goes_27 : decode cX0_goes 27 = .ok (.sipush 500, 3) := by decide +kernel
theorem dX0_goes_30 : decode cX0_goes 30 = .ok (.if_icmp .lt 7, 3) := by decide +kernel
theorem dX0_goes_33 : decode cX0_goes 33 = .ok (.iconst 1, 1) := by decide +kernel
theorem dX0_goes_34 : decode cX0_goes 34 = .ok (.goto 18, 3) := by decide +kernel
theorem dX0_goes_37 : decode cX0_goes 37 = .ok (.aload_n 0, 1) := by decide +kernel
theorem dX0_goes_38 : decode cX0_goes 38 = .ok (.getfield 145, 3) := by decide +kernel
theorem dX0_goes_41 : decode cX0_goes 41 = .ok (.sipush 200, 3) := by decide +kernel
theorem dX0_goes_44 : decode cX0_goes 44 = .ok (.if_icmp .lt 7, 3) := by decide +kernel
theorem dX0_goes_47 : decode cX0_goes 47 = .ok (.iconst 2, 1) := by decide +kernel
theorem dX0_goes_48 : decode cX0_goes 48 = .ok (.goto 4, 3) := by decide +kernel
theorem dX0_goes_51 : decode cX0_goes 51 = .ok (.iconst 4, 1) := by decide +kernel
theorem dX0_goes_52 : decode cX0_goes 52 = .ok (.iadd, 1) := by decide +kernel
theorem dX0_goes_53 : decode cX0_goes 53 = .ok (.putfield 157, 3) := by decide +kernel
theorem dX0_goes_56 : decode cX0_goes 56 = .ok (.aload_n 0, 1) := by decide +kernel
theorem dX0_goes_57 : decode cX0_goes 57 = .ok (.dup, 1) := by decide +kernel
theorem dX0_goes_58 : decode cX0_goes 58 = .ok (.getfield 145, 3) := by decide +kernel
theorem dX0_goes_61 : decode cX0_goes 61 = .ok (.aload_n 0, 1) := by decide +kernel
theorem dX0_goes_62 : decode cX0_goes 62 = .ok (.getfield 89, 3) := by decide +kernel
theorem dX0_goes_65 : decode cX0_goes 65 = .ok (.aload_n 0, 1) := by decide +kernel
theorem dX0_goes_66 : decode cX0_goes 66 = .ok (.getfield 154, 3) := by decide +kernel
theorem dX0_goes_69 : decode cX0_goes 69 = .ok (.iadd, 1) := by decide +kernel
theorem dX0_goes_70 : decode cX0_goes 70 = .ok (.isub, 1) := by decide +kernel
theorem dX0_goes_71 : decode cX0_goes 71 = .ok (.putfield 145, 3) := by decide +kernel
theorem dX0_goes_74 : decode cX0_goes 74 = .ok (.aload_n 0, 1) := by decide +kernel
theorem dX0_goes_75 : decode cX0_goes 75 = .ok (.dup, 1) := by decide +kernel
theorem dX0_goes_76 : decode cX0_goes 76 = .ok (.getfield 160, 3) := by decide +kernel
theorem dX0_goes_79 : decode cX0_goes 79 = .ok (.iconst 1, 1) := by decide +kernel
theorem dX0_goes_80 : decode cX0_goes 80 = .ok (.iadd, 1) := by decide +kernel
theorem dX0_goes_81 : decode cX0_goes 81 = .ok (.putfield 160, 3) := by decide +kernel
theorem dX0_goes_84 : decode cX0_goes 84 = .ok (.aload_n 0, 1) := by decide +kernel
theorem dX0_goes_85 : decode cX0_goes 85 = .ok (.getfield 160, 3) := by decide +kernel
theorem dX0_goes_88 : decode cX0_goes 88 = .ok (.bipush 100, 2) := by decide +kernel
theorem dX0_goes_90 : decode cX0_goes 90 = .ok (.irem, 1) := by decide +kernel
theorem dX0_goes_91 : decode cX0_goes 91 = .ok (.ifCond .ne 18, 3) := by decide +kernel
theorem dX0_goes_94 : decode cX0_goes 94 = .ok (.aload_n 0, 1) := by decide +kernel
theorem dX0_goes_95 : decode cX0_goes 95 = .ok (.bipush 20, 2) := by decide +kernel
theorem dX0_goes_97 : decode cX0_goes 97 = .ok (.aload_n 0, 1) := by decide +kernel
theorem dX0_goes_98 : decode cX0_goes 98 = .ok (.getfield 154, 3) := by decide +kernel
theorem dX0_goes_101 : decode cX0_goes 101 = .ok (.iconst 1, 1) := by decide +kernel
theorem dX0_goes_102 : decode cX0_goes 102 = .ok (.iadd, 1) := by decide +kernel
theorem dX0_goes_103 : decode cX0_goes 103 = .ok (.invokestatic 148, 3) := by decide +kernel
theorem dX0_goes_106 : decode cX0_goes 106 = .ok (.putfield 154, 3) := by decide +kernel
theorem dX0_goes_109 : decode cX0_goes 109 = .ok (.iconst 1, 1) := by decide +kernel
theorem dX0_goes_110 : decode cX0_goes 110 = .ok (.ireturn, 1) := by decide +kernel
theorem dX0_marked_0 : decode cX0_marked 0 = .ok (.iload_n 1, 1) := by decide +kernel
theorem dX0_marked_1 : decode cX0_marked 1 = .ok (.iload_n 2, 1) := by decide +kernel
theorem dX0_marked_2 : decode cX0_marked 2 = .ok (.invokestatic 192, 3) := by decide +kernel
theorem dX0_marked_5 : decode cX0_marked 5 = .ok (.ifCond .eq 28, 3) := by decide +kernel
theorem dX0_marked_8 : decode cX0_marked 8 = .ok (.aload_n 0, 1) := by decide +kernel
theorem dX0_marked_9 : decode cX0_marked 9 = .ok (.getfield 71, 3) := by decide +kernel
theorem dX0_marked_12 : decode cX0_marked 12 = .ok (.getfield 195, 3) := by decide +kernel
theorem dX0_marked_15 : decode cX0_marked 15 = .ok (.bipush 10, 2) := by decide +kernel
theorem dX0_marked_17 : decode cX0_marked 17 = .ok (.iload_n 1, 1) := by decide +kernel
theorem dX0_marked_18 : decode cX0_marked 18 = .ok (.imul, 1) := by decide +kernel
theorem dX0_marked_19 : decode cX0_marked 19 = .ok (.iload_n 2, 1) := by decide +kernel
theorem dX0_marked_20 : decode cX0_marked 20 = .ok (.iadd, 1) := by decide +kernel
theorem dX0_marked_21 : decode cX0_marked 21 = .ok (.baload, 1) := by decide +kernel
theorem dX0_marked_22 : decode cX0_marked 22 = .ok (.ifCond .eq 7, 3) := by decide +kernel
theorem dX0_marked_25 : decode cX0_marked 25 = .ok (.iconst 1, 1) := by decide +kernel
theorem dX0_marked_26 : decode cX0_marked 26 = .ok (.goto 12, 3) := by decide +kernel
theorem dX0_marked_29 : decode cX0_marked 29 = .ok (.iconst 0, 1) := by decide +kernel
theorem dX0_marked_30 : decode cX0_marked 30 = .ok (.goto 8, 3) := by decide +kernel
theorem dX0_marked_33 : decode cX0_marked 33 = .ok (.aload_n 0, 1) := by decide +kernel
theorem dX0_marked_34 : decode cX0_marked 34 = .ok (.iconst (-1), 1) := by decide +kernel
theorem dX0_marked_35 : decode cX0_marked 35 = .ok (.invokevirtual 97, 3) := by decide +kernel
theorem dX0_marked_38 : decode cX0_marked 38 = .ok (.ireturn, 1) := by decide +kernel
theorem dX0_isCell_0 : decode cX0_isCell 0 = .ok (.iload_n 0, 1) := by decide +kernel
theorem dX0_isCell_1 : decode cX0_isCell 1 = .ok (.bipush 120, 2) := by decide +kernel
theorem dX0_isCell_3 : decode cX0_isCell 3 = .ok (.invokestatic 3, 3) := by decide +kernel
theorem dX0_isCell_6 : decode cX0_isCell 6 = .ok (.ifCond .eq 16, 3) := by decide +kernel
theorem dX0_isCell_9 : decode cX0_isCell 9 = .ok (.iload_n 1, 1) := by decide +kernel
theorem dX0_isCell_10 : decode cX0_isCell 10 = .ok (.bipush 10, 2) := by decide +kernel
theorem dX0_isCell_12 : decode cX0_isCell 12 = .ok (.invokestatic 3, 3) := by decide +kernel
theorem dX0_isCell_15 : decode cX0_isCell 15 = .ok (.ifCond .eq 7, 3) := by decide +kernel
theorem dX0_isCell_18 : decode cX0_isCell 18 = .ok (.iconst 1, 1) := by decide +kernel
theorem dX0_isCell_19 : decode cX0_isCell 19 = .ok (.goto 4, 3) := by decide +kernel
theorem dX0_isCell_22 : decode cX0_isCell 22 = .ok (.iconst 0, 1) := by decide +kernel
theorem dX0_isCell_23 : decode cX0_isCell 23 = .ok (.ireturn, 1) := by decide +kernel
theorem dX0_first_0 : decode cX0_first 0 = .ok (.iload_n 1, 1) := by decide +kernel
theorem dX0_first_1 : decode cX0_first 1 = .ok (.iload_n 2, 1) := by decide +kernel
theorem dX0_first_2 : decode cX0_first 2 = .ok (.invokestatic 192, 3) := by decide +kernel
theorem dX0_first_5 : decode cX0_first 5 = .ok (.ifCond .ne 9, 3) := by decide +kernel
theorem dX0_first_8 : decode cX0_first 8 = .ok (.aload_n 0, 1) := by decide +kernel
theorem dX0_first_9 : decode cX0_first 9 = .ok (.iconst (-1), 1) := by decide +kernel
theorem dX0_first_10 : decode cX0_first 10 = .ok (.invokevirtual 97, 3) := by decide +kernel
theorem dX0_first_13 : decode cX0_first 13 = .ok (.ireturn, 1) := by decide +kernel
theorem dX0_first_14 : decode cX0_first 14 = .ok (.iload_n 3, 1) := by decide +kernel
theorem dX0_first_15 : decode cX0_first 15 = .ok (.iconst 2, 1) := by decide +kernel
theorem dX0_first_16 : decode cX0_first 16 = .ok (.invokestatic 3, 3) := by decide +kernel
theorem dX0_first_19 : decode cX0_first 19 = .ok (.ifCond .ne 10, 3) := by decide +kernel
theorem dX0_first_22 : decode cX0_first 22 = .ok (.aload_n 0, 1) := by decide +kernel
theorem dX0_first_23 : decode cX0_first 23 = .ok (.bipush (-2), 2) := by decide +kernel
theorem dX0_first_25 : decode cX0_first 25 = .ok (.invokevirtual 97, 3) := by decide +kernel
theorem dX0_first_28 : decode cX0_first 28 = .ok (.ireturn, 1) := by decide +kernel
theorem dX0_first_29 : decode cX0_first 29 = .ok (.bipush 10, 2) := by decide +kernel
theorem dX0_first_31 : decode cX0_first 31 = .ok (.iload_n 1, 1) := by decide +kernel
theorem dX0_first_32 : decode cX0_first 32 = .ok (.imul, 1) := by decide +kernel
theorem dX0_first_33 : decode cX0_first 33 = .ok (.iload_n 2, 1) := by decide +kernel
theorem dX0_first_34 : decode cX0_first 34 = .ok (.iadd, 1) := by decide +kernel
theorem dX0_first_35 : decode cX0_first 35 = .ok (.istore 4, 2) := by decide +kernel
theorem dX0_first_37 : decode cX0_first 37 = .ok (.aload_n 0, 1) := by decide +kernel
theorem dX0_first_38 : decode cX0_first 38 = .ok (.getfield 71, 3) := by decide +kernel
theorem dX0_first_41 : decode cX0_first 41 = .ok (.getfield 195, 3) := by decide +kernel
theorem dX0_first_44 : decode cX0_first 44 = .ok (.iload 4, 2) := by decide +kernel
theorem dX0_first_46 : decode cX0_first 46 = .ok (.baload, 1) := by decide +kernel
theorem dX0_first_47 : decode cX0_first 47 = .ok (.ifCond .ne 6, 3) := by decide +kernel
theorem dX0_first_50 : decode cX0_first 50 = .ok (.bipush (-9), 2) := by decide +kernel
theorem dX0_first_52 : decode cX0_first 52 = .ok (.ireturn, 1) := by decide +kernel
theorem dX0_first_53 : decode cX0_first 53 = .ok (.iload_n 3, 1) := by decide +kernel
theorem dX0_first_54 : decode cX0_first 54 = .ok (.ifCond .ne 19, 3) := by decide +kernel
theorem dX0_first_57 : decode cX0_first 57 = .ok (.aload_n 0, 1) := by decide +kernel
theorem dX0_first_58 : decode cX0_first 58 = .ok (.getfield 71, 3) := by decide +kernel
theorem dX0_first_61 : decode cX0_first 61 = .ok (.getfield 199, 3) := by decide +kernel
theorem dX0_first_64 : decode cX0_first 64 = .ok (.iload 4, 2) := by decide +kernel
theorem dX0_first_66 : decode cX0_first 66 = .ok (.iaload, 1) := by decide +kernel
theorem dX0_first_67 : decode cX0_first 67 = .ok (.bipush 100, 2) := by decide +kernel
theorem dX0_first_69 : decode cX0_first 69 = .ok (.idiv, 1) := by decide +kernel
theorem dX0_first_70 : decode cX0_first 70 = .ok (.goto 16, 3) := by decide +kernel
theorem dX0_first_73 : decode cX0_first 73 = .ok (.aload_n 0, 1) := by decide +kernel
theorem dX0_first_74 : decode cX0_first 74 = .ok (.getfield 71, 3) := by decide +kernel
theorem dX0_first_77 : decode cX0_first 77 = .ok (.getfield 199, 3) := by decide +kernel
theorem dX0_first_80 : decode cX0_first 80 = .ok (.iload 4, 2) := by decide +kernel
theorem dX0_first_82 : decode cX0_first 82 = .ok (.iaload, 1) := by decide +kernel
theorem dX0_first_83 : decode cX0_first 83 = .ok (.bipush 100, 2) := by decide +kernel
theorem dX0_first_85 : decode cX0_first 85 = .ok (.irem, 1) := by decide +kernel
theorem dX0_first_86 : decode cX0_first 86 = .ok (.ireturn, 1) := by decide +kernel
theorem dX0_marks_0 : decode cX0_marks 0 = .ok (.iconst 0, 1) := by decide +kernel
theorem dX0_marks_1 : decode cX0_marks 1 = .ok (.istore_n 1, 1) := by decide +kernel
theorem dX0_marks_2 : decode cX0_marks 2 = .ok (.iconst 0, 1) := by decide +kernel
theorem dX0_marks_3 : decode cX0_marks 3 = .ok (.istore_n 2, 1) := by decide +kernel
theorem dX0_marks_4 : decode cX0_marks 4 = .ok (.iload_n 2, 1) := by decide +kernel
theorem dX0_marks_5 : decode cX0_marks 5 = .ok (.sipush 1200, 3) := by decide +kernel
theorem dX0_marks_8 : decode cX0_marks 8 = .ok (.if_icmp .ge 29, 3) := by decide +kernel
theorem dX0_marks_11 : decode cX0_marks 11 = .ok (.iload_n 1, 1) := by decide +kernel
theorem dX0_marks_12 : decode cX0_marks 12 = .ok (.aload_n 0, 1) := by decide +kernel
theorem dX0_marks_13 : decode cX0_marks 13 = .ok (.getfield 71, 3) := by decide +kernel
theorem dX0_marks_16 : decode cX0_marks 16 = .ok (.getfield 195, 3) := by decide +kernel
theorem dX0_marks_19 : decode cX0_marks 19 = .ok (.iload_n 2, 1) := by decide +kernel
theorem dX0_marks_20 : decode cX0_marks 20 = .ok (.baload, 1) := by decide +kernel
theorem dX0_marks_21 : decode cX0_marks 21 = .ok (.ifCond .eq 7, 3) := by decide +kernel
theorem dX0_marks_24 : decode cX0_marks 24 = .ok (.iconst 1, 1) := by decide +kernel
theorem dX0_marks_25 : decode cX0_marks 25 = .ok (.goto 4, 3) := by decide +kernel
theorem dX0_marks_28 : decode cX0_marks 28 = .ok (.iconst 0, 1) := by decide +kernel
theorem dX0_marks_29 : decode cX0_marks 29 = .ok (.iadd, 1) := by decide +kernel
theorem dX0_marks_30 : decode cX0_marks 30 = .ok (.istore_n 1, 1) := by decide +kernel
theorem dX0_marks_31 : decode cX0_marks 31 = .ok (.iinc 2 1, 3) := by decide +kernel
theorem dX0_marks_34 : decode cX0_marks 34 = .ok (.goto (-30), 3) := by decide +kernel
theorem dX0_marks_37 : decode cX0_marks 37 = .ok (.iload_n 1, 1) := by decide +kernel
theorem dX0_marks_38 : decode cX0_marks 38 = .ok (.ireturn, 1) := by decide +kernel
theorem dX0_see_0 : decode cX0_see 0 = .ok (.iload_n 1, 1) := by decide +kernel
theorem dX0_see_1 : decode cX0_see 1 = .ok (.iload_n 2, 1) := by decide +kernel
theorem dX0_see_2 : decode cX0_see 2 = .ok (.invokestatic 192, 3) := by decide +kernel
theorem dX0_see_5 : decode cX0_see 5 = .ok (.ifCond .ne 9, 3) := by decide +kernel
theorem dX0_see_8 : decode cX0_see 8 = .ok (.aload_n 0, 1) := by decide +kernel
theorem dX0_see_9 : decode cX0_see 9 = .ok (.iconst (-1), 1) := by decide +kernel
theorem dX0_see_10 : decode cX0_see 10 = .ok (.invokevirtual 97, 3) := by decide +kernel
theorem dX0_see_13 : decode cX0_see 13 = .ok (.ireturn, 1) := by decide +kernel
theorem dX0_see_14 : decode cX0_see 14 = .ok (.bipush 10, 2) := by decide +kernel
theorem dX0_see_16 : decode cX0_see 16 = .ok (.iload_n 1, 1) := by decide +kernel
theorem dX0_see_17 : decode cX0_see 17 = .ok (.imul, 1) := by decide +kernel
theorem dX0_see_18 : decode cX0_see 18 = .ok (.iload_n 2, 1) := by decide +kernel
theorem dX0_see_19 : decode cX0_see 19 = .ok (.iadd, 1) := by decide +kernel
theorem dX0_see_20 : decode cX0_see 20 = .ok (.istore 4, 2) := by decide +kernel
theorem dX0_see_22 : decode cX0_see 22 = .ok (.aload_n 0, 1) := by decide +kernel
theorem dX0_see_23 : decode cX0_see 23 = .ok (.getfield 71, 3) := by decide +kernel
theorem dX0_see_26 : decode cX0_see 26 = .ok (.getfield 195, 3) := by decide +kernel
theorem dX0_see_29 : decode cX0_see 29 = .ok (.iload 4, 2) := by decide +kernel
theorem dX0_see_31 : decode cX0_see 31 = .ok (.baload, 1) := by decide +kernel
theorem dX0_see_32 : decode cX0_see 32 = .ok (.iload_n 3, 1) := by decide +kernel
theorem dX0_see_33 : decode cX0_see 33 = .ok (.if_icmp .ne 5, 3) := by decide +kernel
theorem dX0_see_36 : decode cX0_see 36 = .ok (.iconst 0, 1) := by decide +kernel
theorem dX0_see_37 : decode cX0_see 37 = .ok (.ireturn, 1) := by decide +kernel
theorem dX0_see_38 : decode cX0_see 38 = .ok (.aload_n 0, 1) := by decide +kernel
theorem dX0_see_39 : decode cX0_see 39 = .ok (.getfield 71, 3) := by decide +kernel
theorem dX0_see_42 : decode cX0_see 42 = .ok (.getfield 195, 3) := by decide +kernel
theorem dX0_see_45 : decode cX0_see 45 = .ok (.iload 4, 2) := by decide +kernel
theorem dX0_see_47 : decode cX0_see 47 = .ok (.iload_n 3, 1) := by decide +kernel
theorem dX0_see_48 : decode cX0_see 48 = .ok (.bastore, 1) := by decide +kernel
theorem dX0_see_49 : decode cX0_see 49 = .ok (.aload_n 0, 1) := by decide +kernel
theorem dX0_see_50 : decode cX0_see 50 = .ok (.getfield 71, 3) := by decide +kernel
theorem dX0_see_53 : decode cX0_see 53 = .ok (.getfield 199, 3) := by decide +kernel
theorem dX0_see_56 : decode cX0_see 56 = .ok (.iload 4, 2) := by decide +kernel
theorem dX0_see_58 : decode cX0_see 58 = .ok (.sipush 9999, 3) := by decide +kernel
theorem dX0_see_61 : decode cX0_see 61 = .ok (.iastore, 1) := by decide +kernel
theorem dX0_see_62 : decode cX0_see 62 = .ok (.iconst 1, 1) := by decide +kernel
theorem dX0_see_63 : decode cX0_see 63 = .ok (.ireturn, 1) := by decide +kernel
theorem dX0_fault_0 : decode cX0_fault 0 = .ok (.iload_n 1, 1) := by decide +kernel
theorem dX0_fault_1 : decode cX0_fault 1 = .ok (.iconst 1, 1) := by decide +kernel
theorem dX0_fault_2 : decode cX0_fault 2 = .ok (.isub, 1) := by decide +kernel
theorem dX0_fault_3 : decode cX0_fault 3 = .ok (.iconst 3, 1) := by decide +kernel
theorem dX0_fault_4 : decode cX0_fault 4 = .ok (.invokestatic 3, 3) := by decide +kernel
theorem dX0_fault_7 : decode cX0_fault 7 = .ok (.ifCond .ne 10, 3) := by decide +kernel
theorem dX0_fault_10 : decode cX0_fault 10 = .ok (.aload_n 0, 1) := by decide +kernel
theorem dX0_fault_11 : decode cX0_fault 11 = .ok (.bipush (-2), 2) := by decide +kernel
