theorem q38 : (Jvm.Cond.initialized "CamFiguresLaw") ∈ lw_all := lw_g (lw_at lw_m1 0 rfl) rfl
set_option maxRecDepth 100000
theorem q55 : (Jvm.Cond.classLink "CamFiguresLaw" (7 : Nat) "CamFigures") ∈ lw_all := lw_g (lw_at lw_m1 17 rfl) rfl
theorem q57 : (Jvm.Cond.methodLink "CamFiguresLaw" (9 : Nat) ({ cls := "CamFigures", name := "<init>", desc := "()V" } : Jvm.MethodName)) ∈ lw_all := lw_g (lw_at lw_m1 19 rfl) rfl
theorem q188 : (Jvm.Cond.methodLink "CamFiguresLaw" (13 : Nat) ({ cls := "CamFigures", name := "length", desc := "(I)I" } : Jvm.MethodName)) ∈ lw_all := lw_g (lw_at lw_m1 150 rfl) rfl
theorem q203 : (Jvm.Cond.methodLink "CamFiguresLaw" (18 : Nat) ({ cls := "CamFigures", name := "blank", desc := "(I)I" } : Jvm.MethodName)) ∈ lw_all := lw_g (lw_at lw_m1 165 rfl) rfl
theorem q220 : (Jvm.Cond.methodLink "CamFiguresLaw" (22 : Nat) ({ cls := "CamFigures", name := "lose", desc := "(I)I" } : Jvm.MethodName)) ∈ lw_all := lw_g (lw_at lw_m1 182 rfl) rfl
theorem q296 : (Jvm.Cond.methodLink "CamFiguresLaw" (26 : Nat) ({ cls := "CamFigures", name := "cutAt", desc := "(III)I" } : Jvm.MethodName)) ∈ lw_all := lw_g (lw_at lw_m2 18 rfl) rfl
theorem q304 : (Jvm.Cond.methodLink "CamFiguresLaw" (31 : Nat) ({ cls := "CamFigures", name := "height", desc := "(II)I" } : Jvm.MethodName)) ∈ lw_all := lw_g (lw_at lw_m2 26 rfl) rfl
theorem q312 : (Jvm.Cond.methodLink "CamFiguresLaw" (36 : Nat) ({ cls := "CamFigures", name := "copy", desc := "(IIIII)I" } : Jvm.MethodName)) ∈ lw_all := lw_g (lw_at lw_m2 34 rfl) rfl
theorem q319 : (Jvm.Cond.methodLink "CamFiguresLaw" (41 : Nat) ({ cls := "CamFigures", name := "turn", desc := "(II)I" } : Jvm.MethodName)) ∈ lw_all := lw_g (lw_at lw_m2 41 rfl) rfl
theorem q323 : (Jvm.Cond.methodLink "CamFiguresLaw" (45 : Nat) ({ cls := "CamFigures", name := "blanks", desc := "()I" } : Jvm.MethodName)) ∈ lw_all := lw_g (lw_at lw_m2 45 rfl) rfl
theorem q339 : (Jvm.Cond.methodLink "CamFiguresLaw" (50 : Nat) ({ cls := "CamFigures", name := "camOf", desc := "(II)I" } : Jvm.MethodName)) ∈ lw_all := lw_g (lw_at lw_m2 61 rfl) rfl
theorem q353 : (Jvm.Cond.methodLink "CamFiguresLaw" (54 : Nat) ({ cls := "CamFigures", name := "letter", desc := "(IIII)I" } : Jvm.MethodName)) ∈ lw_all := lw_g (lw_at lw_m2 75 rfl) rfl
theorem q357 : (Jvm.Cond.methodLink "CamFiguresLaw" (59 : Nat) ({ cls := "CamFigures", name := "isCut", desc := "(I)I" } : Jvm.MethodName)) ∈ lw_all := lw_g (lw_at lw_m2 79 rfl) rfl
theorem q365 : (Jvm.Cond.methodLink "CamFiguresLaw" (63 : Nat) ({ cls := "CamFigures", name := "peg", desc := "(I)I" } : Jvm.MethodName)) ∈ lw_all := lw_g (lw_at lw_m2 87 rfl) rfl
theorem q369 : (Jvm.Cond.methodLink "CamFiguresLaw" (67 : Nat) ({ cls := "CamFigures", name := "unpeg", desc := "()I" } : Jvm.MethodName)) ∈ lw_all := lw_g (lw_at lw_m2 91 rfl) rfl
theorem q373 : (Jvm.Cond.methodLink "CamFiguresLaw" (71 : Nat) ({ cls := "CamFigures", name := "advance", desc := "(I)I" } : Jvm.MethodName)) ∈ lw_all := lw_g (lw_at lw_m2 95 rfl) rfl
theorem q377 : (Jvm.Cond.methodLink "CamFiguresLaw" (75 : Nat) ({ cls := "CamFigures", name := "pull", desc := "(I)I" } : Jvm.MethodName)) ∈ lw_all := lw_g (lw_at lw_m2 99 rfl) rfl
theorem q381 : (Jvm.Cond.methodLink "CamFiguresLaw" (79 : Nat) ({ cls := "CamFigures", name := "wind", desc := "(I)I" } : Jvm.MethodName)) ∈ lw_all := lw_g (lw_at lw_m2 103 rfl) rfl
theorem q388 : (Jvm.Cond.methodLink "CamFiguresLaw" (83 : Nat) ({ cls := "CamFigures", name := "show", desc := "()I" } : Jvm.MethodName)) ∈ lw_all := lw_g (lw_at lw_m2 110 rfl) rfl
theorem q512 : (Jvm.Cond.methodLink "CamFiguresLaw" (87 : Nat) ({ cls := "CamFigures", name := "marked", desc := "(II)I" } : Jvm.MethodName)) ∈ lw_all := lw_g (lw_at lw_m2 234 rfl) rfl
theorem q519 : (Jvm.Cond.methodLink "CamFiguresLaw" (91 : Nat) ({ cls := "CamFigures", name := "first", desc := "(III)I" } : Jvm.MethodName)) ∈ lw_all := lw_g (lw_at lw_m3 1 rfl) rfl
theorem q523 : (Jvm.Cond.methodLink "CamFiguresLaw" (95 : Nat) ({ cls := "CamFigures", name := "marks", desc := "()I" } : Jvm.MethodName)) ∈ lw_all := lw_g (lw_at lw_m3 5 rfl) rfl
theorem q527 : (Jvm.Cond.methodLink "CamFiguresLaw" (99 : Nat) ({ cls := "CamFigures", name := "see", desc := "(IIZ)I" } : Jvm.MethodName)) ∈ lw_all := lw_g (lw_at lw_m3 9 rfl) rfl
theorem q531 : (Jvm.Cond.methodLink "CamFiguresLaw" (104 : Nat) ({ cls := "CamFigures", name := "fault", desc := "(II)I" } : Jvm.MethodName)) ∈ lw_all := lw_g (lw_at lw_m3 13 rfl) rfl
theorem q563 : (Jvm.Cond.methodLink "CamFiguresLaw" (108 : Nat) ({ cls := "CamFigures", name := "mend", desc := "()I" } : Jvm.MethodName)) ∈ lw_all := lw_g (lw_at lw_m3 45 rfl) rfl
theorem q571 : (Jvm.Cond.methodLink "CamFiguresLaw" (112 : Nat) ({ cls := "CamFigures", name := "explained", desc := "(I)I" } : Jvm.MethodName)) ∈ lw_all := lw_g (lw_at lw_m3 53 rfl) rfl
theorem q597 : (Jvm.Cond.methodLink "CamFiguresLaw" (116 : Nat) ({ cls := "CamFigures", name := "made", desc := "(II)I" } : Jvm.MethodName)) ∈ lw_all := lw_g (lw_at lw_m3 79 rfl) rfl
theorem q605 : (Jvm.Cond.methodLink "CamFiguresLaw" (120 : Nat) ({ cls := "CamFigures", name := "like", desc := "(II)I" } : Jvm.MethodName)) ∈ lw_all := lw_g (lw_at lw_m3 87 rfl) rfl
theorem q614 : (Jvm.Cond.methodLink "CamFiguresLaw" (124 : Nat) ({ cls := "CamFigures", name := "whose", desc := "(I)I" } : Jvm.MethodName)) ∈ lw_all := lw_g (lw_at lw_m3 96 rfl) rfl
theorem q618 : (Jvm.Cond.methodLink "CamFiguresLaw" (128 : Nat) ({ cls := "CamFigures", name := "count", desc := "(I)I" } : Jvm.MethodName)) ∈ lw_all := lw_g (lw_at lw_m3 100 rfl) rfl
theorem q622 : (Jvm.Cond.classLink "CamFiguresLaw" (10 : Nat) "CamFiguresModel") ∈ lw_all := lw_g (lw_at lw_m3 104 rfl) rfl
theorem q624 : (Jvm.Cond.methodLink "CamFiguresLaw" (12 : Nat) ({ cls := "CamFiguresModel", name := "<init>", desc := "()V" } : Jvm.MethodName)) ∈ lw_all := lw_g (lw_at lw_m3 106 rfl) rfl
theorem q729 : (Jvm.Cond.methodLink "CamFiguresLaw" (17 : Nat) ({ cls := "CamFiguresModel", name := "length", desc := "(I)I" } : Jvm.MethodName)) ∈ lw_all := lw_g (lw_at lw_m3 211 rfl) rfl
theorem q737 : (Jvm.Cond.methodLink "CamFiguresLaw" (21 : Nat) ({ cls := "CamFiguresModel", name := "blank", desc := "(I)I" } : Jvm.MethodName)) ∈ lw_all := lw_g (lw_at lw_m3 219 rfl) rfl
theorem q747 : (Jvm.Cond.methodLink "CamFiguresLaw" (25 : Nat) ({ cls := "CamFiguresModel", name := "lose", desc := "(I)I" } : Jvm.MethodName)) ∈ lw_all := lw_g (lw_at lw_m3 229 rfl) rfl
theorem q755 : (Jvm.Cond.methodLink "CamFiguresLaw" (30 : Nat) ({ cls := "CamFiguresModel", name := "cutAt", desc := "(III)I" } : Jvm.MethodName)) ∈ lw_all := lw_g (lw_at lw_m3 237 rfl) rfl
theorem q759 : (Jvm.Cond.methodLink "CamFiguresLaw" (35 : Nat) ({ cls := "CamFiguresModel", name := "height", desc := "(II)I" } : Jvm.MethodName)) ∈ lw_all := lw_g (lw_at lw_m4 1 rfl) rfl
theorem q763 : (Jvm.Cond.methodLink "CamFiguresLaw" (40 : Nat) ({ cls := "CamFiguresModel", name := "copy", desc := "(IIIII)I" } : Jvm.MethodName)) ∈ lw_all := lw_g (lw_at lw_m4 5 rfl) rfl
theorem q767 : (Jvm.Cond.methodLink "CamFiguresLaw" (44 : Nat) ({ cls := "CamFiguresModel", name := "turn", desc := "(II)I" } : Jvm.MethodName)) ∈ lw_all := lw_g (lw_at lw_m4 9 rfl) rfl
theorem q771 : (Jvm.Cond.methodLink "CamFiguresLaw" (49 : Nat) ({ cls := "CamFiguresModel", name := "blanks", desc := "()I" } : Jvm.MethodName)) ∈ lw_all := lw_g (lw_at lw_m4 13 rfl) rfl
theorem q783 : (Jvm.Cond.methodLink "CamFiguresLaw" (53 : Nat) ({ cls := "CamFiguresModel", name := "camOf", desc := "(II)I" } : Jvm.MethodName)) ∈ lw_all := lw_g (lw_at lw_m4 25 rfl) rfl
theorem q791 : (Jvm.Cond.methodLink "CamFiguresLaw" (58 : Nat) ({ cls := "CamFiguresModel", name := "letter", desc := "(IIII)I" } : Jvm.MethodName)) ∈ lw_all := lw_g (lw_at lw_m4 33 rfl) rfl
theorem q795 : (Jvm.Cond.methodLink "CamFiguresLaw" (62 : Nat) ({ cls := "CamFiguresModel", name := "isCut", desc := "(I)I" } : Jvm.MethodName)) ∈ lw_all := lw_g (lw_at lw_m4 37 rfl) rfl
theorem q803 : (Jvm.Cond.methodLink "CamFiguresLaw" (66 : Nat) ({ cls := "CamFiguresModel", name := "peg", desc := "(I)I" } : Jvm.MethodName)) ∈ lw_all := lw_g (lw_at lw_m4 45 rfl) rfl
theorem q807 : (Jvm.Cond.methodLink "CamFiguresLaw" (70 : Nat) ({ cls := "CamFiguresModel", name := "unpeg", desc := "()I" } : Jvm.MethodName)) ∈ lw_all := lw_g (lw_at lw_m4 49 rfl) rfl
theorem q811 : (Jvm.Cond.methodLink "CamFiguresLaw" (74 : Nat) ({ cls := "CamFiguresModel", name := "advance", desc := "(I)I" } : Jvm.MethodName)) ∈ lw_all := lw_g (lw_at lw_m4 53 rfl) rfl
theorem q815 : (Jvm.Cond.methodLink "CamFiguresLaw" (78 : Nat) ({ cls := "CamFiguresModel", name := "pull", desc := "(I)I" } : Jvm.MethodName)) ∈ lw_all := lw_g (lw_at lw_m4 57 rfl) rfl
theorem q819 : (Jvm.Cond.methodLink "CamFiguresLaw" (82 : Nat) ({ cls := "CamFiguresModel", name := "wind", desc := "(I)I" } : Jvm.MethodName)) ∈ lw_all := lw_g (lw_at lw_m4 61 rfl) rfl
theorem q823 : (Jvm.Cond.methodLink "CamFiguresLaw" (86 : Nat) ({ cls := "CamFiguresModel", name := "show", desc := "()I" } : Jvm.MethodName)) ∈ lw_all := lw_g (lw_at lw_m4 65 rfl) rfl
theorem q866 : (Jvm.Cond.methodLink "CamFiguresLaw" (90 : Nat) ({ cls := "CamFiguresModel", name := "marked", desc := "(II)I" } : Jvm.MethodName)) ∈ lw_all := lw_g (lw_at lw_m4 108 rfl) rfl
theorem q873 : (Jvm.Cond.methodLink "CamFiguresLaw" (94 : Nat) ({ cls := "CamFiguresModel", name := "first", desc := "(III)I" } : Jvm.MethodName)) ∈ lw_all := lw_g (lw_at lw_m4 115 rfl) rfl
theorem q877 : (Jvm.Cond.methodLink "CamFiguresLaw" (98 : Nat) ({ cls := "CamFiguresModel", name := "marks", desc := "()I" } : Jvm.MethodName)) ∈ lw_all := lw_g (lw_at lw_m4 119 rfl) rfl
theorem q881 : (Jvm.Cond.methodLink "CamFiguresLaw" (103 : Nat) ({ cls := "CamFiguresModel", name := "see", desc := "(IIZ)I" } : Jvm.MethodName)) ∈ lw_all := lw_g (lw_at lw_m4 123 rfl) rfl
theorem q885 : (Jvm.Cond.methodLink "CamFiguresLaw" (107 : Nat) ({ cls := "CamFiguresModel", name := "fault", desc := "(II)I" } : Jvm.MethodName)) ∈ lw_all := lw_g (lw_at lw_m4 127 rfl) rfl
theorem q889 : (Jvm.Cond.methodLink "CamFiguresLaw" (111 : Nat) ({ cls := "CamFiguresModel", name := "mend", desc := "()I" } : Jvm.MethodName)) ∈ lw_all := lw_g (lw_at lw_m4 131 rfl) rfl
theorem q897 : (Jvm.Cond.methodLink "CamFiguresLaw" (115 : Nat) ({ cls := "CamFiguresModel", name := "explained", desc := "(I)I" } : Jvm.MethodName)) ∈ lw_all := lw_g (lw_at lw_m4 139 rfl) rfl
theorem q909 : (Jvm.Cond.methodLink "CamFiguresLaw" (119 : Nat) ({ cls := "CamFiguresModel", name := "made", desc := "(II)I" } : Jvm.MethodName)) ∈ lw_all := lw_g (lw_at lw_m4 151 rfl) rfl
theorem q917 : (Jvm.Cond.methodLink "CamFiguresLaw" (123 : Nat) ({ cls := "CamFiguresModel", name := "like", desc := "(II)I" } : Jvm.MethodName)) ∈ lw_all := lw_g (lw_at lw_m4 159 rfl) rfl
theorem q925 : (Jvm.Cond.methodLink "CamFiguresLaw" (127 : Nat) ({ cls := "CamFiguresModel", name := "whose", desc := "(I)I" } : Jvm.MethodName)) ∈ lw_all := lw_g (lw_at lw_m4 167 rfl) rfl
theorem q929 : (Jvm.Cond.methodLink "CamFiguresLaw" (131 : Nat) ({ cls := "CamFiguresModel", name := "count", desc := "(I)I" } : Jvm.MethodName)) ∈ lw_all := lw_g (lw_at lw_m4 171 rfl) rfl
/-! the law's own entry -/
set_option maxRecDepth 100000
abbrev cL_law : ByteArray := code
theorem dL_law_0 : decode cL_law 0 = .ok (.new 7, 3) := by decide +kernel
theorem dL_law_3 : decode cL_law 3 = .ok (.dup, 1) := by decide +kernel
theorem dL_law_4 : decode cL_law 4 = .ok (.invokespecial 9, 3) := by decide +kernel
theorem dL_law_7 : decode cL_law 7 = .ok (.astore_n 1, 1) := by decide +kernel
theorem dL_law_8 : decode cL_law 8 = .ok (.new 10, 3) := by decide +kernel
theorem dL_law_11 : decode cL_law 11 = .ok (.dup, 1) := by decide +kernel
theorem dL_law_12 : decode cL_law 12 = .ok (.invokespecial 12, 3) := by decide +kernel
theorem dL_law_15 : decode cL_law 15 = .ok (.astore_n 2, 1) := by decide +kernel
theorem dL_law_16 : decode cL_law 16 = .ok (.iconst 0, 1) := by decide +kernel
theorem dL_law_17 : decode cL_law 17 = .ok (.istore_n 3, 1) := by decide +kernel
theorem dL_law_18 : decode cL_law 18 = .ok (.iload_n 3, 1) := by decide +kernel
theorem dL_law_19 : decode cL_law 19 = .ok (.aload_n 0, 1) := by decide +kernel
theorem dL_law_20 : decode cL_law 20 = .ok (.arraylength, 1) := by decide +kernel
theorem dL_law_21 : decode cL_law 21 = .ok (.bipush 6, 2) := by decide +kernel
theorem dL_law_23 : decode cL_law 23 = .ok (.isub, 1) := by decide +kernel
theorem dL_law_24 : decode cL_law 24 = .ok (.if_icmp .gt 952, 3) := by decide +kernel
theorem dL_law_27 : decode cL_law 27 = .ok (.aload_n 0, 1) := by decide +kernel
theorem dL_law_28 : decode cL_law 28 = .ok (.iload_n 3, 1) := by decide +kernel
theorem dL_law_29 : decode cL_law 29 = .ok (.iaload, 1) := by decide +kernel
theorem dL_law_30 : decode cL_law 30 = .ok (.bipush 31, 2) := by decide +kernel
theorem dL_law_32 : decode cL_law 32 = .ok (.iand, 1) := by decide +kernel
theorem dL_law_33 : decode cL_law 33 = .ok (.tableswitch 937 0 27 #[127, 150, 173, 196, 239, 272, 335, 368, 381, 414, 467, 490, 513, 526, 549, 572, 595, 608, 641, 684, 697, 756, 789, 802, 825, 858, 891, 914], 127) := by decide +kernel
theorem dL_law_160 : decode cL_law 160 = .ok (.aload_n 1, 1) := by decide +kernel
theorem dL_law_161 : decode cL_law 161 = .ok (.aload_n 0, 1) := by decide +kernel
theorem dL_law_162 : decode cL_law 162 = .ok (.iload_n 3, 1) := by decide +kernel
theorem dL_law_163 : decode cL_law 163 = .ok (.iconst 1, 1) := by decide +kernel
theorem dL_law_164 : decode cL_law 164 = .ok (.iadd, 1) := by decide +kernel
theorem dL_law_165 : decode cL_law 165 = .ok (.iaload, 1) := by decide +kernel
theorem dL_law_166 : decode cL_law 166 = .ok (.invokevirtual 13, 3) := by decide +kernel
theorem dL_law_169 : decode cL_law 169 = .ok (.aload_n 2, 1) := by decide +kernel
theorem dL_law_170 : decode cL_law 170 = .ok (.aload_n 0, 1) := by decide +kernel
theorem dL_law_171 : decode cL_law 171 = .ok (.iload_n 3, 1) := by decide +kernel
theorem dL_law_172 : decode cL_law 172 = .ok (.iconst 1, 1) := by decide +kernel
theorem dL_law_173 : decode cL_law 173 = .ok (.iadd, 1) := by decide +kernel
theorem dL_law_174 : decode cL_law 174 = .ok (.iaload, 1) := by decide +kernel
theorem dL_law_175 : decode cL_law 175 = .ok (.invokevirtual 17, 3) := by decide +kernel
theorem dL_law_178 : decode cL_law 178 = .ok (.if_icmp .eq 792, 3) := by decide +kernel
theorem dL_law_181 : decode cL_law 181 = .ok (.iconst 0, 1) := by decide +kernel
theorem dL_law_182 : decode cL_law 182 = .ok (.ireturn, 1) := by decide +kernel
theorem dL_law_183 : decode cL_law 183 = .ok (.aload_n 1, 1) := by decide +kernel
theorem dL_law_184 : decode cL_law 184 = .ok (.aload_n 0, 1) := by decide +kernel
theorem dL_law_185 : decode cL_law 185 = .ok (.iload_n 3, 1) := by decide +kernel
theorem dL_law_186 : decode cL_law 186 = .ok (.iconst 1, 1) := by decide +kernel
theorem dL_law_187 : decode cL_law 187 = .ok (.iadd, 1) := by decide +kernel
theorem dL_law_188 : decode cL_law 188 = .ok (.iaload, 1) := by decide +kernel
theorem dL_law_189 : decode cL_law 189 = .ok (.invokevirtual 18, 3) := by decide +kernel
theorem dL_law_192 : decode cL_law 192 = .ok (.aload_n 2, 1) := by decide +kernel
theorem dL_law_193 : decode cL_law 193 = .ok (.aload_n 0, 1) := by decide +kernel
theorem dL_law_194 : decode cL_law 194 = .ok (.iload_n 3, 1) := by decide +kernel
theorem dL_law_195 : decode cL_law 195 = .ok (.iconst 1, 1) := by decide +kernel
theorem dL_law_196 : decode cL_law 196 = .ok (.iadd, 1) := by decide +kernel
theorem dL_law_197 : decode cL_law 197 = .ok (.iaload, 1) := by decide +kernel
theorem dL_law_198 : decode cL_law 198 = .ok (.invokevirtual 21, 3) := by decide +kernel
theorem dL_law_201 : decode cL_law 201 = .ok (.if_icmp .eq 769, 3) := by decide +kernel
theorem dL_law_204 : decode cL_law 204 = .ok (.iconst 0, 1) := by decide +kernel
theorem dL_law_205 : decode cL_law 205 = .ok (.ireturn, 1) := by decide +kernel
theorem dL_law_206 : decode cL_law 206 = .ok (.aload_n 1, 1) := by decide +kernel
theorem dL_law_207 : decode cL_law 207 = .ok (.aload_n 0, 1) := by decide +kernel
theorem dL_law_208 : decode cL_law 208 = .ok (.iload_n 3, 1) := by decide +kernel
theorem dL_law_209 : decode cL_law 209 = .ok (.iconst 1, 1) := by decide +kernel
theorem dL_law_210 : decode cL_law 210 = .ok (.iadd, 1) := by decide +kernel
theorem dL_law_211 : decode cL_law 211 = .ok (.iaload, 1) := by decide +kernel
theorem dL_law_212 : decode cL_law 212 = .ok (.invokevirtual 22, 3) := by decide +kernel
theorem dL_law_215 : decode cL_law 215 = .ok (.aload_n 2, 1) := by decide +kernel
theorem dL_law_216 : decode cL_law 216 = .ok (.aload_n 0, 1) := by decide +kernel
theorem dL_law_217 : decode cL_law 217 = .ok (.iload_n 3, 1) := by decide +kernel
theorem dL_law_218 : decode cL_law 218 = .ok (.iconst 1, 1) := by decide +kernel
theorem dL_law_219 : decode cL_law 219 = .ok (.iadd, 1) := by decide +kernel
theorem dL_law_220 : decode cL_law 220 = .ok (.iaload, 1) := by decide +kernel
theorem dL_law_221 : decode cL_law 221 = .ok (.invokevirtual 25, 3) := by decide +kernel
theorem dL_law_224 : decode cL_law 224 = .ok (.if_icmp .eq 746, 3) := by decide +kernel
theorem dL_law_227 : decode cL_law 227 = .ok (.iconst 0, 1) := by decide +kernel
theorem dL_law_228 : decode cL_law 228 = .ok (.ireturn, 1) := by decide +kernel
theorem dL_law_229 : decode cL_law 229 = .ok (.aload_n 1, 1) := by decide +kernel
theorem dL_law_230 : decode cL_law 230 = .ok (.aload_n 0, 1) := by decide +kernel
theorem dL_law_231 : decode cL_law 231 = .ok (.iload_n 3, 1) := by decide +kernel
theorem dL_law_232 : decode cL_law 232 = .ok (.iconst 1, 1) := by decide +kernel
theorem dL_law_233 : decode cL_law 233 = .ok (.iadd, 1) := by decide +kernel
theorem dL_law_234 : decode cL_law 234 = .ok (.iaload, 1) := by decide +kernel
theorem dL_law_235 : decode cL_law 235 = .ok (.aload_n 0, 1) := by decide +kernel
theorem dL_law_236 : decode cL_law 236 = .ok (.iload_n 3, 1) := by decide +kernel
theorem dL_law_237 : decode cL_law 237 = .ok (.iconst 2, 1) := by decide +kernel
theorem dL_law_238 : decode cL_law 238 = .ok (.iadd, 1) := by decide +kernel
theorem dL_law_239 : decode cL_law 239 = .ok (.iaload, 1) := by decide +kernel
theorem dL_law_240 : decode cL_law 240 = .ok (.aload_n 0, 1) := by decide +kernel
theorem dL_law_241 : decode cL_law 241 = .ok (.iload_n 3, 1) := by decide +kernel
theorem dL_law_242 : decode cL_law 242 = .ok (.iconst 3, 1) := by decide +kernel
theorem dL_law_243 : decode cL_law 243 = .ok (.iadd, 1) := by decide +kernel
theorem dL_law_244 : decode cL_law 244 = .ok (.iaload, 1) := by decide +kernel
theorem dL_law_245 : decode cL_law 245 = .ok (.invokevirtual 26, 3) := by decide +kernel
theorem dL_law_248 : decode cL_law 248 = .ok (.aload_n 2, 1) := by decide +kernel
theorem dL_law_249 : decode cL_law 249 = .ok (.aload_n 0, 1) := by decide +kernel
theorem dL_law_250 : decode cL_law 250 = .ok (.iload_n 3, 1) := by decide +kernel
theorem dL_law_251 : decode cL_law 251 = .ok (.iconst 1, 1) := by decide +kernel
theorem dL_law_252 : decode cL_law 252 = .ok (.iadd, 1) := by decide +kernel
theorem dL_law_253 : decode cL_law 253 = .ok (.iaload, 1) := by decide +kernel
theorem dL_law_254 : decode cL_law 254 = .ok (.aload_n 0, 1) := by decide +kernel
theorem dL_law_255 : decode cL_law 255 = .ok (.iload_n 3, 1) := by decide +kernel
theorem dL_law_256 : decode cL_law 256 = .ok (.iconst 2, 1) := by decide +kernel
theorem dL_law_257 : decode cL_law 257 = .ok (.iadd, 1) := by decide +kernel
theorem dL_law_258 : decode cL_law 258 = .ok (.iaload, 1) := by decide +kernel
theorem dL_law_259 : decode cL_law 259 = .ok (.aload_n 0, 1) := by decide +kernel
theorem dL_law_260 : decode cL_law 260 = .ok (.iload_n 3, 1) := by decide +kernel
theorem dL_law_261 : decode cL_law 261 = .ok (.iconst 3, 1) := by decide +kernel
theorem dL_law_262 : decode cL_law 262 = .ok (.iadd, 1) := by decide +kernel
theorem dL_law_263 : decode cL_law 263 = .ok (.iaload, 1) := by decide +kernel
theorem dL_law_264 : decode cL_law 264 = .ok (.invokevirtual 30, 3) := by decide +kernel
theorem dL_law_267 : decode cL_law 267 = .ok (.if_icmp .eq 703, 3) := by decide +kernel
theorem dL_law_270 : decode cL_law 270 = .ok (.iconst 0, 1) := by decide +kernel
theorem dL_law_271 : decode cL_law 271 = .ok (.ireturn, 1) := by decide +kernel
theorem dL_law_272 : decode cL_law 272 = .ok (.aload_n 1, 1) := by decide +kernel
theorem dL_law_273 : decode cL_law 273 = .ok (.aload_n 0, 1) := by decide +kernel
theorem dL_law_274 : decode cL_law 274 = .ok (.iload_n 3, 1) := by decide +kernel
theorem dL_law_275 : decode cL_law 275 = .ok (.iconst 1, 1) := by decide +kernel
theorem dL_law_276 : decode cL_law 276 = .ok (.iadd, 1) := by decide +kernel
theorem dL_law_277 : decode cL_law 277 = .ok (.iaload, 1) := by decide +kernel
theorem dL_law_278 : decode cL_law 278 = .ok (.aload_n 0, 1) := by decide +kernel
theorem dL_law_279 : decode cL_law 279 = .ok (.iload_n 3, 1) := by decide +kernel
theorem dL_law_280 : decode cL_law 280 = .ok (.iconst 2, 1) := by decide +kernel
theorem dL_law_281 : decode cL_law 281 = .ok (.iadd, 1) := by decide +kernel
theorem dL_law_282 : decode cL_law 282 = .ok (.iaload, 1) := by decide +kernel
theorem dL_law_283 : decode cL_law 283 = .ok (.invokevirtual 31, 3) := by decide +kernel
theorem dL_law_286 : decode cL_law 286 = .ok (.aload_n 2, 1) := by decide +kernel
theorem dL_law_287 : decode cL_law 287 = .ok (.aload_n 0, 1) := by decide +kernel
theorem dL_law_288 : decode cL_law 288 = .ok (.iload_n 3, 1) := by decide +kernel
theorem dL_law_289 : decode cL_law 289 = .ok (.iconst 1, 1) := by decide +kernel
theorem dL_law_290 : decode cL_law 290 = .ok (.iadd, 1) := by decide +kernel
theorem dL_law_291 : decode cL_law 291 = .ok (.iaload, 1) := by decide +kernel
theorem dL_law_292 : decode cL_law 292 = .ok (.aload_n 0, 1) := by decide +kernel
theorem dL_law_293 : decode cL_law 293 = .ok (.iload_n 3, 1) := by decide +kernel
theorem dL_law_294 : decode cL_law 294 = .ok (.iconst 2, 1) := by decide +kernel
theorem dL_law_295 : decode cL_law 295 = .ok (.iadd, 1) := by decide +kernel
theorem dL_law_296 : decode cL_law 296 = .ok (.iaload, 1) := by decide +kernel
theorem dL_law_297 : decode cL_law 297 = .ok (.invokevirtual 35, 3) := by decide +kernel
theorem dL_law_300 : decode cL_law 300 = .ok (.if_icmp .eq 670, 3) := by decide +kernel
theorem dL_law_303 : decode cL_law 303 = .ok (.iconst 0, 1) := by decide +kernel
theorem dL_law_304 : decode cL_law 304 = .ok (.ireturn, 1) := by decide +kernel
theorem dL_law_305 : decode cL_law 305 = .ok (.aload_n 1, 1) := by decide +kernel
theorem dL_law_306 : decode cL_law 306 = .ok (.aload_n 0, 1) := by decide +kernel
theorem dL_law_307 : decode cL_law 307 = .ok (.iload_n 3, 1) := by decide +kernel
theorem dL_law_308 : decode cL_law 308 = .ok (.iconst 1, 1) := by decide +kernel
theorem dL_law_309 : decode cL_law 309 = .ok (.iadd, 1) := by decide +kernel
theorem dL_law_310 : decode cL_law 310 = .ok (.iaload, 1) := by decide +kernel
theorem dL_law_311 : decode cL_law 311 = .ok (.aload_n 0, 1) := by decide +kernel
theorem dL_law_312 : decode cL_law 312 = .ok (.iload_n 3, 1) := by decide +kernel
theorem dL_law_313 : decode cL_law 313 = .ok (.iconst 2, 1) := by decide +kernel
theorem dL_law_314 : decode cL_law 314 = .ok (.iadd, 1) := by decide +kernel
theorem dL_law_315 : decode cL_law 315 = .ok (.iaload, 1) := by decide +kernel
theorem dL_law_316 : decode cL_law 316 = .ok (.aload_n 0, 1) := by decide +kernel
theorem dL_law_317 : decode cL_law 317 = .ok (.iload_n 3, 1) := by decide +kernel
theorem dL_law_318 : decode cL_law 318 = .ok (.iconst 3, 1) := by decide +kernel
theorem dL_law_319 : decode cL_law 319 = .ok (.iadd, 1) := by decide +kernel
theorem dL_law_320 : decode cL_law 320 = .ok (.iaload, 1) := by decide +kernel
theorem dL_law_321 : decode cL_law 321 = .ok (.aload_n 0, 1) := by decide +kernel
theorem dL_law_322 : decode cL_law 322 = .ok (.iload_n 3, 1) := by decide +kernel
theorem dL_law_323 : decode cL_law 323 = .ok (.iconst 4, 1) := by decide +kernel
theorem dL_law_324 : decode cL_law 324 = .ok (.iadd, 1) := by decide +kernel
theorem dL_law_325 : decode cL_law 325 = .ok (.iaload, 1) := by decide +kernel
theorem dL_law_326 : decode cL_law 326 = .ok (.aload_n 0, 1) := by decide +kernel
theorem dL_law_327 : decode cL_law 327 = .ok (.iload_n 3, 1) := by decide +kernel
theorem dL_law_328 : decode cL_law 328 = .ok (.iconst 5, 1) := by decide +kernel
theorem dL_law_329 : decode cL_law 329 = .ok (.iadd, 1) := by decide +kernel
theorem dL_law_330 : decode cL_law 330 = .ok (.iaload, 1) := by decide +kernel
theorem dL_law_331 : decode cL_law 331 = .ok (.invokevirtual 36, 3) := by decide +kernel
theorem dL_law_334 : decode cL_law 334 = .ok (.aload_n 2, 1) := by decide +kernel
theorem dL_law_335 : decode cL_law 335 = .ok (.aload_n 0, 1) := by decide +kernel
theorem dL_law_336 : decode cL_law 336 = .ok (.iload_n 3, 1) := by decide +kernel
theorem dL_law_337 : decode cL_law 337 = .ok (.iconst 1, 1) := by decide +kernel
theorem dL_law_338 : decode cL_law 338 = .ok (.iadd, 1) := by decide +kernel
theorem dL_law_339 : decode cL_law 339 = .ok (.iaload, 1) := by decide +kernel
theorem dL_law_340 : decode cL_law 340 = .ok (.aload_n 0, 1) := by decide +kernel
theorem dL_law_341 : decode cL_law 341 = .ok (.iload_n 3, 1) := by decide +kernel
theorem dL_law_342 : decode cL_law 342 = .ok (.iconst 2, 1) := by decide +kernel
theorem dL_law_343 : decode cL_law 343 = .ok (.iadd, 1) := by decide +kernel
theorem dL_law_344 : decode cL_law 344 = .ok (.iaload, 1) := by decide +kernel
theorem dL_law_345 : decode cL_law 345 = .ok (.aload_n 0, 1) := by decide +kernel
theorem dL_law_346 : decode cL_law 346 = .ok (.iload_n 3, 1) := by decide +kernel
theorem dL_law_347 : decode cL_law 347 = .ok (.iconst 3, 1) := by decide +kernel
theorem dL_law_348 : decode cL_law 348 = .ok (.iadd, 1) := by decide +kernel
theorem dL_law_349 : decode cL_law 349 = .ok (.iaload, 1) := by decide +kernel
theorem dL_law_350 : decode cL_law 350 = .ok (.aload_n 0, 1) := by decide +kernel
theorem dL_law_351 : decode cL_law 351 = .ok (.iload_n 3, 1) := by decide +kernel
theorem dL_law_352 : decode cL_law 352 = .ok (.iconst 4, 1) := by decide +kernel
theorem dL_law_353 : decode cL_law 353 = .ok (.iadd, 1) := by decide +kernel
theorem dL_law_354 : decode cL_law 354 = .ok (.iaload, 1) := by decide +kernel
theorem dL_law_355 : decode cL_law 355 = .ok (.aload_n 0, 1) := by decide +kernel
theorem dL_law_356 : decode cL_law 356 = .ok (.iload_n 3, 1) := by decide +kernel
theorem dL_law_357 : decode cL_law 357 = .ok (.iconst 5, 1) := by decide +kernel
theorem dL_law_358 : decode cL_law 358 = .ok (.iadd, 1) := by decide +kernel
theorem dL_law_359 : decode cL_law 359 = .ok (.iaload, 1) := by decide +kernel
theorem dL_law_360 : decode cL_law 360 = .ok (.invokevirtual 40, 3) := by decide +kernel
theorem dL_law_363 : decode cL_law 363 = .ok (.if_icmp .eq 607, 3) := by decide +kernel
theorem dL_law_366 : decode cL_law 366 = .ok (.iconst 0, 1) := by decide +kernel
theorem dL_law_367 : decode cL_law 367 = .ok (.ireturn, 1) := by decide +kernel
theorem dL_law_368 : decode cL_law 368 = .ok (.aload_n 1, 1) := by decide +kernel
theorem dL_law_369 : decode cL_law 369 = .ok (.aload_n 0, 1) := by decide +kernel
theorem dL_law_370 : decode cL_law 370 = .ok (.iload_n 3, 1) := by decide +kernel
theorem dL_law_371 : decode cL_law 371 = .ok (.iconst 1, 1) := by decide +kernel
theorem dL_law_372 : decode cL_law 372 = .ok (.iadd, 1) := by decide +kernel
theorem dL_law_373 : decode cL_law 373 = .ok (.iaload, 1) := by decide +kernel
theorem dL_law_374 : decode cL_law 374 = .ok (.aload_n 0, 1) := by decide +kernel
theorem dL_law_375 : decode cL_law 375 = .ok (.iload_n 3, 1) := by decide +kernel
theorem dL_law_376 : decode cL_law 376 = .ok (.iconst 2, 1) := by decide +kernel
theorem dL_law_377 : decode cL_law 377 = .ok (.iadd, 1) := by decide +kernel
theorem dL_law_378 : decode cL_law 378 = .ok (.iaload, 1) := by decide +kernel
theorem dL_law_379 : decode cL_law 379 = .ok (.invokevirtual 41, 3) := by decide +kernel
theorem dL_law_382 : decode cL_law 382 = .ok (.aload_n 2, 1) := by decide +kernel
theorem dL_law_383 : decode cL_law 383 = .ok (.aload_n 0, 1) := by decide +kernel
theorem dL_law_384 : decode cL_law 384 = .ok (.iload_n 3, 1) := by decide +kernel
theorem dL_law_385 : decode cL_law 385 = .ok (.iconst 1, 1) := by decide +kernel
theorem dL_law_386 : decode cL_law 386 = .ok (.iadd, 1) := by decide +kernel
theorem dL_law_387 : decode cL_law 387 = .ok (.iaload, 1) := by decide +kernel
theorem dL_law_388 : decode cL_law 388 = .ok (.aload_n 0, 1) := by decide +kernel
theorem dL_law_389 : decode cL_law 389 = .ok (.iload_n 3, 1) := by decide +kernel
theorem dL_law_390 : decode cL_law 390 = .ok (.iconst 2, 1) := by decide +kernel
theorem dL_law_391 : decode cL_law 391 = .ok (.iadd, 1) := by decide +kernel
theorem dL_law_392 : decode cL_law 392 = .ok (.iaload, 1) := by decide +kernel
theorem dL_law_393 : decode cL_law 393 = .ok (.invokevirtual 44, 3) := by decide +kernel
theorem dL_law_396 : decode cL_law 396 = .ok (.if_icmp .eq 574, 3) := by decide +kernel
theorem dL_law_399 : decode cL_law 399 = .ok (.iconst 0, 1) := by decide +kernel
theorem dL_law_400 : decode cL_law 400 = .ok (.ireturn, 1) := by decide +kernel
theorem dL_law_401 : decode cL_law 401 = .ok (.aload_n 1, 1) := by decide +kernel
theorem dL_law_402 : decode cL_law 402 = .ok (.invokevirtual 45, 3) := by decide +kernel
theorem dL_law_405 : decode cL_law 405 = .ok (.aload_n 2, 1) := by decide +kernel
theorem dL_law_406 : decode cL_law 406 = .ok (.invokevirtual 49, 3) := by decide +kernel
theorem dL_law_409 : decode cL_law 409 = .ok (.if_icmp .eq 561, 3) := by decide +kernel
theorem dL_law_412 : decode cL_law 412 = .ok (.iconst 0, 1) := by decide +kernel
theorem dL_law_413 : decode cL_law 413 = .ok (.ireturn, 1) := by decide +kernel
theorem dL_law_414 : decode cL_law 414 = .ok (.aload_n 1, 1) := by decide +kernel
theorem dL_law_415 : decode cL_law 415 = .ok (.aload_n 0, 1) := by decide +kernel
theorem dL_law_416 : decode cL_law 416 = .ok (.iload_n 3, 1) := by decide +kernel
theorem dL_law_417 : decode cL_law 417 = .ok (.iconst 1, 1) := by decide +kernel
theorem dL_law_418 : decode cL_law 418 = .ok (.iadd, 1) := by decide +kernel
theorem dL_law_419 : decode cL_law 419 = .ok (.iaload, 1) := by decide +kernel
theorem dL_law_420 : decode cL_law 420 = .ok (.aload_n 0, 1) := by decide +kernel
theorem dL_law_421 : decode cL_law 421 = .ok (.iload_n 3, 1) := by decide +kernel
theorem dL_law_422 : decode cL_law 422 = .ok (.iconst 2, 1) := by decide +kernel
theorem dL_law_423 : decode cL_law 423 = .ok (.iadd, 1) := by decide +kernel
theorem dL_law_424 : decode cL_law 424 = .ok (.iaload, 1) := by decide +kernel
theorem dL_law_425 : decode cL_law 425 = .ok (.invokevirtual 50, 3) := by decide +kernel
theorem dL_law_428 : decode cL_law 428 = .ok (.aload_n 2, 1) := by decide +kernel
theorem dL_law_429 : decode cL_law 429 = .ok (.aload_n 0, 1) := by decide +kernel
theorem dL_law_430 : decode cL_law 430 = .ok (.iload_n 3, 1) := by decide +kernel
theorem dL_law_431 : decode cL_law 431 = .ok (.iconst 1, 1) := by decide +kernel
theorem dL_law_432 : decode cL_law 432 = .ok (.iadd, 1) := by decide +kernel
theorem dL_law_433 : decode cL_law 433 = .ok (.iaload, 1) := by decide +kernel
theorem dL_law_434 : decode cL_law 434 = .ok (.aload_n 0, 1) := by decide +kernel
theorem dL_law_435 : decode cL_law 435 = .ok (.iload_n 3, 1) := by decide +kernel
theorem dL_law_436 : decode cL_law 436 = .ok (.iconst 2, 1) := by decide +kernel
theorem dL_law_437 : decode cL_law 437 = .ok (.iadd, 1) := by decide +kernel
theorem dL_law_438 : decode cL_law 438 = .ok (.iaload, 1) := by decide +kernel
theorem dL_law_439 : decode cL_law 439 = .ok (.invokevirtual 53, 3) := by decide +kernel
theorem dL_law_442 : decode cL_law 442 = .ok (.if_icmp .eq 528, 3) := by decide +kernel
theorem dL_law_445 : decode cL_law 445 = .ok (.iconst 0, 1) := by decide +kernel
theorem dL_law_446 : decode cL_law 446 = .ok (.ireturn, 1) := by decide +kernel
theorem dL_law_447 : decode cL_law 447 = .ok (.aload_n 1, 1) := by decide +kernel
theorem dL_law_448 : decode cL_law 448 = .ok (.aload_n 0, 1) := by decide +kernel
theorem dL_law_449 : decode cL_law 449 = .ok (.iload_n 3, 1) := by decide +kernel
theorem dL_law_450 : decode cL_law 450 = .ok (.iconst 1, 1) := by decide +kernel
theorem dL_law_451 : decode cL_law 451 = .ok (.iadd, 1) := by decide +kernel
theorem dL_law_452 : decode cL_law 452 = .ok (.iaload, 1) := by decide +kernel
theorem dL_law_453 : decode cL_law 453 = .ok (.aload_n 0, 1) := by decide +kernel
theorem dL_law_454 : decode cL_law 454 = .ok (.iload_n 3, 1) := by decide +kernel
theorem dL_law_455 : decode cL_law 455 = .ok (.iconst 2, 1) := by decide +kernel
theorem dL_law_456 : decode cL_law 456 = .ok (.iadd, 1) := by decide +kernel
theorem dL_law_457 : decode cL_law 457 = .ok (.iaload, 1) := by decide +kernel
theorem dL_law_458 : decode cL_law 458 = .ok (.aload_n 0, 1) := by decide +kernel
theorem dL_law_459 : decode cL_law 459 = .ok (.iload_n 3, 1) := by decide +kernel
theorem dL_law_460 : decode cL_law 460 = .ok (.iconst 3, 1) := by decide +kernel
theorem dL_law_461 : decode cL_law 461 = .ok (.iadd, 1) := by decide +kernel
theorem dL_law_462 : decode cL_law 462 = .ok (.iaload, 1) := by decide +kernel
theorem dL_law_463 : decode cL_law 463 = .ok (.aload_n 0, 1) := by decide +kernel
theorem dL_law_464 : decode cL_law 464 = .ok (.iload_n 3, 1) := by decide +kernel
theorem dL_law_465 : decode cL_law 465 = .ok (.iconst 4, 1) := by decide +kernel
theorem dL_law_466 : decode cL_law 466 = .ok (.iadd, 1) := by decide +kernel
theorem dL_law_467 : decode cL_law 467 = .ok (.iaload, 1) := by decide +kernel
theorem dL_law_468 : decode cL_law 468 = .ok (.invokevirtual 54, 3) := by decide +kernel
theorem dL_law_471 : decode cL_law 471 = .ok (.aload_n 2, 1) := by decide +kernel
theorem dL_law_472 : decode cL_law 472 = .ok (.aload_n 0, 1) := by decide +kernel
theorem dL_law_473 : decode cL_law 473 = .ok (.iload_n 3, 1) := by decide +kernel
theorem dL_law_474 : decode cL_law 474 = .ok (.iconst 1, 1) := by decide +kernel
theorem dL_law_475 : decode cL_law 475 = .ok (.iadd, 1) := by decide +kernel
theorem dL_law_476 : decode cL_law 476 = .ok (.iaload, 1) := by decide +kernel
theorem dL_law_477 : decode cL_law 477 = .ok (.aload_n 0, 1) := by decide +kernel
theorem dL_law_478 : decode cL_law 478 = .ok (.iload_n 3, 1) := by decide +kernel
theorem dL_law_479 : decode cL_law 479 = .ok (.iconst 2, 1) := by decide +kernel
theorem dL_law_480 : decode cL_law 480 = .ok (.iadd, 1) := by decide +kernel
theorem dL_law_481 : decode cL_law 481 = .ok (.iaload, 1) := by decide +kernel
theorem dL_law_482 : decode cL_law 482 = .ok (.aload_n 0, 1) := by decide +kernel
theorem dL_law_483 : decode cL_law 483 = .ok (.iload_n 3, 1) := by decide +kernel
theorem dL_law_484 : decode cL_law 484 = .ok (.iconst 3, 1) := by decide +kernel
theorem dL_law_485 : decode cL_law 485 = .ok (.iadd, 1) := by decide +kernel
theorem dL_law_486 : decode cL_law 486 = .ok (.iaload, 1) := by decide +kernel
theorem dL_law_487 : decode cL_law 487 = .ok (.aload_n 0, 1) := by decide +kernel
theorem dL_law_488 : decode cL_law 488 = .ok (.iload_n 3, 1) := by decide +kernel
theorem dL_law_489 : decode cL_law 489 = .ok (.iconst 4, 1) := by decide +kernel
theorem dL_law_490 : decode cL_law 490 = .ok (.iadd, 1) := by decide +kernel
theorem dL_law_491 : decode cL_law 491 = .ok (.iaload, 1) := by decide +kernel
theorem dL_law_492 : decode cL_law 492 = .ok (.invokevirtual 58, 3) := by decide +kernel
theorem dL_law_495 : decode cL_law 495 = .ok (.if_icmp .eq 475, 3) := by decide +kernel
theorem dL_law_498 : decode cL_law 498 = .ok (.iconst 0, 1) := by decide +kernel
theorem dL_law_499 : decode cL_law 499 = .ok (.ireturn, 1) := by decide +kernel
theorem dL_law_500 : decode cL_law 500 = .ok (.aload_n 1, 1) := by decide +kernel
theorem dL_law_501 : decode cL_law 501 = .ok (.aload_n 0, 1) := by decide +kernel
theorem dL_law_502 : decode cL_law 502 = .ok (.iload_n 3, 1) := by decide +kernel
theorem dL_law_503 : decode cL_law 503 = .ok (.iconst 1, 1) := by decide +kernel
theorem dL_law_504 : decode cL_law 504 = .ok (.iadd, 1) := by decide +kernel
theorem dL_law_505 : decode cL_law 505 = .ok (.iaload, 1) := by decide +kernel
theorem dL_law_506 : decode cL_law 506 = .ok (.invokevirtual 59, 3) := by decide +kernel
theorem dL_law_509 : decode cL_law 509 = .ok (.aload_n 2, 1) := by decide +kernel
theorem dL_law_510 : decode cL_law 510 = .ok (.aload_n 0, 1) := by decide +kernel
theorem dL_law_511 : decode cL_law 511 = .ok (.iload_n 3, 1) := by decide +kernel
theorem dL_law_512 : decode cL_law 512 = .ok (.iconst 1, 1) := by decide +kernel
theorem dL_law_513 : decode cL_law 513 = .ok (.iadd, 1) := by decide +kernel
theorem dL_law_514 : decode cL_law 514 = .ok (.iaload, 1) := by decide +kernel
theorem dL_law_515 : decode cL_law 515 = .ok (.invokevirtual 62, 3) := by decide +kernel
theorem dL_law_518 : decode cL_law 518 = .ok (.if_icmp .eq 452, 3) := by decide +kernel
theorem dL_law_521 : decode cL_law 521 = .ok (.iconst 0, 1) := by decide +kernel
theorem dL_law_522 : decode cL_law 522 = .ok (.ireturn, 1) := by decide +kernel
theorem dL_law_523 : decode cL_law 523 = .ok (.aload_n 1, 1) := by decide +kernel
theorem dL_law_524 : decode cL_law 524 = .ok (.aload_n 0, 1) := by decide +kernel
theorem dL_law_525 : decode cL_law 525 = .ok (.iload_n 3, 1) := by decide +kernel
theorem dL_law_526 : decode cL_law 526 = .ok (.iconst 1, 1) := by decide +kernel
theorem dL_law_527 : decode cL_law 527 = .ok (.iadd, 1) := by decide +kernel
theorem dL_law_528 : decode cL_law 528 = .ok (.iaload, 1) := by decide +kernel
theorem dL_law_529 : decode cL_law 529 = .ok (.invokevirtual 63, 3) := by decide +kernel
theorem dL_law_532 : decode cL_law 532 = .ok (.aload_n 2, 1) := by decide +kernel
theorem dL_law_533 : decode cL_law 533 = .ok (.aload_n 0, 1) := by decide +kernel
theorem dL_law_534 : decode cL_law 534 = .ok (.iload_n 3, 1) := by decide +kernel
theorem dL_law_535 : decode cL_law 535 = .ok (.iconst 1, 1) := by decide +kernel
theorem dL_law_536 : decode cL_law 536 = .ok (.iadd, 1) := by decide +kernel
theorem dL_law_537 : decode cL_law 537 = .ok (.iaload, 1) := by decide +kernel
theorem dL_law_538 : decode cL_law 538 = .ok (.invokevirtual 66, 3) := by decide +kernel
theorem dL_law_541 : decode cL_law 541 = .ok (.if_icmp .eq 429, 3) := by decide +kernel
theorem dL_law_544 : decode cL_law 544 = .ok (.iconst 0, 1) := by decide +kernel
theorem dL_law_545 : decode cL_law 545 = .ok (.ireturn, 1) := by decide +kernel
theorem dL_law_546 : decode cL_law 546 = .ok (.aload_n 1, 1) := by decide +kernel
theorem dL_law_547 : decode cL_law 547 = .ok (.invokevirtual 67, 3) := by decide +kernel
theorem dL_law_550 : decode cL_law 550 = .ok (.aload_n 2, 1) := by decide +kernel
theorem dL_law_551 : decode cL_law 551 = .ok (.invokevirtual 70, 3) := by decide +kernel
theorem dL_law_554 : decode cL_law 554 = .ok (.if_icmp .eq 416, 3) := by decide +kernel
theorem dL_law_557 : decode cL_law 557 = .ok (.iconst 0, 1) := by decide +kernel
theorem dL_law_558 : decode cL_law 558 = .ok (.ireturn, 1) := by decide +kernel
theorem dL_law_559 : decode cL_law 559 = .ok (.aload_n 1, 1) := by decide +kernel
theorem dL_law_560 : decode cL_law 560 = .ok (.aload_n 0, 1) := by decide +kernel
theorem dL_law_561 : decode cL_law 561 = .ok (.iload_n 3, 1) := by decide +kernel
theorem dL_law_562 : decode cL_law 562 = .ok (.iconst 1, 1) := by decide +kernel
theorem dL_law_563 : decode cL_law 563 = .ok (.iadd, 1) := by decide +kernel
theorem dL_law_564 : decode cL_law 564 = .ok (.iaload, 1) := by decide +kernel
theorem dL_law_565 : decode cL_law 565 = .ok (.invokevirtual 71, 3) := by decide +kernel
theorem dL_law_568 : decode cL_law 568 = .ok (.aload_n 2, 1) := by decide +kernel
theorem dL_law_569 : decode cL_law 569 = .ok (.aload_n 0, 1) := by decide +kernel
theorem dL_law_570 : decode cL_law 570 = .ok (.iload_n 3, 1) := by decide +kernel
theorem dL_law_571 : decode cL_law 571 = .ok (.iconst 1, 1) := by decide +kernel
theorem dL_law_572 : decode cL_law 572 = .ok (.iadd, 1) := by decide +kernel
theorem dL_law_573 : decode cL_law 573 = .ok (.iaload, 1) := by decide +kernel
theorem dL_law_574 : decode cL_law 574 = .ok (.invokevirtual 74, 3) := by decide +kernel
theorem dL_law_577 : decode cL_law 577 = .ok (.if_icmp .eq 393, 3) := by decide +kernel
theorem dL_law_580 : decode cL_law 580 = .ok (.iconst 0, 1) := by decide +kernel
theorem dL_law_581 : decode cL_law 581 = .ok (.ireturn, 1) := by decide +kernel
theorem dL_law_582 : decode cL_law 582 = .ok (.aload_n 1, 1) := by decide +kernel
theorem dL_law_583 : decode cL_law 583 = .ok (.aload_n 0, 1) := by decide +kernel
theorem dL_law_584 : decode cL_law 584 = .ok (.iload_n 3, 1) := by decide +kernel
theorem dL_law_585 : decode cL_law 585 = .ok (.iconst 1, 1) := by decide +kernel
theorem dL_law_586 : decode cL_law 586 = .ok (.iadd, 1) := by decide +kernel
theorem dL_law_587 : decode cL_law 587 = .ok (.iaload, 1) := by decide +kernel
theorem dL_law_588 : decode cL_law 588 = .ok (.invokevirtual 75, 3) := by decide +kernel
theorem dL_law_591 : decode cL_law 591 = .ok (.aload_n 2, 1) := by decide +kernel
theorem dL_law_592 : decode cL_law 592 = .ok (.aload_n 0, 1) := by decide +kernel
theorem dL_law_593 : decode cL_law 593 = .ok (.iload_n 3, 1) := by decide +kernel
theorem dL_law_594 : decode cL_law 594 = .ok (.iconst 1, 1) := by decide +kernel
theorem dL_law_595 : decode cL_law 595 = .ok (.iadd, 1) := by decide +kernel
theorem dL_law_596 : decode cL_law 596 = .ok (.iaload, 1) := by decide +kernel
theorem dL_law_597 : decode cL_law 597 = .ok (.invokevirtual 78, 3) := by decide +kernel
theorem dL_law_600 : decode cL_law 600 = .ok (.if_icmp .eq 370, 3) := by decide +kernel
theorem dL_law_603 : decode cL_law 603 = .ok (.iconst 0, 1) := by decide +kernel
theorem dL_law_604 : decode cL_law 604 = .ok (.ireturn, 1) := by decide +kernel
theorem dL_law_605 : decode cL_law 605 = .ok (.aload_n 1, 1) := by decide +kernel
theorem dL_law_606 : decode cL_law 606 = .ok (.aload_n 0, 1) := by decide +kernel
theorem dL_law_607 : decode cL_law 607 = .ok (.iload_n 3, 1) := by decide +kernel
theorem dL_law_608 : decode cL_law 608 = .ok (.iconst 1, 1) := by decide +kernel
theorem dL_law_609 : decode cL_law 609 = .ok (.iadd, 1) := by decide +kernel
theorem dL_law_610 : decode cL_law 610 = .ok (.iaload, 1) := by decide +kernel
theorem dL_law_611 : decode cL_law 611 = .ok (.invokevirtual 79, 3) := by decide +kernel
theorem dL_law_614 : decode cL_law 614 = .ok (.aload_n 2, 1) := by decide +kernel
theorem dL_law_615 : decode cL_law 615 = .ok (.aload_n 0, 1) := by decide +kernel
theorem dL_law_616 : decode cL_law 616 = .ok (.iload_n 3, 1) := by decide +kernel
theorem dL_law_617 : decode cL_law 617 = .ok (.iconst 1, 1) := by decide +kernel
theorem dL_law_618 : decode cL_law 618 = .ok (.iadd, 1) := by decide +kernel
theorem dL_law_619 : decode cL_law 619 = .ok (.iaload, 1) := by decide +kernel
theorem dL_law_620 : decode cL_law 620 = .ok (.invokevirtual 82, 3) := by decide +kernel
theorem dL_law_623 : decode cL_law 623 = .ok (.if_icmp .eq 347, 3) := by decide +kernel
theorem dL_law_626 : decode cL_law 626 = .ok (.iconst 0, 1) := by decide +kernel
theorem dL_law_627 : decode cL_law 627 = .ok (.ireturn, 1) := by decide +kernel
theorem dL_law_628 : decode cL_law 628 = .ok (.aload_n 1, 1) := by decide +kernel
theorem dL_law_629 : decode cL_law 629 = .ok (.invokevirtual 83, 3) := by decide +kernel
theorem dL_law_632 : decode cL_law 632 = .ok (.aload_n 2, 1) := by decide +kernel
theorem dL_law_633 : decode cL_law 633 = .ok (.invokevirtual 86, 3) := by decide +kernel
theorem dL_law_636 : decode cL_law 636 = .ok (.if_icmp .eq 334, 3) := by decide +kernel
theorem dL_law_639 : decode cL_law 639 = .ok (.iconst 0, 1) := by decide +kernel
theorem dL_law_640 : decode cL_law 640 = .ok (.ireturn, 1) := by decide +kernel
theorem dL_law_641 : decode cL_law 641 = .ok (.aload_n 1, 1) := by decide +kernel
theorem dL_law_642 : decode cL_law 642 = .ok (.aload_n 0, 1) := by decide +kernel
theorem dL_law_643 : decode cL_law 643 = .ok (.iload_n 3, 1) := by decide +kernel
theorem dL_law_644 : decode cL_law 644 = .ok (.iconst 1, 1) := by decide +kernel
theorem dL_law_645 : decode cL_law 645 = .ok (.iadd, 1) := by decide +kernel
theorem dL_law_646 : decode cL_law 646 = .ok (.iaload, 1) := by decide +kernel
theorem dL_law_647 : decode cL_law 647 = .ok (.aload_n 0, 1) := by decide +kernel
theorem dL_law_648 : decode cL_law 648 = .ok (.iload_n 3, 1) := by decide +kernel
theorem dL_law_649 : decode cL_law 649 = .ok (.iconst 2, 1) := by decide +kernel
theorem dL_law_650 : decode cL_law 650 = .ok (.iadd, 1) := by decide +kernel
theorem dL_law_651 : decode cL_law 651 = .ok (.iaload, 1) := by decide +kernel
theorem dL_law_652 : decode cL_law 652 = .ok (.invokevirtual 87, 3) := by decide +kernel
theorem dL_law_655 : decode cL_law 655 = .ok (.aload_n 2, 1) := by decide +kernel
theorem dL_law_656 : decode cL_law 656 = .ok (.aload_n 0, 1) := by decide +kernel
theorem dL_law_657 : decode cL_law 657 = .ok (.iload_n 3, 1) := by decide +kernel
theorem dL_law_658 : decode cL_law 658 = .ok (.iconst 1, 1) := by decide +kernel
theorem dL_law_659 : decode cL_law 659 = .ok (.iadd, 1) := by decide +kernel
theorem dL_law_660 : decode cL_law 660 = .ok (.iaload, 1) := by decide +kernel
theorem dL_law_661 : decode cL_law 661 = .ok (.aload_n 0, 1) := by decide +kernel
theorem dL_law_662 : decode cL_law 662 = .ok (.iload_n 3, 1) := by decide +kernel
theorem dL_law_663 : decode cL_law 663 = .ok (.iconst 2, 1) := by decide +kernel
theorem dL_law_664 : decode cL_law 664 = .ok (.iadd, 1) := by decide +kernel
theorem dL_law_665 : decode cL_law 665 = .ok (.iaload, 1) := by decide +kernel
theorem dL_law_666 : decode cL_law 666 = .ok (.invokevirtual 90, 3) := by decide +kernel
theorem dL_law_669 : decode cL_law 669 = .ok (.if_icmp .eq 301, 3) := by decide +kernel
theorem dL_law_672 : decode cL_law 672 = .ok (.iconst 0, 1) := by decide +kernel
theorem dL_law_673 : decode cL_law 673 = .ok (.ireturn, 1) := by decide +kernel
theorem dL_law_674 : decode cL_law 674 = .ok (.aload_n 1, 1) := by decide +kernel
theorem dL_law_675 : decode cL_law 675 = .ok (.aload_n 0, 1) := by decide +kernel
theorem dL_law_676 : decode cL_law 676 = .ok (.iload_n 3, 1) := by decide +kernel
theorem dL_law_677 : decode cL_law 677 = .ok (.iconst 1, 1) := by decide +kernel
theorem dL_law_678 : decode cL_law 678 = .ok (.iadd, 1) := by decide +kernel
theorem dL_law_679 : decode cL_law 679 = .ok (.iaload, 1) := by decide +kernel
theorem dL_law_680 : decode cL_law 680 = .ok (.aload_n 0, 1) := by decide +kernel
theorem dL_law_681 : decode cL_law 681 = .ok (.iload_n 3, 1) := by decide +kernel
theorem dL_law_682 : decode cL_law 682 = .ok (.iconst 2, 1) := by decide +kernel
theorem dL_law_683 : decode cL_law 683 = .ok (.iadd, 1) := by decide +kernel
theorem dL_law_684 : decode cL_law 684 = .ok (.iaload, 1) := by decide +kernel
theorem dL_law_685 : decode cL_law 685 = .ok (.aload_n 0, 1) := by decide +kernel
theorem dL_law_686 : decode cL_law 686 = .ok (.iload_n 3, 1) := by decide +kernel
theorem dL_law_687 : decode cL_law 687 = .ok (.iconst 3, 1) := by decide +kernel
theorem dL_law_688 : decode cL_law 688 = .ok (.iadd, 1) := by decide +kernel
theorem dL_law_689 : decode cL_law 689 = .ok (.iaload, 1) := by decide +kernel
theorem dL_law_690 : decode cL_law 690 = .ok (.invokevirtual 91, 3) := by decide +kernel
theorem dL_law_693 : decode cL_law 693 = .ok (.aload_n 2, 1) := by decide +kernel
theorem dL_law_694 : decode cL_law 694 = .ok (.aload_n 0, 1) := by decide +kernel
theorem dL_law_695 : decode cL_law 695 = .ok (.iload_n 3, 1) := by decide +kernel
theorem dL_law_696 : decode cL_law 696 = .ok (.iconst 1, 1) := by decide +kernel
theorem dL_law_697 : decode cL_law 697 = .ok (.iadd, 1) := by decide +kernel
theorem dL_law_698 : decode cL_law 698 = .ok (.iaload, 1) := by decide +kernel
theorem dL_law_699 : decode cL_law 699 = .ok (.aload_n 0, 1) := by decide +kernel
theorem dL_law_700 : decode cL_law 700 = .ok (.iload_n 3, 1) := by decide +kernel
theorem dL_law_701 : decode cL_law 701 = .ok (.iconst 2, 1) := by decide +kernel
theorem dL_law_702 : decode cL_law 702 = .ok (.iadd, 1) := by decide +kernel
theorem dL_law_703 : decode cL_law 703 = .ok (.iaload, 1) := by decide +kernel
theorem dL_law_704 : decode cL_law 704 = .ok (.aload_n 0, 1) := by decide +kernel
theorem dL_law_705 : decode cL_law 705 = .ok (.iload_n 3, 1) := by decide +kernel
theorem dL_law_706 : decode cL_law 706 = .ok (.iconst 3, 1) := by decide +kernel
theorem dL_law_707 : decode cL_law 707 = .ok (.iadd, 1) := by decide +kernel
theorem dL_law_708 : decode cL_law 708 = .ok (.iaload, 1) := by decide +kernel
theorem dL_law_709 : decode cL_law 709 = .ok (.invokevirtual 94, 3) := by decide +kernel
theorem dL_law_712 : decode cL_law 712 = .ok (.if_icmp .eq 258, 3) := by decide +kernel
theorem dL_law_715 : decode cL_law 715 = .ok (.iconst 0, 1) := by decide +kernel
theorem dL_law_716 : decode cL_law 716 = .ok (.ireturn, 1) := by decide +kernel
theorem dL_law_717 : decode cL_law 717 = .ok (.aload_n 1, 1) := by decide +kernel
theorem dL_law_718 : decode cL_law 718 = .ok (.invokevirtual 95, 3) := by decide +kernel
theorem dL_law_721 : decode cL_law 721 = .ok (.aload_n 2, 1) := by decide +kernel
theorem dL_law_722 : decode cL_law 722 = .ok (.invokevirtual 98, 3) := by decide +kernel
theorem dL_law_725 : decode cL_law 725 = .ok (.if_icmp .eq 245, 3) := by decide +kernel
theorem dL_law_728 : decode cL_law 728 = .ok (.iconst 0, 1) := by decide +kernel
theorem dL_law_729 : decode cL_law 729 = .ok (.ireturn, 1) := by decide +kernel
theorem dL_law_730 : decode cL_law 730 = .ok (.aload_n 1, 1) := by decide +kernel
theorem dL_law_731 : decode cL_law 731 = .ok (.aload_n 0, 1) := by decide +kernel
theorem dL_law_732 : decode cL_law 732 = .ok (.iload_n 3, 1) := by decide +kernel
theorem dL_law_733 : decode cL_law 733 = .ok (.iconst 1, 1) := by decide +kernel
theorem dL_law_734 : decode cL_law 734 = .ok (.iadd, 1) := by decide +kernel
theorem dL_law_735 : decode cL_law 735 = .ok (.iaload, 1) := by decide +kernel
theorem dL_law_736 : decode cL_law 736 = .ok (.aload_n 0, 1) := by decide +kernel
theorem dL_law_737 : decode cL_law 737 = .ok (.iload_n 3, 1) := by decide +kernel
theorem dL_law_738 : decode cL_law 738 = .ok (.iconst 2, 1) := by decide +kernel
theorem dL_law_739 : decode cL_law 739 = .ok (.iadd, 1) := by decide +kernel
theorem dL_law_740 : decode cL_law 740 = .ok (.iaload, 1) := by decide +kernel
theorem dL_law_741 : decode cL_law 741 = .ok (.aload_n 0, 1) := by decide +kernel
theorem dL_law_742 : decode cL_law 742 = .ok (.iload_n 3, 1) := by decide +kernel
theorem dL_law_743 : decode cL_law 743 = .ok (.iconst 3, 1) := by decide +kernel
theorem dL_law_744 : decode cL_law 744 = .ok (.iadd, 1) := by decide +kernel
theorem dL_law_745 : decode cL_law 745 = .ok (.iaload, 1) := by decide +kernel
theorem dL_law_746 : decode cL_law 746 = .ok (.ifCond .eq 7, 3) := by decide +kernel
theorem dL_law_749 : decode cL_law 749 = .ok (.iconst 1, 1) := by decide +kernel
theorem dL_law_750 : decode cL_law 750 = .ok (.goto 4, 3) := by decide +kernel
theorem dL_law_753 : decode cL_law 753 = .ok (.iconst 0, 1) := by decide +kernel
theorem dL_law_754 : decode cL_law 754 = .ok (.invokevirtual 99, 3) := by decide +kernel
theorem dL_law_757 : decode cL_law 757 = .ok (.aload_n 2, 1) := by decide +kernel
theorem dL_law_758 : decode cL_law 758 = .ok (.aload_n 0, 1) := by decide +kernel
theorem dL_law_759 : decode cL_law 759 = .ok (.iload_n 3, 1) := by decide +kernel
theorem dL_law_760 : decode cL_law 760 = .ok (.iconst 1, 1) := by decide +kernel
theorem dL_law_761 : decode cL_law 761 = .ok (.iadd, 1) := by decide +kernel
theorem dL_law_762 : decode cL_law 762 = .ok (.iaload, 1) := by decide +kernel
theorem dL_law_763 : decode cL_law 763 = .ok (.aload_n 0, 1) := by decide +kernel
theorem dL_law_764 : decode cL_law 764 = .ok (.iload_n 3, 1) := by decide +kernel
theorem dL_law_765 : decode cL_law 765 = .ok (.iconst 2, 1) := by decide +kernel
theorem dL_law_766 : decode cL_law 766 = .ok (.iadd, 1) := by decide +kernel
theorem dL_law_767 : decode cL_law 767 = .ok (.iaload, 1) := by decide +kernel
theorem dL_law_768 : decode cL_law 768 = .ok (.aload_n 0, 1) := by decide +kernel
theorem dL_law_769 : decode cL_law 769 = .ok (.iload_n 3, 1) := by decide +kernel
theorem dL_law_770 : decode cL_law 770 = .ok (.iconst 3, 1) := by decide +kernel
theorem dL_law_771 : decode cL_law 771 = .ok (.iadd, 1) := by decide +kernel
theorem dL_law_772 : decode cL_law 772 = .ok (.iaload, 1) := by decide +kernel
theorem dL_law_773 : decode cL_law 773 = .ok (.ifCond .eq 7, 3) := by decide +kernel
theorem dL_law_776 : decode cL_law 776 = .ok (.iconst 1, 1) := by decide +kernel
theorem dL_law_777 : decode cL_law 777 = .ok (.goto 4, 3) := by decide +kernel
theorem dL_law_780 : decode cL_law 780 = .ok (.iconst 0, 1) := by decide +kernel
theorem dL_law_781 : decode cL_law 781 = .ok (.invokevirtual 103, 3) := by decide +kernel
theorem dL_law_784 : decode cL_law 784 = .ok (.if_icmp .eq 186, 3) := by decide +kernel
theorem dL_law_787 : decode cL_law 787 = .ok (.iconst 0, 1) := by decide +kernel
theorem dL_law_788 : decode cL_law 788 = .ok (.ireturn, 1) := by decide +kernel
theorem dL_law_789 : decode cL_law 789 = .ok (.aload_n 1, 1) := by decide +kernel
theorem dL_law_790 : decode cL_law 790 = .ok (.aload_n 0, 1) := by decide +kernel
theorem dL_law_791 : decode cL_law 791 = .ok (.iload_n 3, 1) := by decide +kernel
theorem dL_law_792 : decode cL_law 792 = .ok (.iconst 1, 1) := by decide +kernel
theorem dL_law_793 : decode cL_law 793 = .ok (.iadd, 1) := by decide +kernel
theorem dL_law_794 : decode cL_law 794 = .ok (.iaload, 1) := by decide +kernel
theorem dL_law_795 : decode cL_law 795 = .ok (.aload_n 0, 1) := by decide +kernel
theorem dL_law_796 : decode cL_law 796 = .ok (.iload_n 3, 1) := by decide +kernel
theorem dL_law_797 : decode cL_law 797 = .ok (.iconst 2, 1) := by decide +kernel
theorem dL_law_798 : decode cL_law 798 = .ok (.iadd, 1) := by decide +kernel
theorem dL_law_799 : decode cL_law 799 = .ok (.iaload, 1) := by decide +kernel
theorem dL_law_800 : decode cL_law 800 = .ok (.invokevirtual 104, 3) := by decide +kernel
theorem dL_law_803 : decode cL_law 803 = .ok (.aload_n 2, 1) := by decide +kernel
theorem dL_law_804 : decode cL_law 804 = .ok (.aload_n 0, 1) := by decide +kernel
theorem dL_law_805 : decode cL_law 805 = .ok (.iload_n 3, 1) := by decide +kernel
theorem dL_law_806 : decode cL_law 806 = .ok (.iconst 1, 1) := by decide +kernel
theorem dL_law_807 : decode cL_law 807 = .ok (.iadd, 1) := by decide +kernel
theorem dL_law_808 : decode cL_law 808 = .ok (.iaload, 1) := by decide +kernel
theorem dL_law_809 : decode cL_law 809 = .ok (.aload_n 0, 1) := by decide +kernel
theorem dL_law_810 : decode cL_law 810 = .ok (.iload_n 3, 1) := by decide +kernel
theorem dL_law_811 : decode cL_law 811 = .ok (.iconst 2, 1) := by decide +kernel
theorem dL_law_812 : decode cL_law 812 = .ok (.iadd, 1) := by decide +kernel
theorem dL_law_813 : decode cL_law 813 = .ok (.iaload, 1) := by decide +kernel
theorem dL_law_814 : decode cL_law 814 = .ok (.invokevirtual 107, 3) := by decide +kernel
theorem dL_law_817 : decode cL_law 817 = .ok (.if_icmp .eq 153, 3) := by decide +kernel
theorem dL_law_820 : decode cL_law 820 = .ok (.iconst 0, 1) := by decide +kernel
theorem dL_law_821 : decode cL_law 821 = .ok (.ireturn, 1) := by decide +kernel
theorem dL_law_822 : decode cL_law 822 = .ok (.aload_n 1, 1) := by decide +kernel
theorem dL_law_823 : decode cL_law 823 = .ok (.invokevirtual 108, 3) := by decide +kernel
theorem dL_law_826 : decode cL_law 826 = .ok (.aload_n 2, 1) := by decide +kernel
theorem dL_law_827 : decode cL_law 827 = .ok (.invokevirtual 111, 3) := by decide +kernel
theorem dL_law_830 : decode cL_law 830 = .ok (.if_icmp .eq 140, 3) := by decide +kernel
theorem dL_law_833 : decode cL_law 833 = .ok (.iconst 0, 1) := by decide +kernel
theorem dL_law_834 : decode cL_law 834 = .ok (.ireturn, 1) := by decide +kernel
theorem dL_law_835 : decode cL_law 835 = .ok (.aload_n 1, 1) := by decide +kernel
theorem dL_law_836 : decode cL_law 836 = .ok (.aload_n 0, 1) := by decide +kernel
theorem dL_law_837 : decode cL_law 837 = .ok (.iload_n 3, 1) := by decide +kernel
theorem dL_law_838 : decode cL_law 838 = .ok (.iconst 1, 1) := by decide +kernel
theorem dL_law_839 : decode cL_law 839 = .ok (.iadd, 1) := by decide +kernel
theorem dL_law_840 : decode cL_law 840 = .ok (.iaload, 1) := by decide +kernel
theorem dL_law_841 : decode cL_law 841 = .ok (.invokevirtual 112, 3) := by decide +kernel
theorem dL_law_844 : decode cL_law 844 = .ok (.aload_n 2, 1) := by decide +kernel
theorem dL_law_845 : decode cL_law 845 = .ok (.aload_n 0, 1) := by decide +kernel
theorem dL_law_846 : decode cL_law 846 = .ok (.iload_n 3, 1) := by decide +kernel
theorem dL_law_847 : decode cL_law 847 = .ok (.iconst 1, 1) := by decide +kernel
theorem dL_law_848 : decode cL_law 848 = .ok (.iadd, 1) := by decide +kernel
theorem dL_law_849 : decode cL_law 849 = .ok (.iaload, 1) := by decide +kernel
theorem dL_law_850 : decode cL_law 850 = .ok (.invokevirtual 115, 3) := by decide +kernel
theorem dL_law_853 : decode cL_law 853 = .ok (.if_icmp .eq 117, 3) := by decide +kernel
theorem dL_law_856 : decode cL_law 856 = .ok (.iconst 0, 1) := by decide +kernel
theorem dL_law_857 : decode cL_law 857 = .ok (.ireturn, 1) := by decide +kernel
theorem dL_law_858 : decode cL_law 858 = .ok (.aload_n 1, 1) := by decide +kernel
theorem dL_law_859 : decode cL_law 859 = .ok (.aload_n 0, 1) := by decide +kernel
theorem dL_law_860 : decode cL_law 860 = .ok (.iload_n 3, 1) := by decide +kernel
theorem dL_law_861 : decode cL_law 861 = .ok (.iconst 1, 1) := by decide +kernel
theorem dL_law_862 : decode cL_law 862 = .ok (.iadd, 1) := by decide +kernel
theorem dL_law_863 : decode cL_law 863 = .ok (.iaload, 1) := by decide +kernel
theorem dL_law_864 : decode cL_law 864 = .ok (.aload_n 0, 1) := by decide +kernel
theorem dL_law_865 : decode cL_law 865 = .ok (.iload_n 3, 1) := by decide +kernel
theorem dL_law_866 : decode cL_law 866 = .ok (.iconst 2, 1) := by decide +kernel
theorem dL_law_867 : decode cL_law 867 = .ok (.iadd, 1) := by decide +kernel
theorem dL_law_868 : decode cL_law 868 = .ok (.iaload, 1) := by decide +kernel
theorem dL_law_869 : decode cL_law 869 = .ok (.invokevirtual 116, 3) := by decide +kernel
theorem dL_law_872 : decode cL_law 872 = .ok (.aload_n 2, 1) := by decide +kernel
theorem dL_law_873 : decode cL_law 873 = .ok (.aload_n 0, 1) := by decide +kernel
theorem dL_law_874 : decode cL_law 874 = .ok (.iload_n 3, 1) := by decide +kernel
theorem dL_law_875 : decode cL_law 875 = .ok (.iconst 1, 1) := by decide +kernel
theorem dL_law_876 : decode cL_law 876 = .ok (.iadd, 1) := by decide +kernel
theorem dL_law_877 : decode cL_law 877 = .ok (.iaload, 1) := by decide +kernel
theorem dL_law_878 : decode cL_law 878 = .ok (.aload_n 0, 1) := by decide +kernel
theorem dL_law_879 : decode cL_law 879 = .ok (.iload_n 3, 1) := by decide +kernel
theorem dL_law_880 : decode cL_law 880 = .ok (.iconst 2, 1) := by decide +kernel
theorem dL_law_881 : decode cL_law 881 = .ok (.iadd, 1) := by decide +kernel
theorem dL_law_882 : decode cL_law 882 = .ok (.iaload, 1) := by decide +kernel
theorem dL_law_883 : decode cL_law 883 = .ok (.invokevirtual 119, 3) := by decide +kernel
theorem dL_law_886 : decode cL_law 886 = .ok (.if_icmp .eq 84, 3) := by decide +kernel
theorem dL_law_889 : decode cL_law 889 = .ok (.iconst 0, 1) := by decide +kernel
theorem dL_law_890 : decode cL_law 890 = .ok (.ireturn, 1) := by decide +kernel
theorem dL_law_891 : decode cL_law 891 = .ok (.aload_n 1, 1) := by decide +kernel
theorem dL_law_892 : decode cL_law 892 = .ok (.aload_n 0, 1) := by decide +kernel
theorem dL_law_893 : decode cL_law 893 = .ok (.iload_n 3, 1) := by decide +kernel
theorem dL_law_894 : decode cL_law 894 = .ok (.iconst 1, 1) := by decide +kernel
theorem dL_law_895 : decode cL_law 895 = .ok (.iadd, 1) := by decide +kernel
theorem dL_law_896 : decode cL_law 896 = .ok (.iaload, 1) := by decide +kernel
theorem dL_law_897 : decode cL_law 897 = .ok (.aload_n 0, 1) := by decide +kernel
theorem dL_law_898 : decode cL_law 898 = .ok (.iload_n 3, 1) := by decide +kernel
theorem dL_law_899 : decode cL_law 899 = .ok (.iconst 2, 1) := by decide +kernel
theorem dL_law_900 : decode cL_law 900 = .ok (.iadd, 1) := by decide +kernel
theorem dL_law_901 : decode cL_law 901 = .ok (.iaload, 1) := by decide +kernel
theorem dL_law_902 : decode cL_law 902 = .ok (.invokevirtual 120, 3) := by decide +kernel
theorem dL_law_905 : decode cL_law 905 = .ok (.aload_n 2, 1) := by decide +kernel
theorem dL_law_906 : decode cL_law 906 = .ok (.aload_n 0, 1) := by decide +kernel
theorem dL_law_907 : decode cL_law 907 = .ok (.iload_n 3, 1) := by decide +kernel
theorem dL_law_908 : decode cL_law 908 = .ok (.iconst 1, 1) := by decide +kernel
theorem dL_law_909 : decode cL_law 909 = .ok (.iadd, 1) := by decide +kernel
theorem dL_law_910 : decode cL_law 910 = .ok (.iaload, 1) := by decide +kernel
theorem dL_law_911 : decode cL_law 911 = .ok (.aload_n 0, 1) := by decide +kernel
theorem dL_law_912 : decode cL_law 912 = .ok (.iload_n 3, 1) := by decide +kernel
theorem dL_law_913 : decode cL_law 913 = .ok (.iconst 2, 1) := by decide +kernel
theorem dL_law_914 : decode cL_law 914 = .ok (.iadd, 1) := by decide +kernel
theorem dL_law_915 : decode cL_law 915 = .ok (.iaload, 1) := by decide +kernel
theorem dL_law_916 : decode cL_law 916 = .ok (.invokevirtual 123, 3) := by decide +kernel
theorem dL_law_919 : decode cL_law 919 = .ok (.if_icmp .eq 51, 3) := by decide +kernel
theorem dL_law_922 : decode cL_law 922 = .ok (.iconst 0, 1) := by decide +kernel
theorem dL_law_923 : decode cL_law 923 = .ok (.ireturn, 1) := by decide +kernel
theorem dL_law_924 : decode cL_law 924 = .ok (.aload_n 1, 1) := by decide +kernel
theorem dL_law_925 : decode cL_law 925 = .ok (.aload_n 0, 1) := by decide +kernel
theorem dL_law_926 : decode cL_law 926 = .ok (.iload_n 3, 1) := by decide +kernel
theorem dL_law_927 : decode cL_law 927 = .ok (.iconst 1, 1) := by decide +kernel
theorem dL_law_928 : decode cL_law 928 = .ok (.iadd, 1) := by decide +kernel
theorem dL_law_929 : decode cL_law 929 = .ok (.iaload, 1) := by decide +kernel
theorem dL_law_930 : decode cL_law 930 = .ok (.invokevirtual 124, 3) := by decide +kernel
theorem dL_law_933 : decode cL_law 933 = .ok (.aload_n 2, 1) := by decide +kernel
theorem dL_law_934 : decode cL_law 934 = .ok (.aload_n 0, 1) := by decide +kernel
theorem dL_law_935 : decode cL_law 935 = .ok (.iload_n 3, 1) := by decide +kernel
theorem dL_law_936 : decode cL_law 936 = .ok (.iconst 1, 1) := by decide +kernel
theorem dL_law_937 : decode cL_law 937 = .ok (.iadd, 1) := by decide +kernel
theorem dL_law_938 : decode cL_law 938 = .ok (.iaload, 1) := by decide +kernel
theorem dL_law_939 : decode cL_law 939 = .ok (.invokevirtual 127, 3) := by decide +kernel
theorem dL_law_942 : decode cL_law 942 = .ok (.if_icmp .eq 28, 3) := by decide +kernel
theorem dL_law_945 : decode cL_law 945 = .ok (.iconst 0, 1) := by decide +kernel
theorem dL_law_946 : decode cL_law 946 = .ok (.ireturn, 1) := by decide +kernel
theorem dL_law_947 : decode cL_law 947 = .ok (.aload_n 1, 1) := by decide +kernel
theorem dL_law_948 : decode cL_law 948 = .ok (.aload_n 0, 1) := by decide +kernel
theorem dL_law_949 : decode cL_law 949 = .ok (.iload_n 3, 1) := by decide +kernel
theorem dL_law_950 : decode cL_law 950 = .ok (.iconst 1, 1) := by decide +kernel
theorem dL_law_951 : decode cL_law 951 = .ok (.iadd, 1) := by decide +kernel
theorem dL_law_952 : decode cL_law 952 = .ok (.iaload, 1) := by decide +kernel
theorem dL_law_953 : decode cL_law 953 = .ok (.invokevirtual 128, 3) := by decide +kernel
theorem dL_law_956 : decode cL_law 956 = .ok (.aload_n 2, 1) := by decide +kernel
theorem dL_law_957 : decode cL_law 957 = .ok (.aload_n 0, 1) := by decide +kernel
theorem dL_law_958 : decode cL_law 958 = .ok (.iload_n 3, 1) := by decide +kernel
theorem dL_law_959 : decode cL_law 959 = .ok (.iconst 1, 1) := by decide +kernel
theorem dL_law_960 : decode cL_law 960 = .ok (.iadd, 1) := by decide +kernel
theorem dL_law_961 : decode cL_law 961 = .ok (.iaload, 1) := by decide +kernel
theorem dL_law_962 : decode cL_law 962 = .ok (.invokevirtual 131, 3) := by decide +kernel
theorem dL_law_965 : decode cL_law 965 = .ok (.if_icmp .eq 5, 3) := by decide +kernel
theorem dL_law_968 : decode cL_law 968 = .ok (.iconst 0, 1) := by decide +kernel
theorem dL_law_969 : decode cL_law 969 = .ok (.ireturn, 1) := by decide +kernel
theorem dL_law_970 : decode cL_law 970 = .ok (.iinc 3 6, 3) := by decide +kernel
theorem dL_law_973 : decode cL_law 973 = .ok (.goto (-955), 3) := by decide +kernel
theorem dL_law_976 : decode cL_law 976 = .ok (.iconst 1, 1) := by decide +kernel
theorem dL_law_977 : decode cL_law 977 = .ok (.ireturn, 1) := by decide +kernel
