/-! CamFigures -/
set_option maxRecDepth 100000
def RX0 : String := "CamFigures"
def TX0 : u_T := fun k => match k with
  | 0 => ("CamFigures", "cams", "[LCamFigures$Cam;", true)
  | 1 => ("CamFigures", "length", "I", false)
  | 2 => ("CamFigures", "letters", "[LCamFigures$Letter;", true)
  | 3 => ("CamFigures", "pegs", "[I", true)
  | 4 => ("CamFigures", "pegMany", "I", false)
  | 5 => ("CamFigures", "advance", "I", false)
  | 6 => ("CamFigures", "fine", "LCamFigures$Part;", true)
  | 7 => ("CamFigures", "faults", "[LCamFigures$Part;", true)
  | 8 => ("CamFigures", "paper", "LCamFigures$Paper;", true)
  | 9 => ("CamFigures", "trial", "LCamFigures$Paper;", true)
  | 10 => ("CamFigures", "habits", "[[I", true)
  | 11 => ("CamFigures", "cuts", "[I", true)
  | 12 => ("CamFigures", "refusals", "[I", true)
  | 13 => ("CamFigures", "power", "I", false)
  | 14 => ("CamFigures", "pull", "I", false)
  | 15 => ("CamFigures", "wear", "I", false)
  | 16 => ("CamFigures", "strain", "I", false)
  | 17 => ("CamFigures", "ticks", "I", false)
  | 18 => ("CamFigures", "made", "I", false)
  | 19 => ("CamFigures", "shows", "I", false)
  | 20 => ("CamFigures", "done", "I", false)
  | 21 => ("CamFigures", "foundKind", "I", false)
  | _ => ("CamFigures", "found", "I", false)
def tyX0 : Nat → FieldType := fun k => match k with
  | 0 => .array (.object "CamFigures$Cam")
  | 1 => .int
  | 2 => .array (.object "CamFigures$Letter")
  | 3 => .array .int
  | 4 => .int
  | 5 => .int
  | 6 => .object "CamFigures$Part"
  | 7 => .array (.object "CamFigures$Part")
  | 8 => .object "CamFigures$Paper"
  | 9 => .object "CamFigures$Paper"
  | 10 => .array (.array .int)
  | 11 => .array .int
  | 12 => .array .int
  | 13 => .int
  | 14 => .int
  | 15 => .int
  | 16 => .int
  | 17 => .int
  | 18 => .int
  | 19 => .int
  | 20 => .int
  | 21 => .int
  | _ => .int
abbrev wsX00 : List Cond := u_ws RX0 TX0 23
set_option maxRecDepth 100000 in
theorem nmX0 : ∀ a, a < 23 → ∀ b, b < 23 → a ≠ b → (TX0 a).2.1 ≠ (TX0 b).2.1 := by decide +kernel
set_option maxRecDepth 100000 in
theorem tyX0_ok : ∀ k, k < 23 → parseFieldDescriptor (TX0 k).2.2.1 = some (tyX0 k) := by decide +kernel
abbrev cX0_init : ByteArray := prog_1_method_6_code
def yX0_init : MethodName := ⟨RX0, "<init>", "()V"⟩
abbrev cX0_length : ByteArray := prog_1_method_10_code
def yX0_length : MethodName := ⟨RX0, "length", "(I)I"⟩
abbrev cX0_within : ByteArray := prog_1_method_9_code
def yX0_within : MethodName := ⟨RX0, "within", "(III)I"⟩
abbrev cX0_refuse : ByteArray := prog_1_method_7_code
def yX0_refuse : MethodName := ⟨RX0, "refuse", "(I)I"⟩
abbrev cX0_blank : ByteArray := prog_1_method_11_code
def yX0_blank : MethodName := ⟨RX0, "blank", "(I)I"⟩
abbrev cX0_isIn : ByteArray := prog_1_method_8_code
def yX0_isIn : MethodName := ⟨RX0, "isIn", "(II)Z"⟩
abbrev cX0_lose : ByteArray := prog_1_method_12_code
def yX0_lose : MethodName := ⟨RX0, "lose", "(I)I"⟩
abbrev cX0_camAt : ByteArray := prog_1_method_1_code
def yX0_camAt : MethodName := ⟨RX0, "camAt", "(I)LCamFigures$Cam;"⟩
abbrev cX0_cutAt : ByteArray := prog_1_method_13_code
def yX0_cutAt : MethodName := ⟨RX0, "cutAt", "(III)I"⟩
abbrev cX0_steps : ByteArray := prog_1_method_2_code
def yX0_steps : MethodName := ⟨RX0, "steps", "(II)V"⟩
abbrev cX0_height : ByteArray := prog_1_method_14_code
def yX0_height : MethodName := ⟨RX0, "height", "(II)I"⟩
abbrev cX0_copy : ByteArray := prog_1_method_15_code
def yX0_copy : MethodName := ⟨RX0, "copy", "(IIIII)I"⟩
abbrev cX0_turn : ByteArray := prog_1_method_16_code
def yX0_turn : MethodName := ⟨RX0, "turn", "(II)I"⟩
abbrev cX0_blanks : ByteArray := prog_1_method_19_code
def yX0_blanks : MethodName := ⟨RX0, "blanks", "()I"⟩
abbrev cX0_blanksTo : ByteArray := prog_1_method_18_code
def yX0_blanksTo : MethodName := ⟨RX0, "blanksTo", "(I)I"⟩
abbrev cX0_leastOf : ByteArray := prog_1_method_17_code
def yX0_leastOf : MethodName := ⟨RX0, "leastOf", "(I)I"⟩
abbrev cX0_camOf : ByteArray := prog_1_method_20_code
def yX0_camOf : MethodName := ⟨RX0, "camOf", "(II)I"⟩
abbrev cX0_letter : ByteArray := prog_1_method_21_code
def yX0_letter : MethodName := ⟨RX0, "letter", "(IIII)I"⟩
abbrev cX0_isCut : ByteArray := prog_1_method_22_code
def yX0_isCut : MethodName := ⟨RX0, "isCut", "(I)I"⟩
abbrev cX0_isCutLetter : ByteArray := prog_1_method_3_code
def yX0_isCutLetter : MethodName := ⟨RX0, "isCutLetter", "(LCamFigures$Letter;)Z"⟩
abbrev cX0_peg : ByteArray := prog_1_method_23_code
def yX0_peg : MethodName := ⟨RX0, "peg", "(I)I"⟩
abbrev cX0_unpeg : ByteArray := prog_1_method_24_code
def yX0_unpeg : MethodName := ⟨RX0, "unpeg", "()I"⟩
abbrev cX0_advance : ByteArray := prog_1_method_25_code
def yX0_advance : MethodName := ⟨RX0, "advance", "(I)I"⟩
abbrev cX0_pull : ByteArray := prog_1_method_26_code
def yX0_pull : MethodName := ⟨RX0, "pull", "(I)I"⟩
abbrev cX0_wind : ByteArray := prog_1_method_27_code
def yX0_wind : MethodName := ⟨RX0, "wind", "(I)I"⟩
abbrev cX0_show : ByteArray := prog_1_method_29_code
def yX0_show : MethodName := ⟨RX0, "show", "()I"⟩
abbrev cX0_areCut : ByteArray := prog_1_method_4_code
def yX0_areCut : MethodName := ⟨RX0, "areCut", "()Z"⟩
abbrev cX0_part : ByteArray := prog_1_method_5_code
def yX0_part : MethodName := ⟨RX0, "part", "(I)LCamFigures$Part;"⟩
abbrev cX0_goes : ByteArray := prog_1_method_28_code
def yX0_goes : MethodName := ⟨RX0, "goes", "()Z"⟩
abbrev cX0_marked : ByteArray := prog_1_method_31_code
def yX0_marked : MethodName := ⟨RX0, "marked", "(II)I"⟩
abbrev cX0_isCell : ByteArray := prog_1_method_30_code
def yX0_isCell : MethodName := ⟨RX0, "isCell", "(II)Z"⟩
abbrev cX0_first : ByteArray := prog_1_method_32_code
def yX0_first : MethodName := ⟨RX0, "first", "(III)I"⟩
abbrev cX0_marks : ByteArray := prog_1_method_33_code
def yX0_marks : MethodName := ⟨RX0, "marks", "()I"⟩
abbrev cX0_see : ByteArray := prog_1_method_34_code
def yX0_see : MethodName := ⟨RX0, "see", "(IIZ)I"⟩
abbrev cX0_fault : ByteArray := prog_1_method_35_code
def yX0_fault : MethodName := ⟨RX0, "fault", "(II)I"⟩
abbrev cX0_mend : ByteArray := prog_1_method_37_code
def yX0_mend : MethodName := ⟨RX0, "mend", "()I"⟩
abbrev cX0_told : ByteArray := prog_1_method_36_code
def yX0_told : MethodName := ⟨RX0, "told", "()I"⟩
abbrev cX0_explained : ByteArray := prog_1_method_41_code
def yX0_explained : MethodName := ⟨RX0, "explained", "(I)I"⟩
abbrev cX0_looks : ByteArray := prog_1_method_40_code
def yX0_looks : MethodName := ⟨RX0, "looks", "()V"⟩
abbrev cX0_explains : ByteArray := prog_1_method_38_code
def yX0_explains : MethodName := ⟨RX0, "explains", "(LCamFigures$Part;LCamFigures$Part;LCamFigures$Part;)Z"⟩
abbrev cX0_finds : ByteArray := prog_1_method_39_code
def yX0_finds : MethodName := ⟨RX0, "finds", "(IIZ)V"⟩
abbrev cX0_made : ByteArray := prog_1_method_42_code
def yX0_made : MethodName := ⟨RX0, "made", "(II)I"⟩
abbrev cX0_like : ByteArray := prog_1_method_44_code
def yX0_like : MethodName := ⟨RX0, "like", "(II)I"⟩
abbrev cX0_likeOf : ByteArray := prog_1_method_43_code
def yX0_likeOf : MethodName := ⟨RX0, "likeOf", "(LCamFigures$Cam;I)I"⟩
abbrev cX0_whose : ByteArray := prog_1_method_45_code
def yX0_whose : MethodName := ⟨RX0, "whose", "(I)I"⟩
abbrev cX0_count : ByteArray := prog_1_method_46_code
def yX0_count : MethodName := ⟨RX0, "count", "(I)I"⟩
theorem q39 : (Jvm.Cond.initialized "CamFigures") ∈ lw_all := lw_g (lw_at lw_m1 1 rfl) rfl
theorem q56 : (Jvm.Cond.instantiable "CamFigures" (23 : Nat)) ∈ lw_all := lw_g (lw_at lw_m1 18 rfl) rfl
theorem q58 : (Jvm.Cond.instanceMethod ({ cls := "CamFigures", name := "<init>", desc := "()V" } : Jvm.MethodName)) ∈ lw_all := lw_g (lw_at lw_m1 20 rfl) rfl
theorem q59 : (Jvm.Cond.code ({ cls := "CamFigures", name := "<init>", desc := "()V" } : Jvm.MethodName) prog_1_method_6_code (2 : Nat) (Option.none : Option Jvm.ClassFile.FieldType)) ∈ lw_all := lw_g (lw_at lw_m1 21 rfl) rfl
theorem q60 : (Jvm.Cond.methodLink "CamFigures" (55 : Nat) ({ cls := "java/lang/Object", name := "<init>", desc := "()V" } : Jvm.MethodName)) ∈ lw_all := lw_g (lw_at lw_m1 22 rfl) rfl
theorem q63 : (Jvm.Cond.classLink "CamFigures" (60 : Nat) "CamFigures$Cam") ∈ lw_all := lw_g (lw_at lw_m1 25 rfl) rfl
theorem q65 : (Jvm.Cond.classLink "CamFigures" (22 : Nat) "CamFigures$Letter") ∈ lw_all := lw_g (lw_at lw_m1 27 rfl) rfl
theorem q67 : (Jvm.Cond.classLink "CamFigures" (65 : Nat) "CamFigures$Part") ∈ lw_all := lw_g (lw_at lw_m1 29 rfl) rfl
theorem q69 : (Jvm.Cond.methodLinkNest "CamFigures" (67 : Nat) ({ cls := "CamFigures$Part", name := "<init>", desc := "()V" } : Jvm.MethodName) "CamFigures") ∈ lw_tbl := lw_at lw_m1 31 rfl
theorem q76 : (Jvm.Cond.classLink "CamFigures" (68 : Nat) "CamFigures$Paper") ∈ lw_all := lw_g (lw_at lw_m1 38 rfl) rfl
theorem q78 : (Jvm.Cond.methodLinkNest "CamFigures" (70 : Nat) ({ cls := "CamFigures$Paper", name := "<init>", desc := "()V" } : Jvm.MethodName) "CamFigures") ∈ lw_tbl := lw_at lw_m1 40 rfl
theorem q83 : (Jvm.Cond.fieldLink "CamFigures" (195 : Nat) "CamFigures$Paper" "isMarked" "[Z") ∈ lw_all := lw_g (lw_at lw_m1 45 rfl) rfl
theorem q85 : (Jvm.Cond.fieldLink "CamFigures" (199 : Nat) "CamFigures$Paper" "firsts" "[I") ∈ lw_all := lw_g (lw_at lw_m1 47 rfl) rfl
theorem q92 : (Jvm.Cond.classLink "CamFigures" (78 : Nat) "[[I") ∈ lw_all := lw_g (lw_at lw_m1 54 rfl) rfl
theorem q95 : (Jvm.Cond.methodLinkNest "CamFigures" (92 : Nat) ({ cls := "CamFigures$Letter", name := "<init>", desc := "()V" } : Jvm.MethodName) "CamFigures") ∈ lw_tbl := lw_at lw_m1 57 rfl
theorem q99 : (Jvm.Cond.fieldLinkNest "CamFigures" (21 : Nat) "CamFigures$Letter" "across" "I" "CamFigures") ∈ lw_tbl := lw_at lw_m1 61 rfl
theorem q101 : (Jvm.Cond.fieldLinkNest "CamFigures" (26 : Nat) "CamFigures$Letter" "up" "I" "CamFigures") ∈ lw_tbl := lw_at lw_m1 63 rfl
theorem q103 : (Jvm.Cond.fieldLinkNest "CamFigures" (29 : Nat) "CamFigures$Letter" "lift" "I" "CamFigures") ∈ lw_tbl := lw_at lw_m1 65 rfl
theorem q112 : (Jvm.Cond.fieldLink "CamFigures" (13 : Nat) "CamFigures" "cams" "[LCamFigures$Cam;") ∈ lw_all := lw_g (lw_at lw_m1 74 rfl) rfl
theorem q114 : (Jvm.Cond.fieldLink "CamFigures" (17 : Nat) "CamFigures" "length" "I") ∈ lw_all := lw_g (lw_at lw_m1 76 rfl) rfl
theorem q117 : (Jvm.Cond.fieldLink "CamFigures" (35 : Nat) "CamFigures" "letters" "[LCamFigures$Letter;") ∈ lw_all := lw_g (lw_at lw_m1 79 rfl) rfl
theorem q119 : (Jvm.Cond.fieldLink "CamFigures" (39 : Nat) "CamFigures" "pegs" "[I") ∈ lw_all := lw_g (lw_at lw_m1 81 rfl) rfl
theorem q120 : (Jvm.Cond.fieldLink "CamFigures" (32 : Nat) "CamFigures" "pegMany" "I") ∈ lw_all := lw_g (lw_at lw_m1 82 rfl) rfl
theorem q123 : (Jvm.Cond.fieldLink "CamFigures" (62 : Nat) "CamFigures" "advance" "I") ∈ lw_all := lw_g (lw_at lw_m1 85 rfl) rfl
theorem q124 : (Jvm.Cond.fieldLink "CamFigures" (51 : Nat) "CamFigures" "fine" "LCamFigures$Part;") ∈ lw_all := lw_g (lw_at lw_m1 86 rfl) rfl
theorem q125 : (Jvm.Cond.fieldLink "CamFigures" (47 : Nat) "CamFigures" "faults" "[LCamFigures$Part;") ∈ lw_all := lw_g (lw_at lw_m1 87 rfl) rfl
theorem q126 : (Jvm.Cond.fieldLink "CamFigures" (71 : Nat) "CamFigures" "paper" "LCamFigures$Paper;") ∈ lw_all := lw_g (lw_at lw_m1 88 rfl) rfl
theorem q127 : (Jvm.Cond.fieldLink "CamFigures" (75 : Nat) "CamFigures" "trial" "LCamFigures$Paper;") ∈ lw_all := lw_g (lw_at lw_m1 89 rfl) rfl
theorem q128 : (Jvm.Cond.fieldLink "CamFigures" (80 : Nat) "CamFigures" "habits" "[[I") ∈ lw_all := lw_g (lw_at lw_m1 90 rfl) rfl
theorem q129 : (Jvm.Cond.fieldLink "CamFigures" (83 : Nat) "CamFigures" "cuts" "[I") ∈ lw_all := lw_g (lw_at lw_m1 91 rfl) rfl
theorem q130 : (Jvm.Cond.fieldLink "CamFigures" (86 : Nat) "CamFigures" "refusals" "[I") ∈ lw_all := lw_g (lw_at lw_m1 92 rfl) rfl
theorem q131 : (Jvm.Cond.fieldLink "CamFigures" (145 : Nat) "CamFigures" "power" "I") ∈ lw_all := lw_g (lw_at lw_m1 93 rfl) rfl
theorem q132 : (Jvm.Cond.fieldLink "CamFigures" (89 : Nat) "CamFigures" "pull" "I") ∈ lw_all := lw_g (lw_at lw_m1 94 rfl) rfl
theorem q133 : (Jvm.Cond.fieldLink "CamFigures" (154 : Nat) "CamFigures" "wear" "I") ∈ lw_all := lw_g (lw_at lw_m1 95 rfl) rfl
theorem q134 : (Jvm.Cond.fieldLink "CamFigures" (142 : Nat) "CamFigures" "strain" "I") ∈ lw_all := lw_g (lw_at lw_m1 96 rfl) rfl
theorem q135 : (Jvm.Cond.fieldLink "CamFigures" (157 : Nat) "CamFigures" "ticks" "I") ∈ lw_all := lw_g (lw_at lw_m1 97 rfl) rfl
theorem q136 : (Jvm.Cond.fieldLink "CamFigures" (160 : Nat) "CamFigures" "made" "I") ∈ lw_all := lw_g (lw_at lw_m1 98 rfl) rfl
theorem q137 : (Jvm.Cond.fieldLink "CamFigures" (186 : Nat) "CamFigures" "shows" "I") ∈ lw_all := lw_g (lw_at lw_m1 99 rfl) rfl
theorem q138 : (Jvm.Cond.fieldLink "CamFigures" (189 : Nat) "CamFigures" "done" "I") ∈ lw_all := lw_g (lw_at lw_m1 100 rfl) rfl
theorem q139 : (Jvm.Cond.fieldLink "CamFigures" (221 : Nat) "CamFigures" "foundKind" "I") ∈ lw_all := lw_g (lw_at lw_m1 101 rfl) rfl
theorem q140 : (Jvm.Cond.fieldLink "CamFigures" (224 : Nat) "CamFigures" "found" "I") ∈ lw_all := lw_g (lw_at lw_m1 102 rfl) rfl
theorem q141 : (Jvm.Cond.laysFinal "CamFigures" "CamFigures" "cams" "[LCamFigures$Cam;") ∈ lw_all := lw_g (lw_at lw_m1 103 rfl) rfl
theorem q142 : (Jvm.Cond.soleField "CamFigures" "cams") ∈ lw_all := lw_g (lw_at lw_m1 104 rfl) rfl
theorem q143 : (Jvm.Cond.lays "CamFigures" "CamFigures" "length" "I") ∈ lw_all := lw_g (lw_at lw_m1 105 rfl) rfl
theorem q144 : (Jvm.Cond.soleField "CamFigures" "length") ∈ lw_all := lw_g (lw_at lw_m1 106 rfl) rfl
theorem q145 : (Jvm.Cond.laysFinal "CamFigures" "CamFigures" "letters" "[LCamFigures$Letter;") ∈ lw_all := lw_g (lw_at lw_m1 107 rfl) rfl
theorem q146 : (Jvm.Cond.soleField "CamFigures" "letters") ∈ lw_all := lw_g (lw_at lw_m1 108 rfl) rfl
theorem q147 : (Jvm.Cond.laysFinal "CamFigures" "CamFigures" "pegs" "[I") ∈ lw_all := lw_g (lw_at lw_m1 109 rfl) rfl
theorem q148 : (Jvm.Cond.soleField "CamFigures" "pegs") ∈ lw_all := lw_g (lw_at lw_m1 110 rfl) rfl
theorem q149 : (Jvm.Cond.lays "CamFigures" "CamFigures" "pegMany" "I") ∈ lw_all := lw_g (lw_at lw_m1 111 rfl) rfl
theorem q150 : (Jvm.Cond.soleField "CamFigures" "pegMany") ∈ lw_all := lw_g (lw_at lw_m1 112 rfl) rfl
theorem q151 : (Jvm.Cond.lays "CamFigures" "CamFigures" "advance" "I") ∈ lw_all := lw_g (lw_at lw_m1 113 rfl) rfl
theorem q152 : (Jvm.Cond.soleField "CamFigures" "advance") ∈ lw_all := lw_g (lw_at lw_m1 114 rfl) rfl
theorem q153 : (Jvm.Cond.laysFinal "CamFigures" "CamFigures" "fine" "LCamFigures$Part;") ∈ lw_all := lw_g (lw_at lw_m1 115 rfl) rfl
theorem q154 : (Jvm.Cond.soleField "CamFigures" "fine") ∈ lw_all := lw_g (lw_at lw_m1 116 rfl) rfl
theorem q155 : (Jvm.Cond.laysFinal "CamFigures" "CamFigures" "faults" "[LCamFigures$Part;") ∈ lw_all := lw_g (lw_at lw_m1 117 rfl) rfl
theorem q156 : (Jvm.Cond.soleField "CamFigures" "faults") ∈ lw_all := lw_g (lw_at lw_m1 118 rfl) rfl
theorem q157 : (Jvm.Cond.laysFinal "CamFigures" "CamFigures" "paper" "LCamFigures$Paper;") ∈ lw_all := lw_g (lw_at lw_m1 119 rfl) rfl
theorem q158 : (Jvm.Cond.soleField "CamFigures" "paper") ∈ lw_all := lw_g (lw_at lw_m1 120 rfl) rfl
theorem q159 : (Jvm.Cond.laysFinal "CamFigures" "CamFigures" "trial" "LCamFigures$Paper;") ∈ lw_all := lw_g (lw_at lw_m1 121 rfl) rfl
theorem q160 : (Jvm.Cond.soleField "CamFigures" "trial") ∈ lw_all := lw_g (lw_at lw_m1 122 rfl) rfl
theorem q161 : (Jvm.Cond.laysFinal "CamFigures" "CamFigures" "habits" "[[I") ∈ lw_all := lw_g (lw_at lw_m1 123 rfl) rfl
theorem q162 : (Jvm.Cond.soleField "CamFigures" "habits") ∈ lw_all := lw_g (lw_at lw_m1 124 rfl) rfl
theorem q163 : (Jvm.Cond.laysFinal "CamFigures" "CamFigures" "cuts" "[I") ∈ lw_all := lw_g (lw_at lw_m1 125 rfl) rfl
theorem q164 : (Jvm.Cond.soleField "CamFigures" "cuts") ∈ lw_all := lw_g (lw_at lw_m1 126 rfl) rfl
theorem q165 : (Jvm.Cond.laysFinal "CamFigures" "CamFigures" "refusals" "[I") ∈ lw_all := lw_g (lw_at lw_m1 127 rfl) rfl
theorem q166 : (Jvm.Cond.soleField "CamFigures" "refusals") ∈ lw_all := lw_g (lw_at lw_m1 128 rfl) rfl
theorem q167 : (Jvm.Cond.lays "CamFigures" "CamFigures" "power" "I") ∈ lw_all := lw_g (lw_at lw_m1 129 rfl) rfl
theorem q168 : (Jvm.Cond.soleField "CamFigures" "power") ∈ lw_all := lw_g (lw_at lw_m1 130 rfl) rfl
theorem q169 : (Jvm.Cond.lays "CamFigures" "CamFigures" "pull" "I") ∈ lw_all := lw_g (lw_at lw_m1 131 rfl) rfl
theorem q170 : (Jvm.Cond.soleField "CamFigures" "pull") ∈ lw_all := lw_g (lw_at lw_m1 132 rfl) rfl
theorem q171 : (Jvm.Cond.lays "CamFigures" "CamFigures" "wear" "I") ∈ lw_all := lw_g (lw_at lw_m1 133 rfl) rfl
theorem q172 : (Jvm.Cond.soleField "CamFigures" "wear") ∈ lw_all := lw_g (lw_at lw_m1 134 rfl) rfl
theorem q173 : (Jvm.Cond.lays "CamFigures" "CamFigures" "strain" "I") ∈ lw_all := lw_g (lw_at lw_m1 135 rfl) rfl
theorem q174 : (Jvm.Cond.soleField "CamFigures" "strain") ∈ lw_all := lw_g (lw_at lw_m1 136 rfl) rfl
theorem q175 : (Jvm.Cond.lays "CamFigures" "CamFigures" "ticks" "I") ∈ lw_all := lw_g (lw_at lw_m1 137 rfl) rfl
theorem q176 : (Jvm.Cond.soleField "CamFigures" "ticks") ∈ lw_all := lw_g (lw_at lw_m1 138 rfl) rfl
theorem q177 : (Jvm.Cond.lays "CamFigures" "CamFigures" "made" "I") ∈ lw_all := lw_g (lw_at lw_m1 139 rfl) rfl
theorem q178 : (Jvm.Cond.soleField "CamFigures" "made") ∈ lw_all := lw_g (lw_at lw_m1 140 rfl) rfl
theorem q179 : (Jvm.Cond.lays "CamFigures" "CamFigures" "shows" "I") ∈ lw_all := lw_g (lw_at lw_m1 141 rfl) rfl
theorem q180 : (Jvm.Cond.soleField "CamFigures" "shows") ∈ lw_all := lw_g (lw_at lw_m1 142 rfl) rfl
theorem q181 : (Jvm.Cond.lays "CamFigures" "CamFigures" "done" "I") ∈ lw_all := lw_g (lw_at lw_m1 143 rfl) rfl
theorem q182 : (Jvm.Cond.soleField "CamFigures" "done") ∈ lw_all := lw_g (lw_at lw_m1 144 rfl) rfl
theorem q183 : (Jvm.Cond.lays "CamFigures" "CamFigures" "foundKind" "I") ∈ lw_all := lw_g (lw_at lw_m1 145 rfl) rfl
theorem q184 : (Jvm.Cond.soleField "CamFigures" "foundKind") ∈ lw_all := lw_g (lw_at lw_m1 146 rfl) rfl
theorem q185 : (Jvm.Cond.lays "CamFigures" "CamFigures" "found" "I") ∈ lw_all := lw_g (lw_at lw_m1 147 rfl) rfl
theorem q186 : (Jvm.Cond.soleField "CamFigures" "found") ∈ lw_all := lw_g (lw_at lw_m1 148 rfl) rfl
theorem q187 : (Jvm.Cond.superclass "CamFigures" "java/lang/Object") ∈ lw_all := lw_g (lw_at lw_m1 149 rfl) rfl
theorem q189 : (Jvm.Cond.instanceMethod ({ cls := "CamFigures", name := "length", desc := "(I)I" } : Jvm.MethodName)) ∈ lw_all := lw_g (lw_at lw_m1 151 rfl) rfl
theorem q190 : (Jvm.Cond.selects "CamFigures" ({ cls := "CamFigures", name := "length", desc := "(I)I" } : Jvm.MethodName) ({ cls := "CamFigures", name := "length", desc := "(I)I" } : Jvm.MethodName)) ∈ lw_all := lw_g (lw_at lw_m1 152 rfl) rfl
theorem q191 : (Jvm.Cond.code ({ cls := "CamFigures", name := "length", desc := "(I)I" } : Jvm.MethodName) prog_1_method_10_code (5 : Nat) (Option.some Jvm.ClassFile.FieldType.int)) ∈ lw_all := lw_g (lw_at lw_m1 153 rfl) rfl
theorem q192 : (Jvm.Cond.methodLink "CamFigures" (93 : Nat) ({ cls := "CamFigures", name := "within", desc := "(III)I" } : Jvm.MethodName)) ∈ lw_all := lw_g (lw_at lw_m1 154 rfl) rfl
theorem q193 : (Jvm.Cond.static ({ cls := "CamFigures", name := "within", desc := "(III)I" } : Jvm.MethodName)) ∈ lw_all := lw_g (lw_at lw_m1 155 rfl) rfl
theorem q194 : (Jvm.Cond.code ({ cls := "CamFigures", name := "within", desc := "(III)I" } : Jvm.MethodName) prog_1_method_9_code (3 : Nat) (Option.some Jvm.ClassFile.FieldType.int)) ∈ lw_all := lw_g (lw_at lw_m1 156 rfl) rfl
theorem q195 : (Jvm.Cond.methodLink "CamFigures" (97 : Nat) ({ cls := "CamFigures", name := "refuse", desc := "(I)I" } : Jvm.MethodName)) ∈ lw_all := lw_g (lw_at lw_m1 157 rfl) rfl
theorem q196 : (Jvm.Cond.privateMethod ({ cls := "CamFigures", name := "refuse", desc := "(I)I" } : Jvm.MethodName)) ∈ lw_tbl := lw_at lw_m1 158 rfl
theorem q197 : (Jvm.Cond.instanceMethod ({ cls := "CamFigures", name := "refuse", desc := "(I)I" } : Jvm.MethodName)) ∈ lw_all := lw_g (lw_at lw_m1 159 rfl) rfl
theorem q198 : (Jvm.Cond.code ({ cls := "CamFigures", name := "refuse", desc := "(I)I" } : Jvm.MethodName) prog_1_method_7_code (2 : Nat) (Option.some Jvm.ClassFile.FieldType.int)) ∈ lw_all := lw_g (lw_at lw_m1 160 rfl) rfl
theorem q199 : (Jvm.Cond.methodLink "CamFigures" (101 : Nat) ({ cls := "CamFigures$Paper", name := "clear", desc := "()V" } : Jvm.MethodName)) ∈ lw_all := lw_g (lw_at lw_m1 161 rfl) rfl
theorem q204 : (Jvm.Cond.instanceMethod ({ cls := "CamFigures", name := "blank", desc := "(I)I" } : Jvm.MethodName)) ∈ lw_all := lw_g (lw_at lw_m1 166 rfl) rfl
theorem q205 : (Jvm.Cond.selects "CamFigures" ({ cls := "CamFigures", name := "blank", desc := "(I)I" } : Jvm.MethodName) ({ cls := "CamFigures", name := "blank", desc := "(I)I" } : Jvm.MethodName)) ∈ lw_all := lw_g (lw_at lw_m1 167 rfl) rfl
theorem q206 : (Jvm.Cond.code ({ cls := "CamFigures", name := "blank", desc := "(I)I" } : Jvm.MethodName) prog_1_method_11_code (3 : Nat) (Option.some Jvm.ClassFile.FieldType.int)) ∈ lw_all := lw_g (lw_at lw_m1 168 rfl) rfl
theorem q207 : (Jvm.Cond.methodLink "CamFigures" (3 : Nat) ({ cls := "CamFigures", name := "isIn", desc := "(II)Z" } : Jvm.MethodName)) ∈ lw_all := lw_g (lw_at lw_m1 169 rfl) rfl
theorem q208 : (Jvm.Cond.static ({ cls := "CamFigures", name := "isIn", desc := "(II)Z" } : Jvm.MethodName)) ∈ lw_all := lw_g (lw_at lw_m1 170 rfl) rfl
theorem q209 : (Jvm.Cond.code ({ cls := "CamFigures", name := "isIn", desc := "(II)Z" } : Jvm.MethodName) prog_1_method_8_code (2 : Nat) (Option.some Jvm.ClassFile.FieldType.boolean)) ∈ lw_all := lw_g (lw_at lw_m1 171 rfl) rfl
theorem q211 : (Jvm.Cond.methodLink "CamFigures" (104 : Nat) ({ cls := "CamFigures$Cam", name := "<init>", desc := "(I)V" } : Jvm.MethodName)) ∈ lw_all := lw_g (lw_at lw_m1 173 rfl) rfl
theorem q216 : (Jvm.Cond.fieldLinkNest "CamFigures" (116 : Nat) "CamFigures$Cam" "heights" "[I" "CamFigures") ∈ lw_tbl := lw_at lw_m1 178 rfl
theorem q221 : (Jvm.Cond.instanceMethod ({ cls := "CamFigures", name := "lose", desc := "(I)I" } : Jvm.MethodName)) ∈ lw_all := lw_g (lw_at lw_m1 183 rfl) rfl
theorem q222 : (Jvm.Cond.selects "CamFigures" ({ cls := "CamFigures", name := "lose", desc := "(I)I" } : Jvm.MethodName) ({ cls := "CamFigures", name := "lose", desc := "(I)I" } : Jvm.MethodName)) ∈ lw_all := lw_g (lw_at lw_m1 184 rfl) rfl
theorem q223 : (Jvm.Cond.codeWith ({ cls := "CamFigures", name := "lose", desc := "(I)I" } : Jvm.MethodName) prog_1_method_12_code (3 : Nat) (Option.some Jvm.ClassFile.FieldType.int) [((0 : Nat), (14 : Nat), (15 : Nat), (7 : Nat))]) ∈ lw_all := lw_g (lw_at lw_m1 185 rfl) rfl
theorem q224 : (Jvm.Cond.classLink "CamFigures" (7 : Nat) "CamFigures$Refused") ∈ lw_all := lw_g (lw_at lw_m1 186 rfl) rfl
theorem q225 : (Jvm.Cond.methodLink "CamFigures" (105 : Nat) ({ cls := "CamFigures", name := "camAt", desc := "(I)LCamFigures$Cam;" } : Jvm.MethodName)) ∈ lw_all := lw_g (lw_at lw_m1 187 rfl) rfl
theorem q226 : (Jvm.Cond.privateMethod ({ cls := "CamFigures", name := "camAt", desc := "(I)LCamFigures$Cam;" } : Jvm.MethodName)) ∈ lw_tbl := lw_at lw_m1 188 rfl
theorem q227 : (Jvm.Cond.instanceMethod ({ cls := "CamFigures", name := "camAt", desc := "(I)LCamFigures$Cam;" } : Jvm.MethodName)) ∈ lw_all := lw_g (lw_at lw_m1 189 rfl) rfl
theorem q228 : (Jvm.Cond.code ({ cls := "CamFigures", name := "camAt", desc := "(I)LCamFigures$Cam;" } : Jvm.MethodName) prog_1_method_1_code (2 : Nat) (Option.some (Jvm.ClassFile.FieldType.object "CamFigures$Cam"))) ∈ lw_all := lw_g (lw_at lw_m1 190 rfl) rfl
theorem q267 : (Jvm.Cond.methodLink "CamFigures" (9 : Nat) ({ cls := "CamFigures$Refused", name := "<init>", desc := "(I)V" } : Jvm.MethodName)) ∈ lw_all := lw_g (lw_at lw_m1 229 rfl) rfl
theorem q280 : (Jvm.Cond.fieldLinkNest "CamFigures" (109 : Nat) "CamFigures$Refused" "code" "I" "CamFigures") ∈ lw_tbl := lw_at lw_m2 2 rfl
theorem q297 : (Jvm.Cond.instanceMethod ({ cls := "CamFigures", name := "cutAt", desc := "(III)I" } : Jvm.MethodName)) ∈ lw_all := lw_g (lw_at lw_m2 19 rfl) rfl
theorem q298 : (Jvm.Cond.selects "CamFigures" ({ cls := "CamFigures", name := "cutAt", desc := "(III)I" } : Jvm.MethodName) ({ cls := "CamFigures", name := "cutAt", desc := "(III)I" } : Jvm.MethodName)) ∈ lw_all := lw_g (lw_at lw_m2 20 rfl) rfl
theorem q299 : (Jvm.Cond.codeWith ({ cls := "CamFigures", name := "cutAt", desc := "(III)I" } : Jvm.MethodName) prog_1_method_13_code (7 : Nat) (Option.some Jvm.ClassFile.FieldType.int) [((0 : Nat), (56 : Nat), (57 : Nat), (7 : Nat))]) ∈ lw_all := lw_g (lw_at lw_m2 21 rfl) rfl
theorem q300 : (Jvm.Cond.methodLink "CamFigures" (112 : Nat) ({ cls := "CamFigures", name := "steps", desc := "(II)V" } : Jvm.MethodName)) ∈ lw_all := lw_g (lw_at lw_m2 22 rfl) rfl
theorem q301 : (Jvm.Cond.privateMethod ({ cls := "CamFigures", name := "steps", desc := "(II)V" } : Jvm.MethodName)) ∈ lw_tbl := lw_at lw_m2 23 rfl
theorem q302 : (Jvm.Cond.instanceMethod ({ cls := "CamFigures", name := "steps", desc := "(II)V" } : Jvm.MethodName)) ∈ lw_all := lw_g (lw_at lw_m2 24 rfl) rfl
theorem q303 : (Jvm.Cond.code ({ cls := "CamFigures", name := "steps", desc := "(II)V" } : Jvm.MethodName) prog_1_method_2_code (3 : Nat) (Option.none : Option Jvm.ClassFile.FieldType)) ∈ lw_all := lw_g (lw_at lw_m2 25 rfl) rfl
theorem q305 : (Jvm.Cond.instanceMethod ({ cls := "CamFigures", name := "height", desc := "(II)I" } : Jvm.MethodName)) ∈ lw_all := lw_g (lw_at lw_m2 27 rfl) rfl
theorem q306 : (Jvm.Cond.selects "CamFigures" ({ cls := "CamFigures", name := "height", desc := "(II)I" } : Jvm.MethodName) ({ cls := "CamFigures", name := "height", desc := "(II)I" } : Jvm.MethodName)) ∈ lw_all := lw_g (lw_at lw_m2 28 rfl) rfl
theorem q307 : (Jvm.Cond.codeWith ({ cls := "CamFigures", name := "height", desc := "(II)I" } : Jvm.MethodName) prog_1_method_14_code (4 : Nat) (Option.some Jvm.ClassFile.FieldType.int) [((0 : Nat), (17 : Nat), (18 : Nat), (7 : Nat))]) ∈ lw_all := lw_g (lw_at lw_m2 29 rfl) rfl
theorem q308 : (Jvm.Cond.methodLink "CamFigures" (119 : Nat) ({ cls := "CamFigures$Cam", name := "at", desc := "(I)I" } : Jvm.MethodName)) ∈ lw_all := lw_g (lw_at lw_m2 30 rfl) rfl
theorem q313 : (Jvm.Cond.instanceMethod ({ cls := "CamFigures", name := "copy", desc := "(IIIII)I" } : Jvm.MethodName)) ∈ lw_all := lw_g (lw_at lw_m2 35 rfl) rfl
theorem q314 : (Jvm.Cond.selects "CamFigures" ({ cls := "CamFigures", name := "copy", desc := "(IIIII)I" } : Jvm.MethodName) ({ cls := "CamFigures", name := "copy", desc := "(IIIII)I" } : Jvm.MethodName)) ∈ lw_all := lw_g (lw_at lw_m2 36 rfl) rfl
theorem q315 : (Jvm.Cond.codeWith ({ cls := "CamFigures", name := "copy", desc := "(IIIII)I" } : Jvm.MethodName) prog_1_method_15_code (8 : Nat) (Option.some Jvm.ClassFile.FieldType.int) [((24 : Nat), (73 : Nat), (74 : Nat), (7 : Nat))]) ∈ lw_all := lw_g (lw_at lw_m2 37 rfl) rfl
theorem q316 : (Jvm.Cond.methodLink "CamFigures" (122 : Nat) ({ cls := "java/lang/System", name := "arraycopy", desc := "(Ljava/lang/Object;ILjava/lang/Object;II)V" } : Jvm.MethodName)) ∈ lw_all := lw_g (lw_at lw_m2 38 rfl) rfl
theorem q320 : (Jvm.Cond.instanceMethod ({ cls := "CamFigures", name := "turn", desc := "(II)I" } : Jvm.MethodName)) ∈ lw_all := lw_g (lw_at lw_m2 42 rfl) rfl
theorem q321 : (Jvm.Cond.selects "CamFigures" ({ cls := "CamFigures", name := "turn", desc := "(II)I" } : Jvm.MethodName) ({ cls := "CamFigures", name := "turn", desc := "(II)I" } : Jvm.MethodName)) ∈ lw_all := lw_g (lw_at lw_m2 43 rfl) rfl
theorem q322 : (Jvm.Cond.codeWith ({ cls := "CamFigures", name := "turn", desc := "(II)I" } : Jvm.MethodName) prog_1_method_16_code (6 : Nat) (Option.some Jvm.ClassFile.FieldType.int) [((0 : Nat), (73 : Nat), (74 : Nat), (7 : Nat))]) ∈ lw_all := lw_g (lw_at lw_m2 44 rfl) rfl
theorem q324 : (Jvm.Cond.instanceMethod ({ cls := "CamFigures", name := "blanks", desc := "()I" } : Jvm.MethodName)) ∈ lw_all := lw_g (lw_at lw_m2 46 rfl) rfl
theorem q325 : (Jvm.Cond.selects "CamFigures" ({ cls := "CamFigures", name := "blanks", desc := "()I" } : Jvm.MethodName) ({ cls := "CamFigures", name := "blanks", desc := "()I" } : Jvm.MethodName)) ∈ lw_all := lw_g (lw_at lw_m2 47 rfl) rfl
theorem q326 : (Jvm.Cond.code ({ cls := "CamFigures", name := "blanks", desc := "()I" } : Jvm.MethodName) prog_1_method_19_code (1 : Nat) (Option.some Jvm.ClassFile.FieldType.int)) ∈ lw_all := lw_g (lw_at lw_m2 48 rfl) rfl
theorem q327 : (Jvm.Cond.methodLink "CamFigures" (135 : Nat) ({ cls := "CamFigures", name := "blanksTo", desc := "(I)I" } : Jvm.MethodName)) ∈ lw_all := lw_g (lw_at lw_m2 49 rfl) rfl
theorem q328 : (Jvm.Cond.privateMethod ({ cls := "CamFigures", name := "blanksTo", desc := "(I)I" } : Jvm.MethodName)) ∈ lw_tbl := lw_at lw_m2 50 rfl
theorem q329 : (Jvm.Cond.instanceMethod ({ cls := "CamFigures", name := "blanksTo", desc := "(I)I" } : Jvm.MethodName)) ∈ lw_all := lw_g (lw_at lw_m2 51 rfl) rfl
theorem q330 : (Jvm.Cond.code ({ cls := "CamFigures", name := "blanksTo", desc := "(I)I" } : Jvm.MethodName) prog_1_method_18_code (4 : Nat) (Option.some Jvm.ClassFile.FieldType.int)) ∈ lw_all := lw_g (lw_at lw_m2 52 rfl) rfl
theorem q331 : (Jvm.Cond.methodLink "CamFigures" (132 : Nat) ({ cls := "CamFigures", name := "leastOf", desc := "(I)I" } : Jvm.MethodName)) ∈ lw_all := lw_g (lw_at lw_m2 53 rfl) rfl
theorem q332 : (Jvm.Cond.privateMethod ({ cls := "CamFigures", name := "leastOf", desc := "(I)I" } : Jvm.MethodName)) ∈ lw_tbl := lw_at lw_m2 54 rfl
theorem q333 : (Jvm.Cond.instanceMethod ({ cls := "CamFigures", name := "leastOf", desc := "(I)I" } : Jvm.MethodName)) ∈ lw_all := lw_g (lw_at lw_m2 55 rfl) rfl
theorem q334 : (Jvm.Cond.code ({ cls := "CamFigures", name := "leastOf", desc := "(I)I" } : Jvm.MethodName) prog_1_method_17_code (3 : Nat) (Option.some Jvm.ClassFile.FieldType.int)) ∈ lw_all := lw_g (lw_at lw_m2 56 rfl) rfl
theorem q335 : (Jvm.Cond.methodLink "CamFigures" (128 : Nat) ({ cls := "CamFigures$Cam", name := "turnsTo", desc := "(LCamFigures$Cam;)I" } : Jvm.MethodName)) ∈ lw_all := lw_g (lw_at lw_m2 57 rfl) rfl
theorem q340 : (Jvm.Cond.instanceMethod ({ cls := "CamFigures", name := "camOf", desc := "(II)I" } : Jvm.MethodName)) ∈ lw_all := lw_g (lw_at lw_m2 62 rfl) rfl
theorem q341 : (Jvm.Cond.selects "CamFigures" ({ cls := "CamFigures", name := "camOf", desc := "(II)I" } : Jvm.MethodName) ({ cls := "CamFigures", name := "camOf", desc := "(II)I" } : Jvm.MethodName)) ∈ lw_all := lw_g (lw_at lw_m2 63 rfl) rfl
theorem q342 : (Jvm.Cond.codeWith ({ cls := "CamFigures", name := "camOf", desc := "(II)I" } : Jvm.MethodName) prog_1_method_20_code (5 : Nat) (Option.some Jvm.ClassFile.FieldType.int) [((0 : Nat), (46 : Nat), (74 : Nat), (7 : Nat)), ((47 : Nat), (58 : Nat), (74 : Nat), (7 : Nat)), ((59 : Nat), (63 : Nat), (74 : Nat), (7 : Nat)), ((64 : Nat), (74 : Nat), (74 : Nat), (7 : Nat))]) ∈ lw_all := lw_g (lw_at lw_m2 64 rfl) rfl
theorem q343 : (Jvm.Cond.methodLink "CamFigures" (138 : Nat) ({ cls := "CamFigures$Cam", name := "smooth", desc := "()I" } : Jvm.MethodName)) ∈ lw_all := lw_g (lw_at lw_m2 65 rfl) rfl
theorem q354 : (Jvm.Cond.instanceMethod ({ cls := "CamFigures", name := "letter", desc := "(IIII)I" } : Jvm.MethodName)) ∈ lw_all := lw_g (lw_at lw_m2 76 rfl) rfl
theorem q355 : (Jvm.Cond.selects "CamFigures" ({ cls := "CamFigures", name := "letter", desc := "(IIII)I" } : Jvm.MethodName) ({ cls := "CamFigures", name := "letter", desc := "(IIII)I" } : Jvm.MethodName)) ∈ lw_all := lw_g (lw_at lw_m2 77 rfl) rfl
theorem q356 : (Jvm.Cond.code ({ cls := "CamFigures", name := "letter", desc := "(IIII)I" } : Jvm.MethodName) prog_1_method_21_code (5 : Nat) (Option.some Jvm.ClassFile.FieldType.int)) ∈ lw_all := lw_g (lw_at lw_m2 78 rfl) rfl
theorem q358 : (Jvm.Cond.instanceMethod ({ cls := "CamFigures", name := "isCut", desc := "(I)I" } : Jvm.MethodName)) ∈ lw_all := lw_g (lw_at lw_m2 80 rfl) rfl
theorem q359 : (Jvm.Cond.selects "CamFigures" ({ cls := "CamFigures", name := "isCut", desc := "(I)I" } : Jvm.MethodName) ({ cls := "CamFigures", name := "isCut", desc := "(I)I" } : Jvm.MethodName)) ∈ lw_all := lw_g (lw_at lw_m2 81 rfl) rfl
theorem q360 : (Jvm.Cond.code ({ cls := "CamFigures", name := "isCut", desc := "(I)I" } : Jvm.MethodName) prog_1_method_22_code (2 : Nat) (Option.some Jvm.ClassFile.FieldType.int)) ∈ lw_all := lw_g (lw_at lw_m2 82 rfl) rfl
theorem q361 : (Jvm.Cond.methodLink "CamFigures" (43 : Nat) ({ cls := "CamFigures", name := "isCutLetter", desc := "(LCamFigures$Letter;)Z" } : Jvm.MethodName)) ∈ lw_all := lw_g (lw_at lw_m2 83 rfl) rfl
theorem q362 : (Jvm.Cond.privateMethod ({ cls := "CamFigures", name := "isCutLetter", desc := "(LCamFigures$Letter;)Z" } : Jvm.MethodName)) ∈ lw_tbl := lw_at lw_m2 84 rfl
theorem q363 : (Jvm.Cond.instanceMethod ({ cls := "CamFigures", name := "isCutLetter", desc := "(LCamFigures$Letter;)Z" } : Jvm.MethodName)) ∈ lw_all := lw_g (lw_at lw_m2 85 rfl) rfl
theorem q364 : (Jvm.Cond.code ({ cls := "CamFigures", name := "isCutLetter", desc := "(LCamFigures$Letter;)Z" } : Jvm.MethodName) prog_1_method_3_code (2 : Nat) (Option.some Jvm.ClassFile.FieldType.boolean)) ∈ lw_all := lw_g (lw_at lw_m2 86 rfl) rfl
theorem q366 : (Jvm.Cond.instanceMethod ({ cls := "CamFigures", name := "peg", desc := "(I)I" } : Jvm.MethodName)) ∈ lw_all := lw_g (lw_at lw_m2 88 rfl) rfl
theorem q367 : (Jvm.Cond.selects "CamFigures" ({ cls := "CamFigures", name := "peg", desc := "(I)I" } : Jvm.MethodName) ({ cls := "CamFigures", name := "peg", desc := "(I)I" } : Jvm.MethodName)) ∈ lw_all := lw_g (lw_at lw_m2 89 rfl) rfl
theorem q368 : (Jvm.Cond.code ({ cls := "CamFigures", name := "peg", desc := "(I)I" } : Jvm.MethodName) prog_1_method_23_code (2 : Nat) (Option.some Jvm.ClassFile.FieldType.int)) ∈ lw_all := lw_g (lw_at lw_m2 90 rfl) rfl
theorem q370 : (Jvm.Cond.instanceMethod ({ cls := "CamFigures", name := "unpeg", desc := "()I" } : Jvm.MethodName)) ∈ lw_all := lw_g (lw_at lw_m2 92 rfl) rfl
theorem q371 : (Jvm.Cond.selects "CamFigures" ({ cls := "CamFigures", name := "unpeg", desc := "()I" } : Jvm.MethodName) ({ cls := "CamFigures", name := "unpeg", desc := "()I" } : Jvm.MethodName)) ∈ lw_all := lw_g (lw_at lw_m2 93 rfl) rfl
theorem q372 : (Jvm.Cond.code ({ cls := "CamFigures", name := "unpeg", desc := "()I" } : Jvm.MethodName) prog_1_method_24_code (1 : Nat) (Option.some Jvm.ClassFile.FieldType.int)) ∈ lw_all := lw_g (lw_at lw_m2 94 rfl) rfl
theorem q374 : (Jvm.Cond.instanceMethod ({ cls := "CamFigures", name := "advance", desc := "(I)I" } : Jvm.MethodName)) ∈ lw_all := lw_g (lw_at lw_m2 96 rfl) rfl
theorem q375 : (Jvm.Cond.selects "CamFigures" ({ cls := "CamFigures", name := "advance", desc := "(I)I" } : Jvm.MethodName) ({ cls := "CamFigures", name := "advance", desc := "(I)I" } : Jvm.MethodName)) ∈ lw_all := lw_g (lw_at lw_m2 97 rfl) rfl
theorem q376 : (Jvm.Cond.code ({ cls := "CamFigures", name := "advance", desc := "(I)I" } : Jvm.MethodName) prog_1_method_25_code (4 : Nat) (Option.some Jvm.ClassFile.FieldType.int)) ∈ lw_all := lw_g (lw_at lw_m2 98 rfl) rfl
theorem q378 : (Jvm.Cond.instanceMethod ({ cls := "CamFigures", name := "pull", desc := "(I)I" } : Jvm.MethodName)) ∈ lw_all := lw_g (lw_at lw_m2 100 rfl) rfl
theorem q379 : (Jvm.Cond.selects "CamFigures" ({ cls := "CamFigures", name := "pull", desc := "(I)I" } : Jvm.MethodName) ({ cls := "CamFigures", name := "pull", desc := "(I)I" } : Jvm.MethodName)) ∈ lw_all := lw_g (lw_at lw_m2 101 rfl) rfl
theorem q380 : (Jvm.Cond.code ({ cls := "CamFigures", name := "pull", desc := "(I)I" } : Jvm.MethodName) prog_1_method_26_code (4 : Nat) (Option.some Jvm.ClassFile.FieldType.int)) ∈ lw_all := lw_g (lw_at lw_m2 102 rfl) rfl
theorem q382 : (Jvm.Cond.instanceMethod ({ cls := "CamFigures", name := "wind", desc := "(I)I" } : Jvm.MethodName)) ∈ lw_all := lw_g (lw_at lw_m2 104 rfl) rfl
theorem q383 : (Jvm.Cond.selects "CamFigures" ({ cls := "CamFigures", name := "wind", desc := "(I)I" } : Jvm.MethodName) ({ cls := "CamFigures", name := "wind", desc := "(I)I" } : Jvm.MethodName)) ∈ lw_all := lw_g (lw_at lw_m2 105 rfl) rfl
theorem q384 : (Jvm.Cond.code ({ cls := "CamFigures", name := "wind", desc := "(I)I" } : Jvm.MethodName) prog_1_method_27_code (3 : Nat) (Option.some Jvm.ClassFile.FieldType.int)) ∈ lw_all := lw_g (lw_at lw_m2 106 rfl) rfl
theorem q385 : (Jvm.Cond.methodLink "CamFigures" (148 : Nat) ({ cls := "java/lang/Math", name := "min", desc := "(II)I" } : Jvm.MethodName)) ∈ lw_all := lw_g (lw_at lw_m2 107 rfl) rfl
theorem q389 : (Jvm.Cond.instanceMethod ({ cls := "CamFigures", name := "show", desc := "()I" } : Jvm.MethodName)) ∈ lw_all := lw_g (lw_at lw_m2 111 rfl) rfl
theorem q390 : (Jvm.Cond.selects "CamFigures" ({ cls := "CamFigures", name := "show", desc := "()I" } : Jvm.MethodName) ({ cls := "CamFigures", name := "show", desc := "()I" } : Jvm.MethodName)) ∈ lw_all := lw_g (lw_at lw_m2 112 rfl) rfl
theorem q391 : (Jvm.Cond.code ({ cls := "CamFigures", name := "show", desc := "()I" } : Jvm.MethodName) prog_1_method_29_code (6 : Nat) (Option.some Jvm.ClassFile.FieldType.int)) ∈ lw_all := lw_g (lw_at lw_m2 113 rfl) rfl
theorem q392 : (Jvm.Cond.methodLink "CamFigures" (163 : Nat) ({ cls := "CamFigures", name := "areCut", desc := "()Z" } : Jvm.MethodName)) ∈ lw_all := lw_g (lw_at lw_m2 114 rfl) rfl
theorem q393 : (Jvm.Cond.privateMethod ({ cls := "CamFigures", name := "areCut", desc := "()Z" } : Jvm.MethodName)) ∈ lw_tbl := lw_at lw_m2 115 rfl
theorem q394 : (Jvm.Cond.instanceMethod ({ cls := "CamFigures", name := "areCut", desc := "()Z" } : Jvm.MethodName)) ∈ lw_all := lw_g (lw_at lw_m2 116 rfl) rfl
theorem q395 : (Jvm.Cond.code ({ cls := "CamFigures", name := "areCut", desc := "()Z" } : Jvm.MethodName) prog_1_method_4_code (3 : Nat) (Option.some Jvm.ClassFile.FieldType.boolean)) ∈ lw_all := lw_g (lw_at lw_m2 117 rfl) rfl
theorem q396 : (Jvm.Cond.classLink "CamFigures" (167 : Nat) "CamFigures$Pen") ∈ lw_all := lw_g (lw_at lw_m2 118 rfl) rfl
theorem q398 : (Jvm.Cond.methodLink "CamFigures" (169 : Nat) ({ cls := "CamFigures", name := "part", desc := "(I)LCamFigures$Part;" } : Jvm.MethodName)) ∈ lw_all := lw_g (lw_at lw_m2 120 rfl) rfl
theorem q399 : (Jvm.Cond.privateMethod ({ cls := "CamFigures", name := "part", desc := "(I)LCamFigures$Part;" } : Jvm.MethodName)) ∈ lw_tbl := lw_at lw_m2 121 rfl
theorem q400 : (Jvm.Cond.instanceMethod ({ cls := "CamFigures", name := "part", desc := "(I)LCamFigures$Part;" } : Jvm.MethodName)) ∈ lw_all := lw_g (lw_at lw_m2 122 rfl) rfl
theorem q401 : (Jvm.Cond.code ({ cls := "CamFigures", name := "part", desc := "(I)LCamFigures$Part;" } : Jvm.MethodName) prog_1_method_5_code (2 : Nat) (Option.some (Jvm.ClassFile.FieldType.object "CamFigures$Part"))) ∈ lw_all := lw_g (lw_at lw_m2 123 rfl) rfl
theorem q402 : (Jvm.Cond.methodLink "CamFigures" (173 : Nat) ({ cls := "CamFigures$Pen", name := "<init>", desc := "(LCamFigures;LCamFigures$Marks;LCamFigures$Part;LCamFigures$Part;LCamFigures$Part;)V" } : Jvm.MethodName)) ∈ lw_all := lw_g (lw_at lw_m2 124 rfl) rfl
theorem q431 : (Jvm.Cond.methodLink "CamFigures" (176 : Nat) ({ cls := "CamFigures$Pen", name := "writes", desc := "(I)Z" } : Jvm.MethodName)) ∈ lw_all := lw_g (lw_at lw_m2 153 rfl) rfl
theorem q447 : (Jvm.Cond.methodLink "CamFigures" (180 : Nat) ({ cls := "CamFigures", name := "goes", desc := "()Z" } : Jvm.MethodName)) ∈ lw_all := lw_g (lw_at lw_m2 169 rfl) rfl
theorem q448 : (Jvm.Cond.privateMethod ({ cls := "CamFigures", name := "goes", desc := "()Z" } : Jvm.MethodName)) ∈ lw_tbl := lw_at lw_m2 170 rfl
theorem q449 : (Jvm.Cond.instanceMethod ({ cls := "CamFigures", name := "goes", desc := "()Z" } : Jvm.MethodName)) ∈ lw_all := lw_g (lw_at lw_m2 171 rfl) rfl
theorem q450 : (Jvm.Cond.code ({ cls := "CamFigures", name := "goes", desc := "()Z" } : Jvm.MethodName) prog_1_method_28_code (1 : Nat) (Option.some Jvm.ClassFile.FieldType.boolean)) ∈ lw_all := lw_g (lw_at lw_m2 172 rfl) rfl
theorem q451 : (Jvm.Cond.methodLink "CamFigures" (183 : Nat) ({ cls := "CamFigures$Pen", name := "step", desc := "(II)V" } : Jvm.MethodName)) ∈ lw_all := lw_g (lw_at lw_m2 173 rfl) rfl
theorem q513 : (Jvm.Cond.instanceMethod ({ cls := "CamFigures", name := "marked", desc := "(II)I" } : Jvm.MethodName)) ∈ lw_all := lw_g (lw_at lw_m2 235 rfl) rfl
theorem q514 : (Jvm.Cond.selects "CamFigures" ({ cls := "CamFigures", name := "marked", desc := "(II)I" } : Jvm.MethodName) ({ cls := "CamFigures", name := "marked", desc := "(II)I" } : Jvm.MethodName)) ∈ lw_all := lw_g (lw_at lw_m2 236 rfl) rfl
theorem q515 : (Jvm.Cond.code ({ cls := "CamFigures", name := "marked", desc := "(II)I" } : Jvm.MethodName) prog_1_method_31_code (3 : Nat) (Option.some Jvm.ClassFile.FieldType.int)) ∈ lw_all := lw_g (lw_at lw_m2 237 rfl) rfl
theorem q516 : (Jvm.Cond.methodLink "CamFigures" (192 : Nat) ({ cls := "CamFigures", name := "isCell", desc := "(II)Z" } : Jvm.MethodName)) ∈ lw_all := lw_g (lw_at lw_m2 238 rfl) rfl
theorem q517 : (Jvm.Cond.static ({ cls := "CamFigures", name := "isCell", desc := "(II)Z" } : Jvm.MethodName)) ∈ lw_all := lw_g (lw_at lw_m2 239 rfl) rfl
theorem q518 : (Jvm.Cond.code ({ cls := "CamFigures", name := "isCell", desc := "(II)Z" } : Jvm.MethodName) prog_1_method_30_code (2 : Nat) (Option.some Jvm.ClassFile.FieldType.boolean)) ∈ lw_all := lw_g (lw_at lw_m3 0 rfl) rfl
theorem q520 : (Jvm.Cond.instanceMethod ({ cls := "CamFigures", name := "first", desc := "(III)I" } : Jvm.MethodName)) ∈ lw_all := lw_g (lw_at lw_m3 2 rfl) rfl
theorem q521 : (Jvm.Cond.selects "CamFigures" ({ cls := "CamFigures", name := "first", desc := "(III)I" } : Jvm.MethodName) ({ cls := "CamFigures", name := "first", desc := "(III)I" } : Jvm.MethodName)) ∈ lw_all := lw_g (lw_at lw_m3 3 rfl) rfl
theorem q522 : (Jvm.Cond.code ({ cls := "CamFigures", name := "first", desc := "(III)I" } : Jvm.MethodName) prog_1_method_32_code (5 : Nat) (Option.some Jvm.ClassFile.FieldType.int)) ∈ lw_all := lw_g (lw_at lw_m3 4 rfl) rfl
theorem q524 : (Jvm.Cond.instanceMethod ({ cls := "CamFigures", name := "marks", desc := "()I" } : Jvm.MethodName)) ∈ lw_all := lw_g (lw_at lw_m3 6 rfl) rfl
theorem q525 : (Jvm.Cond.selects "CamFigures" ({ cls := "CamFigures", name := "marks", desc := "()I" } : Jvm.MethodName) ({ cls := "CamFigures", name := "marks", desc := "()I" } : Jvm.MethodName)) ∈ lw_all := lw_g (lw_at lw_m3 7 rfl) rfl
theorem q526 : (Jvm.Cond.code ({ cls := "CamFigures", name := "marks", desc := "()I" } : Jvm.MethodName) prog_1_method_33_code (3 : Nat) (Option.some Jvm.ClassFile.FieldType.int)) ∈ lw_all := lw_g (lw_at lw_m3 8 rfl) rfl
theorem q528 : (Jvm.Cond.instanceMethod ({ cls := "CamFigures", name := "see", desc := "(IIZ)I" } : Jvm.MethodName)) ∈ lw_all := lw_g (lw_at lw_m3 10 rfl) rfl
theorem q529 : (Jvm.Cond.selects "CamFigures" ({ cls := "CamFigures", name := "see", desc := "(IIZ)I" } : Jvm.MethodName) ({ cls := "CamFigures", name := "see", desc := "(IIZ)I" } : Jvm.MethodName)) ∈ lw_all := lw_g (lw_at lw_m3 11 rfl) rfl
theorem q530 : (Jvm.Cond.code ({ cls := "CamFigures", name := "see", desc := "(IIZ)I" } : Jvm.MethodName) prog_1_method_34_code (5 : Nat) (Option.some Jvm.ClassFile.FieldType.int)) ∈ lw_all := lw_g (lw_at lw_m3 12 rfl) rfl
theorem q532 : (Jvm.Cond.instanceMethod ({ cls := "CamFigures", name := "fault", desc := "(II)I" } : Jvm.MethodName)) ∈ lw_all := lw_g (lw_at lw_m3 14 rfl) rfl
theorem q533 : (Jvm.Cond.selects "CamFigures" ({ cls := "CamFigures", name := "fault", desc := "(II)I" } : Jvm.MethodName) ({ cls := "CamFigures", name := "fault", desc := "(II)I" } : Jvm.MethodName)) ∈ lw_all := lw_g (lw_at lw_m3 15 rfl) rfl
theorem q534 : (Jvm.Cond.code ({ cls := "CamFigures", name := "fault", desc := "(II)I" } : Jvm.MethodName) prog_1_method_35_code (3 : Nat) (Option.some Jvm.ClassFile.FieldType.int)) ∈ lw_all := lw_g (lw_at lw_m3 16 rfl) rfl
theorem q535 : (Jvm.Cond.classLink "CamFigures" (202 : Nat) "CamFigures$Worn") ∈ lw_all := lw_g (lw_at lw_m3 17 rfl) rfl
theorem q537 : (Jvm.Cond.methodLink "CamFigures" (204 : Nat) ({ cls := "CamFigures$Worn", name := "<init>", desc := "(I)V" } : Jvm.MethodName)) ∈ lw_all := lw_g (lw_at lw_m3 19 rfl) rfl
theorem q544 : (Jvm.Cond.classLink "CamFigures" (205 : Nat) "CamFigures$Loose") ∈ lw_all := lw_g (lw_at lw_m3 26 rfl) rfl
theorem q546 : (Jvm.Cond.methodLink "CamFigures" (207 : Nat) ({ cls := "CamFigures$Loose", name := "<init>", desc := "(I)V" } : Jvm.MethodName)) ∈ lw_all := lw_g (lw_at lw_m3 28 rfl) rfl
theorem q553 : (Jvm.Cond.classLink "CamFigures" (208 : Nat) "CamFigures$Bent") ∈ lw_all := lw_g (lw_at lw_m3 35 rfl) rfl
theorem q555 : (Jvm.Cond.methodLink "CamFigures" (210 : Nat) ({ cls := "CamFigures$Bent", name := "<init>", desc := "(I)V" } : Jvm.MethodName)) ∈ lw_all := lw_g (lw_at lw_m3 37 rfl) rfl
theorem q564 : (Jvm.Cond.instanceMethod ({ cls := "CamFigures", name := "mend", desc := "()I" } : Jvm.MethodName)) ∈ lw_all := lw_g (lw_at lw_m3 46 rfl) rfl
theorem q565 : (Jvm.Cond.selects "CamFigures" ({ cls := "CamFigures", name := "mend", desc := "()I" } : Jvm.MethodName) ({ cls := "CamFigures", name := "mend", desc := "()I" } : Jvm.MethodName)) ∈ lw_all := lw_g (lw_at lw_m3 47 rfl) rfl
theorem q566 : (Jvm.Cond.code ({ cls := "CamFigures", name := "mend", desc := "()I" } : Jvm.MethodName) prog_1_method_37_code (3 : Nat) (Option.some Jvm.ClassFile.FieldType.int)) ∈ lw_all := lw_g (lw_at lw_m3 48 rfl) rfl
theorem q567 : (Jvm.Cond.methodLink "CamFigures" (211 : Nat) ({ cls := "CamFigures", name := "told", desc := "()I" } : Jvm.MethodName)) ∈ lw_all := lw_g (lw_at lw_m3 49 rfl) rfl
theorem q568 : (Jvm.Cond.privateMethod ({ cls := "CamFigures", name := "told", desc := "()I" } : Jvm.MethodName)) ∈ lw_tbl := lw_at lw_m3 50 rfl
theorem q569 : (Jvm.Cond.instanceMethod ({ cls := "CamFigures", name := "told", desc := "()I" } : Jvm.MethodName)) ∈ lw_all := lw_g (lw_at lw_m3 51 rfl) rfl
theorem q570 : (Jvm.Cond.code ({ cls := "CamFigures", name := "told", desc := "()I" } : Jvm.MethodName) prog_1_method_36_code (3 : Nat) (Option.some Jvm.ClassFile.FieldType.int)) ∈ lw_all := lw_g (lw_at lw_m3 52 rfl) rfl
theorem q572 : (Jvm.Cond.instanceMethod ({ cls := "CamFigures", name := "explained", desc := "(I)I" } : Jvm.MethodName)) ∈ lw_all := lw_g (lw_at lw_m3 54 rfl) rfl
theorem q573 : (Jvm.Cond.selects "CamFigures" ({ cls := "CamFigures", name := "explained", desc := "(I)I" } : Jvm.MethodName) ({ cls := "CamFigures", name := "explained", desc := "(I)I" } : Jvm.MethodName)) ∈ lw_all := lw_g (lw_at lw_m3 55 rfl) rfl
theorem q574 : (Jvm.Cond.code ({ cls := "CamFigures", name := "explained", desc := "(I)I" } : Jvm.MethodName) prog_1_method_41_code (2 : Nat) (Option.some Jvm.ClassFile.FieldType.int)) ∈ lw_all := lw_g (lw_at lw_m3 56 rfl) rfl
theorem q575 : (Jvm.Cond.methodLink "CamFigures" (235 : Nat) ({ cls := "CamFigures", name := "looks", desc := "()V" } : Jvm.MethodName)) ∈ lw_all := lw_g (lw_at lw_m3 57 rfl) rfl
theorem q576 : (Jvm.Cond.privateMethod ({ cls := "CamFigures", name := "looks", desc := "()V" } : Jvm.MethodName)) ∈ lw_tbl := lw_at lw_m3 58 rfl
theorem q577 : (Jvm.Cond.instanceMethod ({ cls := "CamFigures", name := "looks", desc := "()V" } : Jvm.MethodName)) ∈ lw_all := lw_g (lw_at lw_m3 59 rfl) rfl
theorem q578 : (Jvm.Cond.code ({ cls := "CamFigures", name := "looks", desc := "()V" } : Jvm.MethodName) prog_1_method_40_code (2 : Nat) (Option.none : Option Jvm.ClassFile.FieldType)) ∈ lw_all := lw_g (lw_at lw_m3 60 rfl) rfl
theorem q579 : (Jvm.Cond.methodLink "CamFigures" (227 : Nat) ({ cls := "CamFigures", name := "explains", desc := "(LCamFigures$Part;LCamFigures$Part;LCamFigures$Part;)Z" } : Jvm.MethodName)) ∈ lw_all := lw_g (lw_at lw_m3 61 rfl) rfl
theorem q580 : (Jvm.Cond.privateMethod ({ cls := "CamFigures", name := "explains", desc := "(LCamFigures$Part;LCamFigures$Part;LCamFigures$Part;)Z" } : Jvm.MethodName)) ∈ lw_tbl := lw_at lw_m3 62 rfl
theorem q581 : (Jvm.Cond.instanceMethod ({ cls := "CamFigures", name := "explains", desc := "(LCamFigures$Part;LCamFigures$Part;LCamFigures$Part;)Z" } : Jvm.MethodName)) ∈ lw_all := lw_g (lw_at lw_m3 63 rfl) rfl
theorem q582 : (Jvm.Cond.code ({ cls := "CamFigures", name := "explains", desc := "(LCamFigures$Part;LCamFigures$Part;LCamFigures$Part;)Z" } : Jvm.MethodName) prog_1_method_38_code (4 : Nat) (Option.some Jvm.ClassFile.FieldType.boolean)) ∈ lw_all := lw_g (lw_at lw_m3 64 rfl) rfl
theorem q583 : (Jvm.Cond.methodLink "CamFigures" (214 : Nat) ({ cls := "CamFigures$Pen", name := "all", desc := "()V" } : Jvm.MethodName)) ∈ lw_all := lw_g (lw_at lw_m3 65 rfl) rfl
theorem q589 : (Jvm.Cond.methodLink "CamFigures" (217 : Nat) ({ cls := "CamFigures$Paper", name := "isLike", desc := "(LCamFigures$Paper;)Z" } : Jvm.MethodName)) ∈ lw_all := lw_g (lw_at lw_m3 71 rfl) rfl
theorem q593 : (Jvm.Cond.methodLink "CamFigures" (231 : Nat) ({ cls := "CamFigures", name := "finds", desc := "(IIZ)V" } : Jvm.MethodName)) ∈ lw_all := lw_g (lw_at lw_m3 75 rfl) rfl
theorem q594 : (Jvm.Cond.privateMethod ({ cls := "CamFigures", name := "finds", desc := "(IIZ)V" } : Jvm.MethodName)) ∈ lw_tbl := lw_at lw_m3 76 rfl
theorem q595 : (Jvm.Cond.instanceMethod ({ cls := "CamFigures", name := "finds", desc := "(IIZ)V" } : Jvm.MethodName)) ∈ lw_all := lw_g (lw_at lw_m3 77 rfl) rfl
theorem q596 : (Jvm.Cond.code ({ cls := "CamFigures", name := "finds", desc := "(IIZ)V" } : Jvm.MethodName) prog_1_method_39_code (4 : Nat) (Option.none : Option Jvm.ClassFile.FieldType)) ∈ lw_all := lw_g (lw_at lw_m3 78 rfl) rfl
theorem q598 : (Jvm.Cond.instanceMethod ({ cls := "CamFigures", name := "made", desc := "(II)I" } : Jvm.MethodName)) ∈ lw_all := lw_g (lw_at lw_m3 80 rfl) rfl
theorem q599 : (Jvm.Cond.selects "CamFigures" ({ cls := "CamFigures", name := "made", desc := "(II)I" } : Jvm.MethodName) ({ cls := "CamFigures", name := "made", desc := "(II)I" } : Jvm.MethodName)) ∈ lw_all := lw_g (lw_at lw_m3 81 rfl) rfl
theorem q600 : (Jvm.Cond.codeWith ({ cls := "CamFigures", name := "made", desc := "(II)I" } : Jvm.MethodName) prog_1_method_42_code (5 : Nat) (Option.some Jvm.ClassFile.FieldType.int) [((0 : Nat), (103 : Nat), (104 : Nat), (7 : Nat))]) ∈ lw_all := lw_g (lw_at lw_m3 82 rfl) rfl
theorem q601 : (Jvm.Cond.methodLink "CamFigures" (238 : Nat) ({ cls := "CamFigures$Cam", name := "times", desc := "(I)I" } : Jvm.MethodName)) ∈ lw_all := lw_g (lw_at lw_m3 83 rfl) rfl
theorem q606 : (Jvm.Cond.instanceMethod ({ cls := "CamFigures", name := "like", desc := "(II)I" } : Jvm.MethodName)) ∈ lw_all := lw_g (lw_at lw_m3 88 rfl) rfl
theorem q607 : (Jvm.Cond.selects "CamFigures" ({ cls := "CamFigures", name := "like", desc := "(II)I" } : Jvm.MethodName) ({ cls := "CamFigures", name := "like", desc := "(II)I" } : Jvm.MethodName)) ∈ lw_all := lw_g (lw_at lw_m3 89 rfl) rfl
theorem q608 : (Jvm.Cond.codeWith ({ cls := "CamFigures", name := "like", desc := "(II)I" } : Jvm.MethodName) prog_1_method_44_code (4 : Nat) (Option.some Jvm.ClassFile.FieldType.int) [((0 : Nat), (48 : Nat), (49 : Nat), (7 : Nat))]) ∈ lw_all := lw_g (lw_at lw_m3 90 rfl) rfl
theorem q609 : (Jvm.Cond.methodLink "CamFigures" (244 : Nat) ({ cls := "CamFigures", name := "likeOf", desc := "(LCamFigures$Cam;I)I" } : Jvm.MethodName)) ∈ lw_all := lw_g (lw_at lw_m3 91 rfl) rfl
theorem q610 : (Jvm.Cond.privateMethod ({ cls := "CamFigures", name := "likeOf", desc := "(LCamFigures$Cam;I)I" } : Jvm.MethodName)) ∈ lw_tbl := lw_at lw_m3 92 rfl
theorem q611 : (Jvm.Cond.instanceMethod ({ cls := "CamFigures", name := "likeOf", desc := "(LCamFigures$Cam;I)I" } : Jvm.MethodName)) ∈ lw_all := lw_g (lw_at lw_m3 93 rfl) rfl
theorem q612 : (Jvm.Cond.code ({ cls := "CamFigures", name := "likeOf", desc := "(LCamFigures$Cam;I)I" } : Jvm.MethodName) prog_1_method_43_code (5 : Nat) (Option.some Jvm.ClassFile.FieldType.int)) ∈ lw_all := lw_g (lw_at lw_m3 94 rfl) rfl
theorem q613 : (Jvm.Cond.methodLink "CamFigures" (241 : Nat) ({ cls := "java/lang/Math", name := "abs", desc := "(I)I" } : Jvm.MethodName)) ∈ lw_all := lw_g (lw_at lw_m3 95 rfl) rfl
theorem q615 : (Jvm.Cond.instanceMethod ({ cls := "CamFigures", name := "whose", desc := "(I)I" } : Jvm.MethodName)) ∈ lw_all := lw_g (lw_at lw_m3 97 rfl) rfl
theorem q616 : (Jvm.Cond.selects "CamFigures" ({ cls := "CamFigures", name := "whose", desc := "(I)I" } : Jvm.MethodName) ({ cls := "CamFigures", name := "whose", desc := "(I)I" } : Jvm.MethodName)) ∈ lw_all := lw_g (lw_at lw_m3 98 rfl) rfl
theorem q617 : (Jvm.Cond.codeWith ({ cls := "CamFigures", name := "whose", desc := "(I)I" } : Jvm.MethodName) prog_1_method_45_code (5 : Nat) (Option.some Jvm.ClassFile.FieldType.int) [((0 : Nat), (78 : Nat), (79 : Nat), (7 : Nat))]) ∈ lw_all := lw_g (lw_at lw_m3 99 rfl) rfl
theorem q619 : (Jvm.Cond.instanceMethod ({ cls := "CamFigures", name := "count", desc := "(I)I" } : Jvm.MethodName)) ∈ lw_all := lw_g (lw_at lw_m3 101 rfl) rfl
theorem q620 : (Jvm.Cond.selects "CamFigures" ({ cls := "CamFigures", name := "count", desc := "(I)I" } : Jvm.MethodName) ({ cls := "CamFigures", name := "count", desc := "(I)I" } : Jvm.MethodName)) ∈ lw_all := lw_g (lw_at lw_m3 102 rfl) rfl
theorem q621 : (Jvm.Cond.code ({ cls := "CamFigures", name := "count", desc := "(I)I" } : Jvm.MethodName) prog_1_method_46_code (4 : Nat) (Option.some Jvm.ClassFile.FieldType.int)) ∈ lw_all := lw_g (lw_at lw_m3 103 rfl) rfl
theorem in_X0 : ∀ w ∈ wsX00, w ∈ lw_all := lw_in wsX00 [141, 143, 145, 147, 149, 151, 153, 155, 157, 159, 161, 163, 165, 167, 169, 171, 173, 175, 177, 179, 181, 183, 185] (by decide +kernel) (by decide +kernel)
theorem dX0_init_0 : decode cX0_init 0 = .ok (.aload_n 0, 1) := by decide +kernel
theorem dX0_init_1 : decode cX0_init 1 = .ok (.invokespecial 55, 3) := by decide +kernel
theorem dX0_init_4 : decode cX0_init 4 = .ok (.aload_n 0, 1) := by decide +kernel
theorem dX0_init_5 : decode cX0_init 5 = .ok (.bipush 12, 2) := by decide +kernel
theorem dX0_init_7 : decode cX0_init 7 = .ok (.anewarray 60, 3) := by decide +kernel
theorem dX0_init_10 : decode cX0_init 10 = .ok (.putfield 13, 3) := by decide +kernel
theorem dX0_init_13 : decode cX0_init 13 = .ok (.aload_n 0, 1) := by decide +kernel
theorem dX0_init_14 : decode cX0_init 14 = .ok (.bipush 8, 2) := by decide +kernel
theorem dX0_init_16 : decode cX0_init 16 = .ok (.putfield 17, 3) := by decide +kernel
theorem dX0_init_19 : decode cX0_init 19 = .ok (.aload_n 0, 1) := by decide +kernel
theorem dX0_init_20 : decode cX0_init 20 = .ok (.bipush 10, 2) := by decide +kernel
theorem dX0_init_22 : decode cX0_init 22 = .ok (.anewarray 22, 3) := by decide +kernel
theorem dX0_init_25 : decode cX0_init 25 = .ok (.putfield 35, 3) := by decide +kernel
theorem dX0_init_28 : decode cX0_init 28 = .ok (.aload_n 0, 1) := by decide +kernel
theorem dX0_init_29 : decode cX0_init 29 = .ok (.bipush 12, 2) := by decide +kernel
theorem dX0_init_31 : decode cX0_init 31 = .ok (.newarray .int, 2) := by decide +kernel
theorem dX0_init_33 : decode cX0_init 33 = .ok (.putfield 39, 3) := by decide +kernel
theorem dX0_init_36 : decode cX0_init 36 = .ok (.aload_n 0, 1) := by decide +kernel
theorem dX0_init_37 : decode cX0_init 37 = .ok (.iconst 5, 1) := by decide +kernel
theorem dX0_init_38 : decode cX0_init 38 = .ok (.putfield 62, 3) := by decide +kernel
theorem dX0_init_41 : decode cX0_init 41 = .ok (.aload_n 0, 1) := by decide +kernel
theorem dX0_init_42 : decode cX0_init 42 = .ok (.new 65, 3) := by decide +kernel
theorem dX0_init_45 : decode cX0_init 45 = .ok (.dup, 1) := by decide +kernel
theorem dX0_init_46 : decode cX0_init 46 = .ok (.invokespecial 67, 3) := by decide +kernel
theorem dX0_init_49 : decode cX0_init 49 = .ok (.putfield 51, 3) := by decide +kernel
theorem dX0_init_52 : decode cX0_init 52 = .ok (.aload_n 0, 1) := by decide +kernel
theorem dX0_init_53 : decode cX0_init 53 = .ok (.iconst 3, 1) := by decide +kernel
theorem dX0_init_54 : decode cX0_init 54 = .ok (.anewarray 65, 3) := by decide +kernel
theorem dX0_init_57 : decode cX0_init 57 = .ok (.putfield 47, 3) := by decide +kernel
theorem dX0_init_60 : decode cX0_init 60 = .ok (.aload_n 0, 1) := by decide +kernel
theorem dX0_init_61 : decode cX0_init 61 = .ok (.new 68, 3) := by decide +kernel
theorem dX0_init_64 : decode cX0_init 64 = .ok (.dup, 1) := by decide +kernel
theorem dX0_init_65 : decode cX0_init 65 = .ok (.invokespecial 70, 3) := by decide +kernel
theorem dX0_init_68 : decode cX0_init 68 = .ok (.putfield 71, 3) := by decide +kernel
theorem dX0_init_71 : decode cX0_init 71 = .ok (.aload_n 0, 1) := by decide +kernel
theorem dX0_init_72 : decode cX0_init 72 = .ok (.new 68, 3) := by decide +kernel
theorem dX0_init_75 : decode cX0_init 75 = .ok (.dup, 1) := by decide +kernel
theorem dX0_init_76 : decode cX0_init 76 = .ok (.invokespecial 70, 3) := by decide +kernel
theorem dX0_init_79 : decode cX0_init 79 = .ok (.putfield 75, 3) := by decide +kernel
theorem dX0_init_82 : decode cX0_init 82 = .ok (.aload_n 0, 1) := by decide +kernel
theorem dX0_init_83 : decode cX0_init 83 = .ok (.iconst 4, 1) := by decide +kernel
theorem dX0_init_84 : decode cX0_init 84 = .ok (.bipush 10, 2) := by decide +kernel
theorem dX0_init_86 : decode cX0_init 86 = .ok (.multianewarray 78 2, 4) := by decide +kernel
theorem dX0_init_90 : decode cX0_init 90 = .ok (.putfield 80, 3) := by decide +kernel
theorem dX0_init_93 : decode cX0_init 93 = .ok (.aload_n 0, 1) := by decide +kernel
theorem dX0_init_94 : decode cX0_init 94 = .ok (.iconst 4, 1) := by decide +kernel
theorem dX0_init_95 : decode cX0_init 95 = .ok (.newarray .int, 2) := by decide +kernel
theorem dX0_init_97 : decode cX0_init 97 = .ok (.putfield 83, 3) := by decide +kernel
theorem dX0_init_100 : decode cX0_init 100 = .ok (.aload_n 0, 1) := by decide +kernel
theorem dX0_init_101 : decode cX0_init 101 = .ok (.bipush 8, 2) := by decide +kernel
theorem dX0_init_103 : decode cX0_init 103 = .ok (.newarray .int, 2) := by decide +kernel
theorem dX0_init_105 : decode cX0_init 105 = .ok (.putfield 86, 3) := by decide +kernel
theorem dX0_init_108 : decode cX0_init 108 = .ok (.aload_n 0, 1) := by decide +kernel
theorem dX0_init_109 : decode cX0_init 109 = .ok (.iconst 2, 1) := by decide +kernel
theorem dX0_init_110 : decode cX0_init 110 = .ok (.putfield 89, 3) := by decide +kernel
theorem dX0_init_113 : decode cX0_init 113 = .ok (.iconst 0, 1) := by decide +kernel
theorem dX0_init_114 : decode cX0_init 114 = .ok (.istore_n 1, 1) := by decide +kernel
theorem dX0_init_115 : decode cX0_init 115 = .ok (.iload_n 1, 1) := by decide +kernel
theorem dX0_init_116 : decode cX0_init 116 = .ok (.bipush 10, 2) := by decide +kernel
theorem dX0_init_118 : decode cX0_init 118 = .ok (.if_icmp .ge 22, 3) := by decide +kernel
theorem dX0_init_121 : decode cX0_init 121 = .ok (.aload_n 0, 1) := by decide +kernel
theorem dX0_init_122 : decode cX0_init 122 = .ok (.getfield 35, 3) := by decide +kernel
theorem dX0_init_125 : decode cX0_init 125 = .ok (.iload_n 1, 1) := by decide +kernel
theorem dX0_init_126 : decode cX0_init 126 = .ok (.new 22, 3) := by decide +kernel
theorem dX0_init_129 : decode cX0_init 129 = .ok (.dup, 1) := by decide +kernel
theorem dX0_init_130 : decode cX0_init 130 = .ok (.invokespecial 92, 3) := by decide +kernel
theorem dX0_init_133 : decode cX0_init 133 = .ok (.aastore, 1) := by decide +kernel
theorem dX0_init_134 : decode cX0_init 134 = .ok (.iinc 1 1, 3) := by decide +kernel
theorem dX0_init_137 : decode cX0_init 137 = .ok (.goto (-22), 3) := by decide +kernel
theorem dX0_init_140 : decode cX0_init 140 = .ok (.return_, 1) := by decide +kernel
theorem dX0_length_0 : decode cX0_length 0 = .ok (.iload_n 1, 1) := by decide +kernel
theorem dX0_length_1 : decode cX0_length 1 = .ok (.iconst 2, 1) := by decide +kernel
theorem dX0_length_2 : decode cX0_length 2 = .ok (.bipush 16, 2) := by decide +kernel
theorem dX0_length_4 : decode cX0_length 4 = .ok (.invokestatic 93, 3) := by decide +kernel
theorem dX0_length_7 : decode cX0_length 7 = .ok (.istore_n 2, 1) := by decide +kernel
theorem dX0_length_8 : decode cX0_length 8 = .ok (.iload_n 2, 1) := by decide +kernel
theorem dX0_length_9 : decode cX0_length 9 = .ok (.ifCond .eq 9, 3) := by decide +kernel
theorem dX0_length_12 : decode cX0_length 12 = .ok (.aload_n 0, 1) := by decide +kernel
theorem dX0_length_13 : decode cX0_length 13 = .ok (.iload_n 2, 1) := by decide +kernel
theorem dX0_length_14 : decode cX0_length 14 = .ok (.invokevirtual 97, 3) := by decide +kernel
theorem dX0_length_17 : decode cX0_length 17 = .ok (.ireturn, 1) := by decide +kernel
theorem dX0_length_18 : decode cX0_length 18 = .ok (.aload_n 0, 1) := by decide +kernel
theorem dX0_length_19 : decode cX0_length 19 = .ok (.getfield 17, 3) := by decide +kernel
theorem dX0_length_22 : decode cX0_length 22 = .ok (.istore_n 3, 1) := by decide +kernel
theorem dX0_length_23 : decode cX0_length 23 = .ok (.aload_n 0, 1) := by decide +kernel
theorem dX0_length_24 : decode cX0_length 24 = .ok (.iload_n 1, 1) := by decide +kernel
theorem dX0_length_25 : decode cX0_length 25 = .ok (.putfield 17, 3) := by decide +kernel
theorem dX0_length_28 : decode cX0_length 28 = .ok (.iconst 0, 1) := by decide +kernel
theorem dX0_length_29 : decode cX0_length 29 = .ok (.istore 4, 2) := by decide +kernel
theorem dX0_length_31 : decode cX0_length 31 = .ok (.iload 4, 2) := by decide +kernel
theorem dX0_length_33 : decode cX0_length 33 = .ok (.bipush 12, 2) := by decide +kernel
theorem dX0_length_35 : decode cX0_length 35 = .ok (.if_icmp .ge 17, 3) := by decide +kernel
theorem dX0_length_38 : decode cX0_length 38 = .ok (.aload_n 0, 1) := by decide +kernel
theorem dX0_length_39 : decode cX0_length 39 = .ok (.getfield 13, 3) := by decide +kernel
theorem dX0_length_42 : decode cX0_length 42 = .ok (.iload 4, 2) := by decide +kernel
theorem dX0_length_44 : decode cX0_length 44 = .ok (.aconst_null, 1) := by decide +kernel
theorem dX0_length_45 : decode cX0_length 45 = .ok (.aastore, 1) := by decide +kernel
theorem dX0_length_46 : decode cX0_length 46 = .ok (.iinc 4 1, 3) := by decide +kernel
theorem dX0_length_49 : decode cX0_length 49 = .ok (.goto (-18), 3) := by decide +kernel
theorem dX0_length_52 : decode cX0_length 52 = .ok (.aload_n 0, 1) := by decide +kernel
theorem dX0_length_53 : decode cX0_length 53 = .ok (.getfield 71, 3) := by decide +kernel
theorem dX0_length_56 : decode cX0_length 56 = .ok (.invokevirtual 101, 3) := by decide +kernel
theorem dX0_length_59 : decode cX0_length 59 = .ok (.iload_n 3, 1) := by decide +kernel
theorem dX0_length_60 : decode cX0_length 60 = .ok (.ireturn, 1) := by decide +kernel
theorem dX0_within_0 : decode cX0_within 0 = .ok (.iload_n 0, 1) := by decide +kernel
theorem dX0_within_1 : decode cX0_within 1 = .ok (.iload_n 1, 1) := by decide +kernel
theorem dX0_within_2 : decode cX0_within 2 = .ok (.if_icmp .ge 8, 3) := by decide +kernel
theorem dX0_within_5 : decode cX0_within 5 = .ok (.bipush (-4), 2) := by decide +kernel
theorem dX0_within_7 : decode cX0_within 7 = .ok (.goto 14, 3) := by decide +kernel
theorem dX0_within_10 : decode cX0_within 10 = .ok (.iload_n 0, 1) := by decide +kernel
theorem dX0_within_11 : decode cX0_within 11 = .ok (.iload_n 2, 1) := by decide +kernel
theorem dX0_within_12 : decode cX0_within 12 = .ok (.if_icmp .le 8, 3) := by decide +kernel
theorem dX0_within_15 : decode cX0_within 15 = .ok (.bipush (-6), 2) := by decide +kernel
theorem dX0_within_17 : decode cX0_within 17 = .ok (.goto 4, 3) := by decide +kernel
theorem dX0_within_20 : decode cX0_within 20 = .ok (.iconst 0, 1) := by decide +kernel
theorem dX0_within_21 : decode cX0_within 21 = .ok (.ireturn, 1) := by decide +kernel
theorem dX0_refuse_0 : decode cX0_refuse 0 = .ok (.aload_n 0, 1) := by decide +kernel
theorem dX0_refuse_1 : decode cX0_refuse 1 = .ok (.getfield 86, 3) := by decide +kernel
theorem dX0_refuse_4 : decode cX0_refuse 4 = .ok (.iload_n 1, 1) := by decide +kernel
theorem dX0_refuse_5 : decode cX0_refuse 5 = .ok (.ineg, 1) := by decide +kernel
theorem dX0_refuse_6 : decode cX0_refuse 6 = .ok (.dup2, 1) := by decide +kernel
theorem dX0_refuse_7 : decode cX0_refuse 7 = .ok (.iaload, 1) := by decide +kernel
theorem dX0_refuse_8 : decode cX0_refuse 8 = .ok (.iconst 1, 1) := by decide +kernel
theorem dX0_refuse_9 : decode cX0_refuse 9 = .ok (.iadd, 1) := by decide +kernel
theorem dX0_refuse_10 : decode cX0_refuse 10 = .ok (.iastore, 1) := by decide +kernel
theorem dX0_refuse_11 : decode cX0_refuse 11 = .ok (.iload_n 1, 1) := by decide +kernel
theorem dX0_refuse_12 : decode cX0_refuse 12 = .ok (.ireturn, 1) := by decide +kernel
theorem dX0_blank_0 : decode cX0_blank 0 = .ok (.iload_n 1, 1) := by decide +kernel
theorem dX0_blank_1 : decode cX0_blank 1 = .ok (.bipush 12, 2) := by decide +kernel
theorem dX0_blank_3 : decode cX0_blank 3 = .ok (.invokestatic 3, 3) := by decide +kernel
theorem dX0_blank_6 : decode cX0_blank 6 = .ok (.ifCond .ne 9, 3) := by decide +kernel
theorem dX0_blank_9 : decode cX0_blank 9 = .ok (.aload_n 0, 1) := by decide +kernel
theorem dX0_blank_10 : decode cX0_blank 10 = .ok (.iconst (-1), 1) := by decide +kernel
theorem dX0_blank_11 : decode cX0_blank 11 = .ok (.invokevirtual 97, 3) := by decide +kernel
theorem dX0_blank_14 : decode cX0_blank 14 = .ok (.ireturn, 1) := by decide +kernel
theorem dX0_blank_15 : decode cX0_blank 15 = .ok (.aload_n 0, 1) := by decide +kernel
theorem dX0_blank_16 : decode cX0_blank 16 = .ok (.getfield 13, 3) := by decide +kernel
theorem dX0_blank_19 : decode cX0_blank 19 = .ok (.iload_n 1, 1) := by decide +kernel
theorem dX0_blank_20 : decode cX0_blank 20 = .ok (.aaload, 1) := by decide +kernel
theorem dX0_blank_21 : decode cX0_blank 21 = .ok (.ifnull 7, 3) := by decide +kernel
theorem dX0_blank_24 : decode cX0_blank 24 = .ok (.iconst 1, 1) := by decide +kernel
theorem dX0_blank_25 : decode cX0_blank 25 = .ok (.goto 4, 3) := by decide +kernel
theorem dX0_blank_28 : decode cX0_blank 28 = .ok (.iconst 0, 1) := by decide +kernel
theorem dX0_blank_29 : decode cX0_blank 29 = .ok (.istore_n 2, 1) := by decide +kernel
theorem dX0_blank_30 : decode cX0_blank 30 = .ok (.aload_n 0, 1) := by decide +kernel
theorem dX0_blank_31 : decode cX0_blank 31 = .ok (.getfield 13, 3) := by decide +kernel
theorem dX0_blank_34 : decode cX0_blank 34 = .ok (.iload_n 1, 1) := by decide +kernel
theorem dX0_blank_35 : decode cX0_blank 35 = .ok (.new 60, 3) := by decide +kernel
theorem dX0_blank_38 : decode cX0_blank 38 = .ok (.dup, 1) := by decide +kernel
theorem dX0_blank_39 : decode cX0_blank 39 = .ok (.aload_n 0, 1) := by decide +kernel
theorem dX0_blank_40 : decode cX0_blank 40 = .ok (.getfield 17, 3) := by decide +kernel
theorem dX0_blank_43 : decode cX0_blank 43 = .ok (.invokespecial 104, 3) := by decide +kernel
theorem dX0_blank_46 : decode cX0_blank 46 = .ok (.aastore, 1) := by decide +kernel
theorem dX0_blank_47 : decode cX0_blank 47 = .ok (.iload_n 2, 1) := by decide +kernel
theorem dX0_blank_48 : decode cX0_blank 48 = .ok (.ifCond .eq 7, 3) := by decide +kernel
theorem dX0_blank_51 : decode cX0_blank 51 = .ok (.iconst 0, 1) := by decide +kernel
theorem dX0_blank_52 : decode cX0_blank 52 = .ok (.goto 4, 3) := by decide +kernel
theorem dX0_blank_55 : decode cX0_blank 55 = .ok (.iconst 1, 1) := by decide +kernel
theorem dX0_blank_56 : decode cX0_blank 56 = .ok (.ireturn, 1) := by decide +kernel
theorem dX0_isIn_0 : decode cX0_isIn 0 = .ok (.iload_n 0, 1) := by decide +kernel
theorem dX0_isIn_1 : decode cX0_isIn 1 = .ok (.ifCond .lt 12, 3) := by decide +kernel
theorem dX0_isIn_4 : decode cX0_isIn 4 = .ok (.iload_n 0, 1) := by decide +kernel
theorem dX0_isIn_5 : decode cX0_isIn 5 = .ok (.iload_n 1, 1) := by decide +kernel
theorem dX0_isIn_6 : decode cX0_isIn 6 = .ok (.if_icmp .ge 7, 3) := by decide +kernel
theorem dX0_isIn_9 : decode cX0_isIn 9 = .ok (.iconst 1, 1) := by decide +kernel
theorem dX0_isIn_10 : decode cX0_isIn 10 = .ok (.goto 4, 3) := by decide +kernel
theorem dX0_isIn_13 : decode cX0_isIn 13 = .ok (.iconst 0, 1) := by decide +kernel
theorem dX0_isIn_14 : decode cX0_isIn 14 = .ok (.ireturn, 1) := by decide +kernel
theorem dX0_lose_0 : decode cX0_lose 0 = .ok (.aload_n 0, 1) := by decide +kernel
theorem dX0_lose_1 : decode cX0_lose 1 = .ok (.iload_n 1, 1) := by decide +kernel
theorem dX0_lose_2 : decode cX0_lose 2 = .ok (.invokevirtual 105, 3) := by decide +kernel
theorem dX0_lose_5 : decode cX0_lose 5 = .ok (.astore_n 2, 1) := by decide +kernel
theorem dX0_lose_6 : decode cX0_lose 6 = .ok (.aload_n 0, 1) := by decide +kernel
theorem dX0_lose_7 : decode cX0_lose 7 = .ok (.getfield 13, 3) := by decide +kernel
theorem dX0_lose_10 : decode cX0_lose 10 = .ok (.iload_n 1, 1) := by decide +kernel
theorem dX0_lose_11 : decode cX0_lose 11 = .ok (.aconst_null, 1) := by decide +kernel
theorem dX0_lose_12 : decode cX0_lose 12 = .ok (.aastore, 1) := by decide +kernel
theorem dX0_lose_13 : decode cX0_lose 13 = .ok (.iconst 1, 1) := by decide +kernel
theorem dX0_lose_14 : decode cX0_lose 14 = .ok (.ireturn, 1) := by decide +kernel
theorem dX0_lose_15 : decode cX0_lose 15 = .ok (.astore_n 2, 1) := by decide +kernel
theorem dX0_lose_16 : decode cX0_lose 16 = .ok (.aload_n 0, 1) := by decide +kernel
theorem dX0_lose_17 : decode cX0_lose 17 = .ok (.aload_n 2, 1) := by decide +kernel
theorem dX0_lose_18 : decode cX0_lose 18 = .ok (.getfield 109, 3) := by decide +kernel
theorem dX0_lose_21 : decode cX0_lose 21 = .ok (.invokevirtual 97, 3) := by decide +kernel
theorem dX0_lose_24 : decode cX0_lose 24 = .ok (.ireturn, 1) := by decide +kernel
theorem dX0_camAt_0 : decode cX0_camAt 0 = .ok (.iload_n 1, 1) := by decide +kernel
theorem dX0_camAt_1 : decode cX0_camAt 1 = .ok (.bipush 12, 2) := by decide +kernel
theorem dX0_camAt_3 : decode cX0_camAt 3 = .ok (.invokestatic 3, 3) := by decide +kernel
theorem dX0_camAt_6 : decode cX0_camAt 6 = .ok (.ifCond .ne 12, 3) := by decide +kernel
theorem dX0_camAt_9 : decode cX0_camAt 9 = .ok (.new 7, 3) := by decide +kernel
theorem dX0_camAt_12 : decode cX0_camAt 12 = .ok (.dup, 1) := by decide +kernel
theorem dX0_camAt_13 : decode cX0_camAt 13 = .ok (.iconst (-1), 1) := by decide +kernel
theorem dX0_camAt_14 : decode cX0_camAt 14 = .ok (.invokespecial 9, 3) := by decide +kernel
theorem dX0_camAt_17 : decode cX0_camAt 17 = .ok (.athrow, 1) := by decide +kernel
theorem dX0_camAt_18 : decode cX0_camAt 18 = .ok (.aload_n 0, 1) := by decide +kernel
theorem dX0_camAt_19 : decode cX0_camAt 19 = .ok (.getfield 13, 3) := by decide +kernel
theorem dX0_camAt_22 : decode cX0_camAt 22 = .ok (.iload_n 1, 1) := by decide +kernel
theorem dX0_camAt_23 : decode cX0_camAt 23 = .ok (.aaload, 1) := by decide +kernel
theorem dX0_camAt_24 : decode cX0_camAt 24 = .ok (.ifnonnull 13, 3) := by decide +kernel
theorem dX0_camAt_27 : decode cX0_camAt 27 = .ok (.new 7, 3) := by decide +kernel
theorem dX0_camAt_30 : decode cX0_camAt 30 = .ok (.dup, 1) := by decide +kernel
theorem dX0_camAt_31 : decode cX0_camAt 31 = .ok (.bipush (-5), 2) := by decide +kernel
theorem dX0_camAt_33 : decode cX0_camAt 33 = .ok (.invokespecial 9, 3) := by decide +kernel
theorem dX0_camAt_36 : decode cX0_camAt 36 = .ok (.athrow, 1) := by decide +kernel
theorem dX0_camAt_37 : decode cX0_camAt 37 = .ok (.aload_n 0, 1) := by decide +kernel
theorem dX0_camAt_38 : decode cX0_camAt 38 = .ok (.getfield 13, 3) := by decide +kernel
theorem dX0_camAt_41 : decode cX0_camAt 41 = .ok (.iload_n 1, 1) := by decide +kernel
theorem dX0_camAt_42 : decode cX0_camAt 42 = .ok (.aaload, 1) := by decide +kernel
theorem dX0_camAt_43 : decode cX0_camAt 43 = .ok (.areturn, 1) := by decide +kernel
theorem dX0_cutAt_0 : decode cX0_cutAt 0 = .ok (.aload_n 0, 1) := by decide +kernel
theorem dX0_cutAt_1 : decode cX0_cutAt 1 = .ok (.iload_n 1, 1) := by decide +kernel
theorem dX0_cutAt_2 : decode cX0_cutAt 2 = .ok (.invokevirtual 105, 3) := by decide +kernel
theorem dX0_cutAt_5 : decode cX0_cutAt 5 = .ok (.astore 4, 2) := by decide +kernel
theorem dX0_cutAt_7 : decode cX0_cutAt 7 = .ok (.aload_n 0, 1) := by decide +kernel
theorem dX0_cutAt_8 : decode cX0_cutAt 8 = .ok (.iload_n 2, 1) := by decide +kernel
theorem dX0_cutAt_9 : decode cX0_cutAt 9 = .ok (.iconst 1, 1) := by decide +kernel
theorem dX0_cutAt_10 : decode cX0_cutAt 10 = .ok (.invokevirtual 112, 3) := by decide +kernel
theorem dX0_cutAt_13 : decode cX0_cutAt 13 = .ok (.iload_n 3, 1) := by decide +kernel
theorem dX0_cutAt_14 : decode cX0_cutAt 14 = .ok (.iconst 0, 1) := by decide +kernel
theorem dX0_cutAt_15 : decode cX0_cutAt 15 = .ok (.bipush 9, 2) := by decide +kernel
theorem dX0_cutAt_17 : decode cX0_cutAt 17 = .ok (.invokestatic 93, 3) := by decide +kernel
theorem dX0_cutAt_20 : decode cX0_cutAt 20 = .ok (.istore 5, 2) := by decide +kernel
theorem dX0_cutAt_22 : decode cX0_cutAt 22 = .ok (.iload 5, 2) := by decide +kernel
theorem dX0_cutAt_24 : decode cX0_cutAt 24 = .ok (.ifCond .eq 13, 3) := by decide +kernel
theorem dX0_cutAt_27 : decode cX0_cutAt 27 = .ok (.new 7, 3) := by decide +kernel
theorem dX0_cutAt_30 : decode cX0_cutAt 30 = .ok (.dup, 1) := by decide +kernel
theorem dX0_cutAt_31 : decode cX0_cutAt 31 = .ok (.iload 5, 2) := by decide +kernel
theorem dX0_cutAt_33 : decode cX0_cutAt 33 = .ok (.invokespecial 9, 3) := by decide +kernel
theorem dX0_cutAt_36 : decode cX0_cutAt 36 = .ok (.athrow, 1) := by decide +kernel
theorem dX0_cutAt_37 : decode cX0_cutAt 37 = .ok (.aload 4, 2) := by decide +kernel
theorem dX0_cutAt_39 : decode cX0_cutAt 39 = .ok (.getfield 116, 3) := by decide +kernel
theorem dX0_cutAt_42 : decode cX0_cutAt 42 = .ok (.iload_n 2, 1) := by decide +kernel
theorem dX0_cutAt_43 : decode cX0_cutAt 43 = .ok (.iaload, 1) := by decide +kernel
theorem dX0_cutAt_44 : decode cX0_cutAt 44 = .ok (.istore 6, 2) := by decide +kernel
theorem dX0_cutAt_46 : decode cX0_cutAt 46 = .ok (.aload 4, 2) := by decide +kernel
theorem dX0_cutAt_48 : decode cX0_cutAt 48 = .ok (.getfield 116, 3) := by decide +kernel
theorem dX0_cutAt_51 : decode cX0_cutAt 51 = .ok (.iload_n 2, 1) := by decide +kernel
theorem dX0_cutAt_52 : decode cX0_cutAt 52 = .ok (.iload_n 3, 1) := by decide +kernel
theorem dX0_cutAt_53 : decode cX0_cutAt 53 = .ok (.iastore, 1) := by decide +kernel
theorem dX0_cutAt_54 : decode cX0_cutAt 54 = .ok (.iload 6, 2) := by decide +kernel
theorem dX0_cutAt_56 : decode cX0_cutAt 56 = .ok (.ireturn, 1) := by decide +kernel
theorem dX0_cutAt_57 : decode cX0_cutAt 57 = .ok (.astore 4, 2) := by decide +kernel
theorem dX0_cutAt_59 : decode cX0_cutAt 59 = .ok (.aload_n 0, 1) := by decide +kernel
theorem dX0_cutAt_60 : decode cX0_cutAt 60 = .ok (.aload 4, 2) := by decide +kernel
theorem dX0_cutAt_62 : decode cX0_cutAt 62 = .ok (.getfield 109, 3) := by decide +kernel
theorem dX0_cutAt_65 : decode cX0_cutAt 65 = .ok (.invokevirtual 97, 3) := by decide +kernel
theorem dX0_cutAt_68 : decode cX0_cutAt 68 = .ok (.ireturn, 1) := by decide +kernel
theorem dX0_steps_0 : decode cX0_steps 0 = .ok (.iload_n 2, 1) := by decide +kernel
theorem dX0_steps_1 : decode cX0_steps 1 = .ok (.ifCond .lt 17, 3) := by decide +kernel
theorem dX0_steps_4 : decode cX0_steps 4 = .ok (.iload_n 1, 1) := by decide +kernel
theorem dX0_steps_5 : decode cX0_steps 5 = .ok (.ifCond .lt 13, 3) := by decide +kernel
theorem dX0_steps_8 : decode cX0_steps 8 = .ok (.iload_n 1, 1) := by decide +kernel
theorem dX0_steps_9 : decode cX0_steps 9 = .ok (.aload_n 0, 1) := by decide +kernel
theorem dX0_steps_10 : decode cX0_steps 10 = .ok (.getfield 17, 3) := by decide +kernel
theorem dX0_steps_13 : decode cX0_steps 13 = .ok (.iload_n 2, 1) := by decide +kernel
theorem dX0_steps_14 : decode cX0_steps 14 = .ok (.isub, 1) := by decide +kernel
theorem dX0_steps_15 : decode cX0_steps 15 = .ok (.if_icmp .le 13, 3) := by decide +kernel
theorem dX0_steps_18 : decode cX0_steps 18 = .ok (.new 7, 3) := by decide +kernel
theorem dX0_steps_21 : decode cX0_steps 21 = .ok (.dup, 1) := by decide +kernel
theorem dX0_steps_22 : decode cX0_steps 22 = .ok (.bipush (-7), 2) := by decide +kernel
theorem dX0_steps_24 : decode cX0_steps 24 = .ok (.invokespecial 9, 3) := by decide +kernel
theorem dX0_steps_27 : decode cX0_steps 27 = .ok (.athrow, 1) := by decide +kernel
theorem dX0_steps_28 : decode cX0_steps 28 = .ok (.return_, 1) := by decide +kernel
theorem dX0_height_0 : decode cX0_height 0 = .ok (.aload_n 0, 1) := by decide +kernel
theorem dX0_height_1 : decode cX0_height 1 = .ok (.iload_n 1, 1) := by decide +kernel
theorem dX0_height_2 : decode cX0_height 2 = .ok (.invokevirtual 105, 3) := by decide +kernel
theorem dX0_height_5 : decode cX0_height 5 = .ok (.astore_n 3, 1) := by decide +kernel
theorem dX0_height_6 : decode cX0_height 6 = .ok (.aload_n 0, 1) := by decide +kernel
theorem dX0_height_7 : decode cX0_height 7 = .ok (.iload_n 2, 1) := by decide +kernel
theorem dX0_height_8 : decode cX0_height 8 = .ok (.iconst 1, 1) := by decide +kernel
theorem dX0_height_9 : decode cX0_height 9 = .ok (.invokevirtual 112, 3) := by decide +kernel
theorem dX0_height_12 : decode cX0_height 12 = .ok (.aload_n 3, 1) := by decide +kernel
theorem dX0_height_13 : decode cX0_height 13 = .ok (.iload_n 2, 1) := by decide +kernel
theorem dX0_height_14 : decode cX0_height 14 = .ok (.invokevirtual 119, 3) := by decide +kernel
theorem dX0_height_17 : decode cX0_height 17 = .ok (.ireturn, 1) := by decide +kernel
theorem dX0_height_18 : decode cX0_height 18 = .ok (.astore_n 3, 1) := by decide +kernel
theorem dX0_height_19 : decode cX0_height 19 = .ok (.aload_n 0, 1) := by decide +kernel
theorem dX0_height_20 : decode cX0_height 20 = .ok (.aload_n 3, 1) := by decide +kernel
theorem dX0_height_21 : decode cX0_height 21 = .ok (.getfield 109, 3) := by decide +kernel
theorem dX0_height_24 : decode cX0_height 24 = .ok (.invokevirtual 97, 3) := by decide +kernel
theorem dX0_height_27 : decode cX0_height 27 = .ok (.ireturn, 1) := by decide +kernel
theorem dX0_copy_0 : decode cX0_copy 0 = .ok (.iload_n 1, 1) := by decide +kernel
theorem dX0_copy_1 : decode cX0_copy 1 = .ok (.bipush 12, 2) := by decide +kernel
theorem dX0_copy_3 : decode cX0_copy 3 = .ok (.invokestatic 3, 3) := by decide +kernel
theorem dX0_copy_6 : decode cX0_copy 6 = .ok (.ifCond .eq 12, 3) := by decide +kernel
theorem dX0_copy_9 : decode cX0_copy 9 = .ok (.iload_n 3, 1) := by decide +kernel
theorem dX0_copy_10 : decode cX0_copy 10 = .ok (.bipush 12, 2) := by decide +kernel
theorem dX0_copy_12 : decode cX0_copy 12 = .ok (.invokestatic 3, 3) := by decide +kernel
theorem dX0_copy_15 : decode cX0_copy 15 = .ok (.ifCond .ne 9, 3) := by decide +kernel
theorem dX0_copy_18 : decode cX0_copy 18 = .ok (.aload_n 0, 1) := by decide +kernel
theorem dX0_copy_19 : decode cX0_copy 19 = .ok (.iconst (-1), 1) := by decide +kernel
theorem dX0_copy_20 : decode cX0_copy 20 = .ok (.invokevirtual 97, 3) := by decide +kernel
theorem dX0_copy_23 : decode cX0_copy 23 = .ok (.ireturn, 1) := by decide +kernel
theorem dX0_copy_24 : decode cX0_copy 24 = .ok (.aload_n 0, 1) := by decide +kernel
theorem dX0_copy_25 : decode cX0_copy 25 = .ok (.iload_n 1, 1) := by decide +kernel
theorem dX0_copy_26 : decode cX0_copy 26 = .ok (.invokevirtual 105, 3) := by decide +kernel
theorem dX0_copy_29 : decode cX0_copy 29 = .ok (.astore 6, 2) := by decide +kernel
theorem dX0_copy_31 : decode cX0_copy 31 = .ok (.aload_n 0, 1) := by decide +kernel
theorem dX0_copy_32 : decode cX0_copy 32 = .ok (.iload_n 3, 1) := by decide +kernel
theorem dX0_copy_33 : decode cX0_copy 33 = .ok (.invokevirtual 105, 3) := by decide +kernel
theorem dX0_copy_36 : decode cX0_copy 36 = .ok (.astore 7, 2) := by decide +kernel
theorem dX0_copy_38 : decode cX0_copy 38 = .ok (.aload_n 0, 1) := by decide +kernel
theorem dX0_copy_39 : decode cX0_copy 39 = .ok (.iload_n 2, 1) := by decide +kernel
theorem dX0_copy_40 : decode cX0_copy 40 = .ok (.iload 5, 2) := by decide +kernel
theorem dX0_copy_42 : decode cX0_copy 42 = .ok (.invokevirtual 112, 3) := by decide +kernel
theorem dX0_copy_45 : decode cX0_copy 45 = .ok (.aload_n 0, 1) := by decide +kernel
theorem dX0_copy_46 : decode cX0_copy 46 = .ok (.iload 4, 2) := by decide +kernel
theorem dX0_copy_48 : decode cX0_copy 48 = .ok (.iload 5, 2) := by decide +kernel
theorem dX0_copy_50 : decode cX0_copy 50 = .ok (.invokevirtual 112, 3) := by decide +kernel
theorem dX0_copy_53 : decode cX0_copy 53 = .ok (.aload 6, 2) := by decide +kernel
theorem dX0_copy_55 : decode cX0_copy 55 = .ok (.getfield 116, 3) := by decide +kernel
theorem dX0_copy_58 : decode cX0_copy 58 = .ok (.iload_n 2, 1) := by decide +kernel
theorem dX0_copy_59 : decode cX0_copy 59 = .ok (.aload 7, 2) := by decide +kernel
theorem dX0_copy_61 : decode cX0_copy 61 = .ok (.getfield 116, 3) := by decide +kernel
theorem dX0_copy_64 : decode cX0_copy 64 = .ok (.iload 4, 2) := by decide +kernel
theorem dX0_copy_66 : decode cX0_copy 66 = .ok (.iload 5, 2) := by decide +kernel
theorem dX0_copy_68 : decode cX0_copy 68 = .ok (.invokestatic 122, 3) := by decide +kernel
theorem dX0_copy_71 : decode cX0_copy 71 = .ok (.iload 5, 2) := by decide +kernel
theorem dX0_copy_73 : decode cX0_copy 73 = .ok (.ireturn, 1) := by decide +kernel
theorem dX0_copy_74 : decode cX0_copy 74 = .ok (.astore 6, 2) := by decide +kernel
theorem dX0_copy_76 : decode cX0_copy 76 = .ok (.aload_n 0, 1) := by decide +kernel
theorem dX0_copy_77 : decode cX0_copy 77 = .ok (.aload 6, 2) := by decide +kernel
theorem dX0_copy_79 : decode cX0_copy 79 = .ok (.getfield 109, 3) := by decide +kernel
theorem dX0_copy_82 : decode cX0_copy 82 = .ok (.invokevirtual 97, 3) := by decide +kernel
theorem dX0_copy_85 : decode cX0_copy 85 = .ok (.ireturn, 1) := by decide +kernel
theorem dX0_turn_0 : decode cX0_turn 0 = .ok (.aload_n 0, 1) := by decide +kernel
theorem dX0_turn_1 : decode cX0_turn 1 = .ok (.iload_n 1, 1) := by decide +kernel
theorem dX0_turn_2 : decode cX0_turn 2 = .ok (.invokevirtual 105, 3) := by decide +kernel
theorem dX0_turn_5 : decode cX0_turn 5 = .ok (.astore_n 3, 1) := by decide +kernel
theorem dX0_turn_6 : decode cX0_turn 6 = .ok (.aload_n 0, 1) := by decide +kernel
theorem dX0_turn_7 : decode cX0_turn 7 = .ok (.iload_n 2, 1) := by decide +kernel
theorem dX0_turn_8 : decode cX0_turn 8 = .ok (.iconst 1, 1) := by decide +kernel
theorem dX0_turn_9 : decode cX0_turn 9 = .ok (.invokevirtual 112, 3) := by decide +kernel
theorem dX0_turn_12 : decode cX0_turn 12 = .ok (.new 60, 3) := by decide +kernel
theorem dX0_turn_15 : decode cX0_turn 15 = .ok (.dup, 1) := by decide +kernel
theorem dX0_turn_16 : decode cX0_turn 16 = .ok (.aload_n 0, 1) := by decide +kernel
theorem dX0_turn_17 : decode cX0_turn 17 = .ok (.getfield 17, 3) := by decide +kernel
theorem dX0_turn_20 : decode cX0_turn 20 = .ok (.invokespecial 104, 3) := by decide +kernel
theorem dX0_turn_23 : decode cX0_turn 23 = .ok (.astore 4, 2) := by decide +kernel
theorem dX0_turn_25 : decode cX0_turn 25 = .ok (.iconst 0, 1) := by decide +kernel
theorem dX0_turn_26 : decode cX0_turn 26 = .ok (.istore 5, 2) := by decide +kernel
theorem dX0_turn_28 : decode cX0_turn 28 = .ok (.iload 5, 2) := by decide +kernel
theorem dX0_turn_30 : decode cX0_turn 30 = .ok (.aload_n 0, 1) := by decide +kernel
theorem dX0_turn_31 : decode cX0_turn 31 = .ok (.getfield 17, 3) := by decide +kernel
theorem dX0_turn_34 : decode cX0_turn 34 = .ok (.if_icmp .ge 30, 3) := by decide +kernel
theorem dX0_turn_37 : decode cX0_turn 37 = .ok (.aload 4, 2) := by decide +kernel
theorem dX0_turn_39 : decode cX0_turn 39 = .ok (.getfield 116, 3) := by decide +kernel
theorem dX0_turn_42 : decode cX0_turn 42 = .ok (.iload 5, 2) := by decide +kernel
theorem dX0_turn_44 : decode cX0_turn 44 = .ok (.iload_n 2, 1) := by decide +kernel
theorem dX0_turn_45 : decode cX0_turn 45 = .ok (.iadd, 1) := by decide +kernel
theorem dX0_turn_46 : decode cX0_turn 46 = .ok (.aload_n 0, 1) := by decide +kernel
theorem dX0_turn_47 : decode cX0_turn 47 = .ok (.getfield 17, 3) := by decide +kernel
theorem dX0_turn_50 : decode cX0_turn 50 = .ok (.irem, 1) := by decide +kernel
theorem dX0_turn_51 : decode cX0_turn 51 = .ok (.aload_n 3, 1) := by decide +kernel
theorem dX0_turn_52 : decode cX0_turn 52 = .ok (.iload 5, 2) := by decide +kernel
theorem dX0_turn_54 : decode cX0_turn 54 = .ok (.invokevirtual 119, 3) := by decide +kernel
theorem dX0_turn_57 : decode cX0_turn 57 = .ok (.iastore, 1) := by decide +kernel
theorem dX0_turn_58 : decode cX0_turn 58 = .ok (.iinc 5 1, 3) := by decide +kernel
theorem dX0_turn_61 : decode cX0_turn 61 = .ok (.goto (-33), 3) := by decide +kernel
theorem dX0_turn_64 : decode cX0_turn 64 = .ok (.aload_n 0, 1) := by decide +kernel
theorem dX0_turn_65 : decode cX0_turn 65 = .ok (.getfield 13, 3) := by decide +kernel
theorem dX0_turn_68 : decode cX0_turn 68 = .ok (.iload_n 1, 1) := by decide +kernel
theorem dX0_turn_69 : decode cX0_turn 69 = .ok (.aload 4, 2) := by decide +kernel
theorem dX0_turn_71 : decode cX0_turn 71 = .ok (.aastore, 1) := by decide +kernel
theorem dX0_turn_72 : decode cX0_turn 72 = .ok (.iconst 1, 1) := by decide +kernel
theorem dX0_turn_73 : decode cX0_turn 73 = .ok (.ireturn, 1) := by decide +kernel
theorem dX0_turn_74 : decode cX0_turn 74 = .ok (.astore_n 3, 1) := by decide +kernel
theorem dX0_turn_75 : decode cX0_turn 75 = .ok (.aload_n 0, 1) := by decide +kernel
theorem dX0_turn_76 : decode cX0_turn 76 = .ok (.aload_n 3, 1) := by decide +kernel
theorem dX0_turn_77 : decode cX0_turn 77 = .ok (.getfield 109, 3) := by decide +kernel
theorem dX0_turn_80 : decode cX0_turn 80 = .ok (.invokevirtual 97, 3) := by decide +kernel
theorem dX0_turn_83 : decode cX0_turn 83 = .ok (.ireturn, 1) := by decide +kernel
theorem dX0_blanks_0 : decode cX0_blanks 0 = .ok (.aload_n 0, 1) := by decide +kernel
theorem dX0_blanks_1 : decode cX0_blanks 1 = .ok (.bipush 12, 2) := by decide +kernel
theorem dX0_blanks_3 : decode cX0_blanks 3 = .ok (.invokevirtual 135, 3) := by decide +kernel
theorem dX0_blanks_6 : decode cX0_blanks 6 = .ok (.ireturn, 1) := by decide +kernel
theorem dX0_blanksTo_0 : decode cX0_blanksTo 0 = .ok (.iconst 0, 1) := by decide +kernel
theorem dX0_blanksTo_1 : decode cX0_blanksTo 1 = .ok (.istore_n 2, 1) := by decide +kernel
theorem dX0_blanksTo_2 : decode cX0_blanksTo 2 = .ok (.iconst 0, 1) := by decide +kernel
theorem dX0_blanksTo_3 : decode cX0_blanksTo 3 = .ok (.istore_n 3, 1) := by decide +kernel
theorem dX0_blanksTo_4 : decode cX0_blanksTo 4 = .ok (.iload_n 3, 1) := by decide +kernel
theorem dX0_blanksTo_5 : decode cX0_blanksTo 5 = .ok (.iload_n 1, 1) := by decide +kernel
theorem dX0_blanksTo_6 : decode cX0_blanksTo 6 = .ok (.if_icmp .ge 35, 3) := by decide +kernel
theorem dX0_blanksTo_9 : decode cX0_blanksTo 9 = .ok (.iload_n 2, 1) := by decide +kernel
theorem dX0_blanksTo_10 : decode cX0_blanksTo 10 = .ok (.aload_n 0, 1) := by decide +kernel
theorem dX0_blanksTo_11 : decode cX0_blanksTo 11 = .ok (.getfield 13, 3) := by decide +kernel
theorem dX0_blanksTo_14 : decode cX0_blanksTo 14 = .ok (.iload_n 3, 1) := by decide +kernel
theorem dX0_blanksTo_15 : decode cX0_blanksTo 15 = .ok (.aaload, 1) := by decide +kernel
theorem dX0_blanksTo_16 : decode cX0_blanksTo 16 = .ok (.ifnull 16, 3) := by decide +kernel
theorem dX0_blanksTo_19 : decode cX0_blanksTo 19 = .ok (.aload_n 0, 1) := by decide +kernel
theorem dX0_blanksTo_20 : decode cX0_blanksTo 20 = .ok (.iload_n 3, 1) := by decide +kernel
theorem dX0_blanksTo_21 : decode cX0_blanksTo 21 = .ok (.invokevirtual 132, 3) := by decide +kernel
theorem dX0_blanksTo_24 : decode cX0_blanksTo 24 = .ok (.iload_n 3, 1) := by decide +kernel
theorem dX0_blanksTo_25 : decode cX0_blanksTo 25 = .ok (.if_icmp .ne 7, 3) := by decide +kernel
theorem dX0_blanksTo_28 : decode cX0_blanksTo 28 = .ok (.iconst 1, 1) := by decide +kernel
theorem dX0_blanksTo_29 : decode cX0_blanksTo 29 = .ok (.goto 4, 3) := by decide +kernel
theorem dX0_blanksTo_32 : decode cX0_blanksTo 32 = .ok (.iconst 0, 1) := by decide +kernel
theorem dX0_blanksTo_33 : decode cX0_blanksTo 33 = .ok (.iadd, 1) := by decide +kernel
theorem dX0_blanksTo_34 : decode cX0_blanksTo 34 = .ok (.istore_n 2, 1) := by decide +kernel
theorem dX0_blanksTo_35 : decode cX0_blanksTo 35 = .ok (.iinc 3 1, 3) := by decide +kernel
theorem dX0_blanksTo_38 : decode cX0_blanksTo 38 = .ok (.goto (-34), 3) := by decide +kernel
theorem dX0_blanksTo_41 : decode cX0_blanksTo 41 = .ok (.iload_n 2, 1) := by decide +kernel
theorem dX0_blanksTo_42 : decode cX0_blanksTo 42 = .ok (.ireturn, 1) := by decide +kernel
theorem dX0_leastOf_0 : decode cX0_leastOf 0 = .ok (.iconst 0, 1) := by decide +kernel
theorem dX0_leastOf_1 : decode cX0_leastOf 1 = .ok (.istore_n 2, 1) := by decide +kernel
theorem dX0_leastOf_2 : decode cX0_leastOf 2 = .ok (.aload_n 0, 1) := by decide +kernel
theorem dX0_leastOf_3 : decode cX0_leastOf 3 = .ok (.getfield 13, 3) := by decide +kernel
theorem dX0_leastOf_6 : decode cX0_leastOf 6 = .ok (.iload_n 2, 1) := by decide +kernel
theorem dX0_leastOf_7 : decode cX0_leastOf 7 = .ok (.aaload, 1) := by decide +kernel
theorem dX0_leastOf_8 : decode cX0_leastOf 8 = .ok (.ifnull 21, 3) := by decide +kernel
theorem dX0_leastOf_11 : decode cX0_leastOf 11 = .ok (.aload_n 0, 1) := by decide +kernel
theorem dX0_leastOf_12 : decode cX0_leastOf 12 = .ok (.getfield 13, 3) := by decide +kernel
theorem dX0_leastOf_15 : decode cX0_leastOf 15 = .ok (.iload_n 2, 1) := by decide +kernel
theorem dX0_leastOf_16 : decode cX0_leastOf 16 = .ok (.aaload, 1) := by decide +kernel
theorem dX0_leastOf_17 : decode cX0_leastOf 17 = .ok (.aload_n 0, 1) := by decide +kernel
theorem dX0_leastOf_18 : decode cX0_leastOf 18 = .ok (.getfield 13, 3) := by decide +kernel
theorem dX0_leastOf_21 : decode cX0_leastOf 21 = .ok (.iload_n 1, 1) := by decide +kernel
theorem dX0_leastOf_22 : decode cX0_leastOf 22 = .ok (.aaload, 1) := by decide +kernel
theorem dX0_leastOf_23 : decode cX0_leastOf 23 = .ok (.invokevirtual 128, 3) := by decide +kernel
theorem dX0_leastOf_26 : decode cX0_leastOf 26 = .ok (.ifCond .ge 9, 3) := by decide +kernel
theorem dX0_leastOf_29 : decode cX0_leastOf 29 = .ok (.iinc 2 1, 3) := by decide +kernel
theorem dX0_leastOf_32 : decode cX0_leastOf 32 = .ok (.goto (-30), 3) := by decide +kernel
theorem dX0_leastOf_35 : decode cX0_leastOf 35 = .ok (.iload_n 2, 1) := by decide +kernel
theorem dX0_leastOf_36 : decode cX0_leastOf 36 = .ok (.ireturn, 1) := by decide +kernel
theorem dX0_camOf_0 : decode cX0_camOf 0 = .ok (.aload_n 0, 1) := by decide +kernel
theorem dX0_camOf_1 : decode cX0_camOf 1 = .ok (.iload_n 1, 1) := by decide +kernel
theorem dX0_camOf_2 : decode cX0_camOf 2 = .ok (.invokevirtual 105, 3) := by decide +kernel
theorem dX0_camOf_5 : decode cX0_camOf 5 = .ok (.astore_n 3, 1) := by decide +kernel
theorem dX0_camOf_6 : decode cX0_camOf 6 = .ok (.aload_n 0, 1) := by decide +kernel
theorem dX0_camOf_7 : decode cX0_camOf 7 = .ok (.iload_n 1, 1) := by decide +kernel
theorem dX0_camOf_8 : decode cX0_camOf 8 = .ok (.invokevirtual 132, 3) := by decide +kernel
theorem dX0_camOf_11 : decode cX0_camOf 11 = .ok (.istore 4, 2) := by decide +kernel
theorem dX0_camOf_13 : decode cX0_camOf 13 = .ok (.iload_n 2, 1) := by decide +kernel
theorem dX0_camOf_14 : decode cX0_camOf 14 = .ok (.tableswitch 50 0 2 #[26, 33, 45], 26) := by decide +kernel
theorem dX0_camOf_40 : decode cX0_camOf 40 = .ok (.aload_n 0, 1) := by decide +kernel
theorem dX0_camOf_41 : decode cX0_camOf 41 = .ok (.iload 4, 2) := by decide +kernel
theorem dX0_camOf_43 : decode cX0_camOf 43 = .ok (.invokevirtual 135, 3) := by decide +kernel
theorem dX0_camOf_46 : decode cX0_camOf 46 = .ok (.ireturn, 1) := by decide +kernel
theorem dX0_camOf_47 : decode cX0_camOf 47 = .ok (.aload_n 0, 1) := by decide +kernel
theorem dX0_camOf_48 : decode cX0_camOf 48 = .ok (.getfield 13, 3) := by decide +kernel
theorem dX0_camOf_51 : decode cX0_camOf 51 = .ok (.iload 4, 2) := by decide +kernel
theorem dX0_camOf_53 : decode cX0_camOf 53 = .ok (.aaload, 1) := by decide +kernel
theorem dX0_camOf_54 : decode cX0_camOf 54 = .ok (.aload_n 3, 1) := by decide +kernel
theorem dX0_camOf_55 : decode cX0_camOf 55 = .ok (.invokevirtual 128, 3) := by decide +kernel
theorem dX0_camOf_58 : decode cX0_camOf 58 = .ok (.ireturn, 1) := by decide +kernel
theorem dX0_camOf_59 : decode cX0_camOf 59 = .ok (.aload_n 3, 1) := by decide +kernel
theorem dX0_camOf_60 : decode cX0_camOf 60 = .ok (.invokevirtual 138, 3) := by decide +kernel
theorem dX0_camOf_63 : decode cX0_camOf 63 = .ok (.ireturn, 1) := by decide +kernel
theorem dX0_camOf_64 : decode cX0_camOf 64 = .ok (.new 7, 3) := by decide +kernel
theorem dX0_camOf_67 : decode cX0_camOf 67 = .ok (.dup, 1) := by decide +kernel
theorem dX0_camOf_68 : decode cX0_camOf 68 = .ok (.bipush (-2), 2) := by decide +kernel
theorem dX0_camOf_70 : decode cX0_camOf 70 = .ok (.invokespecial 9, 3) := by decide +kernel
theorem dX0_camOf_73 : decode cX0_camOf 73 = .ok (.athrow, 1) := by decide +kernel
theorem dX0_camOf_74 : decode cX0_camOf 74 = .ok (.astore_n 3, 1) := by decide +kernel
theorem dX0_camOf_75 : decode cX0_camOf 75 = .ok (.aload_n 0, 1) := by decide +kernel
theorem dX0_camOf_76 : decode cX0_camOf 76 = .ok (.aload_n 3, 1) := by decide +kernel
theorem dX0_camOf_77 : decode cX0_camOf 77 = .ok (.getfield 109, 3) := by decide +kernel
theorem dX0_camOf_80 : decode cX0_camOf 80 = .ok (.invokevirtual 97, 3) := by decide +kernel
theorem dX0_camOf_83 : decode cX0_camOf 83 = .ok (.ireturn, 1) := by decide +kernel
theorem dX0_letter_0 : decode cX0_letter 0 = .ok (.iload_n 1, 1) := by decide +kernel
theorem dX0_letter_1 : decode cX0_letter 1 = .ok (.bipush 10, 2) := by decide +kernel
theorem dX0_letter_3 : decode cX0_letter 3 = .ok (.invokestatic 3, 3) := by decide +kernel
theorem dX0_letter_6 : decode cX0_letter 6 = .ok (.ifCond .eq 31, 3) := by decide +kernel
theorem dX0_letter_9 : decode cX0_letter 9 = .ok (.iload_n 2, 1) := by decide +kernel
theorem dX0_letter_10 : decode cX0_letter 10 = .ok (.bipush 12, 2) := by decide +kernel
theorem dX0_letter_12 : decode cX0_letter 12 = .ok (.invokestatic 3, 3) := by decide +kernel
theorem dX0_letter_15 : decode cX0_letter 15 = .ok (.ifCond .eq 22, 3) := by decide +kernel
theorem dX0_letter_18 : decode cX0_letter 18 = .ok (.iload_n 3, 1) := by decide +kernel
theorem dX0_letter_19 : decode cX0_letter 19 = .ok (.bipush 12, 2) := by decide +kernel
theorem dX0_letter_21 : decode cX0_letter 21 = .ok (.invokestatic 3, 3) := by decide +kernel
theorem dX0_letter_24 : decode cX0_letter 24 = .ok (.ifCond .eq 13, 3) := by decide +kernel
theorem dX0_letter_27 : decode cX0_letter 27 = .ok (.iload 4, 2) := by decide +kernel
theorem dX0_letter_29 : decode cX0_letter 29 = .ok (.bipush 12, 2) := by decide +kernel
theorem dX0_letter_31 : decode cX0_letter 31 = .ok (.invokestatic 3, 3) := by decide +kernel
theorem dX0_letter_34 : decode cX0_letter 34 = .ok (.ifCond .ne 9, 3) := by decide +kernel
theorem dX0_letter_37 : decode cX0_letter 37 = .ok (.aload_n 0, 1) := by decide +kernel
theorem dX0_letter_38 : decode cX0_letter 38 = .ok (.iconst (-1), 1) := by decide +kernel
theorem dX0_letter_39 : decode cX0_letter 39 = .ok (.invokevirtual 97, 3) := by decide +kernel
theorem dX0_letter_42 : decode cX0_letter 42 = .ok (.ireturn, 1) := by decide +kernel
theorem dX0_letter_43 : decode cX0_letter 43 = .ok (.aload_n 0, 1) := by decide +kernel
theorem dX0_letter_44 : decode cX0_letter 44 = .ok (.getfield 35, 3) := by decide +kernel
theorem dX0_letter_47 : decode cX0_letter 47 = .ok (.iload_n 1, 1) := by decide +kernel
theorem dX0_letter_48 : decode cX0_letter 48 = .ok (.aaload, 1) := by decide +kernel
theorem dX0_letter_49 : decode cX0_letter 49 = .ok (.iload_n 2, 1) := by decide +kernel
theorem dX0_letter_50 : decode cX0_letter 50 = .ok (.putfield 21, 3) := by decide +kernel
theorem dX0_letter_53 : decode cX0_letter 53 = .ok (.aload_n 0, 1) := by decide +kernel
theorem dX0_letter_54 : decode cX0_letter 54 = .ok (.getfield 35, 3) := by decide +kernel
theorem dX0_letter_57 : decode cX0_letter 57 = .ok (.iload_n 1, 1) := by decide +kernel
theorem dX0_letter_58 : decode cX0_letter 58 = .ok (.aaload, 1) := by decide +kernel
theorem dX0_letter_59 : decode cX0_letter 59 = .ok (.iload_n 3, 1) := by decide +kernel
theorem dX0_letter_60 : decode cX0_letter 60 = .ok (.putfield 26, 3) := by decide +kernel
theorem dX0_letter_63 : decode cX0_letter 63 = .ok (.aload_n 0, 1) := by decide +kernel
theorem dX0_letter_64 : decode cX0_letter 64 = .ok (.getfield 35, 3) := by decide +kernel
theorem dX0_letter_67 : decode cX0_letter 67 = .ok (.iload_n 1, 1) := by decide +kernel
theorem dX0_letter_68 : decode cX0_letter 68 = .ok (.aaload, 1) := by decide +kernel
theorem dX0_letter_69 : decode cX0_letter 69 = .ok (.iload 4, 2) := by decide +kernel
theorem dX0_letter_71 : decode cX0_letter 71 = .ok (.putfield 29, 3) := by decide +kernel
