/-! CamFiguresModel -/
set_option maxRecDepth 100000
def RX4 : String := "CamFiguresModel"
def TX4 : u_T := fun k => match k with
  | 0 => ("CamFiguresModel", "length", "I", false)
  | 1 => ("CamFiguresModel", "isThere", "[Z", true)
  | 2 => ("CamFiguresModel", "cam", "[I", true)
  | 3 => ("CamFiguresModel", "across", "[I", true)
  | 4 => ("CamFiguresModel", "up", "[I", true)
  | 5 => ("CamFiguresModel", "lift", "[I", true)
  | 6 => ("CamFiguresModel", "pegs", "I", false)
  | 7 => ("CamFiguresModel", "peg", "[I", true)
  | 8 => ("CamFiguresModel", "advance", "I", false)
  | 9 => ("CamFiguresModel", "power", "I", false)
  | 10 => ("CamFiguresModel", "pull", "I", false)
  | 11 => ("CamFiguresModel", "wear", "I", false)
  | 12 => ("CamFiguresModel", "strain", "I", false)
  | 13 => ("CamFiguresModel", "ticks", "I", false)
  | 14 => ("CamFiguresModel", "steps", "I", false)
  | 15 => ("CamFiguresModel", "shows", "I", false)
  | 16 => ("CamFiguresModel", "doneMany", "I", false)
  | 17 => ("CamFiguresModel", "paperPeg", "[I", true)
  | 18 => ("CamFiguresModel", "paperStep", "[I", true)
  | 19 => ("CamFiguresModel", "fault", "[I", true)
  | 20 => ("CamFiguresModel", "habit", "[I", true)
  | 21 => ("CamFiguresModel", "cutBy", "[I", true)
  | 22 => ("CamFiguresModel", "refused", "[I", true)
  | 23 => ("CamFiguresModel", "between", "[I", true)
  | 24 => ("CamFiguresModel", "least", "[I", true)
  | 25 => ("CamFiguresModel", "blankOf", "[I", true)
  | 26 => ("CamFiguresModel", "worn", "I", false)
  | 27 => ("CamFiguresModel", "loose", "I", false)
  | 28 => ("CamFiguresModel", "bent", "I", false)
  | 29 => ("CamFiguresModel", "markPeg", "[I", true)
  | 30 => ("CamFiguresModel", "markStep", "[I", true)
  | _ => ("CamFiguresModel", "which", "I", false)
def tyX4 : Nat → FieldType := fun k => match k with
  | 0 => .int
  | 1 => .array .boolean
  | 2 => .array .int
  | 3 => .array .int
  | 4 => .array .int
  | 5 => .array .int
  | 6 => .int
  | 7 => .array .int
  | 8 => .int
  | 9 => .int
  | 10 => .int
  | 11 => .int
  | 12 => .int
  | 13 => .int
  | 14 => .int
  | 15 => .int
  | 16 => .int
  | 17 => .array .int
  | 18 => .array .int
  | 19 => .array .int
  | 20 => .array .int
  | 21 => .array .int
  | 22 => .array .int
  | 23 => .array .int
  | 24 => .array .int
  | 25 => .array .int
  | 26 => .int
  | 27 => .int
  | 28 => .int
  | 29 => .array .int
  | 30 => .array .int
  | _ => .int
abbrev wsX40 : List Cond := u_ws RX4 TX4 32
set_option maxRecDepth 100000 in
theorem nmX4 : ∀ a, a < 32 → ∀ b, b < 32 → a ≠ b → (TX4 a).2.1 ≠ (TX4 b).2.1 := by decide +kernel
set_option maxRecDepth 100000 in
theorem tyX4_ok : ∀ k, k < 32 → parseFieldDescriptor (TX4 k).2.2.1 = some (tyX4 k) := by decide +kernel
abbrev cX4_init : ByteArray := prog_13_method_1_code
def yX4_init : MethodName := ⟨RX4, "<init>", "()V"⟩
abbrev cX4_clearPaper : ByteArray := prog_13_method_5_code
def yX4_clearPaper : MethodName := ⟨RX4, "clearPaper", "()V"⟩
abbrev cX4_length : ByteArray := prog_13_method_7_code
def yX4_length : MethodName := ⟨RX4, "length", "(I)I"⟩
abbrev cX4_refuse : ByteArray := prog_13_method_4_code
def yX4_refuse : MethodName := ⟨RX4, "refuse", "(I)I"⟩
abbrev cX4_blank : ByteArray := prog_13_method_8_code
def yX4_blank : MethodName := ⟨RX4, "blank", "(I)I"⟩
abbrev cX4_isCam : ByteArray := prog_13_method_6_code
def yX4_isCam : MethodName := ⟨RX4, "isCam", "(I)Z"⟩
abbrev cX4_in : ByteArray := prog_13_method_3_code
def yX4_in : MethodName := ⟨RX4, "in", "(III)Z"⟩
abbrev cX4_lose : ByteArray := prog_13_method_10_code
def yX4_lose : MethodName := ⟨RX4, "lose", "(I)I"⟩
abbrev cX4_lacks : ByteArray := prog_13_method_9_code
def yX4_lacks : MethodName := ⟨RX4, "lacks", "(I)I"⟩
abbrev cX4_cutAt : ByteArray := prog_13_method_11_code
def yX4_cutAt : MethodName := ⟨RX4, "cutAt", "(III)I"⟩
abbrev cX4_height : ByteArray := prog_13_method_12_code
def yX4_height : MethodName := ⟨RX4, "height", "(II)I"⟩
abbrev cX4_copy : ByteArray := prog_13_method_13_code
def yX4_copy : MethodName := ⟨RX4, "copy", "(IIIII)I"⟩
abbrev cX4_turn : ByteArray := prog_13_method_14_code
def yX4_turn : MethodName := ⟨RX4, "turn", "(II)I"⟩
abbrev cX4_blanks : ByteArray := prog_13_method_17_code
def yX4_blanks : MethodName := ⟨RX4, "blanks", "()I"⟩
abbrev cX4_findBlanks : ByteArray := prog_13_method_16_code
def yX4_findBlanks : MethodName := ⟨RX4, "findBlanks", "()I"⟩
abbrev cX4_turnedBy : ByteArray := prog_13_method_15_code
def yX4_turnedBy : MethodName := ⟨RX4, "turnedBy", "(II)I"⟩
abbrev cX4_camOf : ByteArray := prog_13_method_19_code
def yX4_camOf : MethodName := ⟨RX4, "camOf", "(II)I"⟩
abbrev cX4_smoothOf : ByteArray := prog_13_method_18_code
def yX4_smoothOf : MethodName := ⟨RX4, "smoothOf", "(I)I"⟩
abbrev cX4_letter : ByteArray := prog_13_method_20_code
def yX4_letter : MethodName := ⟨RX4, "letter", "(IIII)I"⟩
abbrev cX4_isCut : ByteArray := prog_13_method_22_code
def yX4_isCut : MethodName := ⟨RX4, "isCut", "(I)I"⟩
abbrev cX4_isCutLetter : ByteArray := prog_13_method_21_code
def yX4_isCutLetter : MethodName := ⟨RX4, "isCutLetter", "(I)Z"⟩
abbrev cX4_peg : ByteArray := prog_13_method_23_code
def yX4_peg : MethodName := ⟨RX4, "peg", "(I)I"⟩
abbrev cX4_unpeg : ByteArray := prog_13_method_24_code
def yX4_unpeg : MethodName := ⟨RX4, "unpeg", "()I"⟩
abbrev cX4_advance : ByteArray := prog_13_method_25_code
def yX4_advance : MethodName := ⟨RX4, "advance", "(I)I"⟩
abbrev cX4_pull : ByteArray := prog_13_method_26_code
def yX4_pull : MethodName := ⟨RX4, "pull", "(I)I"⟩
abbrev cX4_wind : ByteArray := prog_13_method_27_code
def yX4_wind : MethodName := ⟨RX4, "wind", "(I)I"⟩
abbrev cX4_show : ByteArray := prog_13_method_38_code
def yX4_show : MethodName := ⟨RX4, "show", "()I"⟩
abbrev cX4_areCut : ByteArray := prog_13_method_37_code
def yX4_areCut : MethodName := ⟨RX4, "areCut", "()Z"⟩
abbrev cX4_holdFaults : ByteArray := prog_13_method_28_code
def yX4_holdFaults : MethodName := ⟨RX4, "holdFaults", "(III)V"⟩
abbrev cX4_newMarks : ByteArray := prog_13_method_33_code
def yX4_newMarks : MethodName := ⟨RX4, "newMarks", "()V"⟩
abbrev cX4_write : ByteArray := prog_13_method_36_code
def yX4_write : MethodName := ⟨RX4, "write", "(II)V"⟩
abbrev cX4_isDown : ByteArray := prog_13_method_32_code
def yX4_isDown : MethodName := ⟨RX4, "isDown", "(II)Z"⟩
abbrev cX4_heightOf : ByteArray := prog_13_method_29_code
def yX4_heightOf : MethodName := ⟨RX4, "heightOf", "(II)I"⟩
abbrev cX4_xAt : ByteArray := prog_13_method_30_code
def yX4_xAt : MethodName := ⟨RX4, "xAt", "(II)I"⟩
abbrev cX4_yAt : ByteArray := prog_13_method_31_code
def yX4_yAt : MethodName := ⟨RX4, "yAt", "(II)I"⟩
abbrev cX4_mark : ByteArray := prog_13_method_34_code
def yX4_mark : MethodName := ⟨RX4, "mark", "(IIII)V"⟩
abbrev cX4_lower : ByteArray := prog_13_method_35_code
def yX4_lower : MethodName := ⟨RX4, "lower", "(II)I"⟩
abbrev cX4_marked : ByteArray := prog_13_method_40_code
def yX4_marked : MethodName := ⟨RX4, "marked", "(II)I"⟩
abbrev cX4_isCell : ByteArray := prog_13_method_39_code
def yX4_isCell : MethodName := ⟨RX4, "isCell", "(II)Z"⟩
abbrev cX4_first : ByteArray := prog_13_method_41_code
def yX4_first : MethodName := ⟨RX4, "first", "(III)I"⟩
abbrev cX4_marks : ByteArray := prog_13_method_42_code
def yX4_marks : MethodName := ⟨RX4, "marks", "()I"⟩
abbrev cX4_see : ByteArray := prog_13_method_43_code
def yX4_see : MethodName := ⟨RX4, "see", "(IIZ)I"⟩
abbrev cX4_fault : ByteArray := prog_13_method_44_code
def yX4_fault : MethodName := ⟨RX4, "fault", "(II)I"⟩
abbrev cX4_mend : ByteArray := prog_13_method_46_code
def yX4_mend : MethodName := ⟨RX4, "mend", "()I"⟩
abbrev cX4_faultMany : ByteArray := prog_13_method_45_code
def yX4_faultMany : MethodName := ⟨RX4, "faultMany", "()I"⟩
abbrev cX4_explained : ByteArray := prog_13_method_49_code
def yX4_explained : MethodName := ⟨RX4, "explained", "(I)I"⟩
abbrev cX4_findKind : ByteArray := prog_13_method_48_code
def yX4_findKind : MethodName := ⟨RX4, "findKind", "()I"⟩
abbrev cX4_isWritten : ByteArray := prog_13_method_47_code
def yX4_isWritten : MethodName := ⟨RX4, "isWritten", "(III)Z"⟩
abbrev cX4_made : ByteArray := prog_13_method_51_code
def yX4_made : MethodName := ⟨RX4, "made", "(II)I"⟩
abbrev cX4_timesIn : ByteArray := prog_13_method_50_code
def yX4_timesIn : MethodName := ⟨RX4, "timesIn", "(II)I"⟩
abbrev cX4_like : ByteArray := prog_13_method_53_code
def yX4_like : MethodName := ⟨RX4, "like", "(II)I"⟩
abbrev cX4_likeness : ByteArray := prog_13_method_52_code
def yX4_likeness : MethodName := ⟨RX4, "likeness", "(II)I"⟩
abbrev cX4_whose : ByteArray := prog_13_method_54_code
def yX4_whose : MethodName := ⟨RX4, "whose", "(I)I"⟩
abbrev cX4_count : ByteArray := prog_13_method_55_code
def yX4_count : MethodName := ⟨RX4, "count", "(I)I"⟩
theorem q43 : (Jvm.Cond.initialized "CamFiguresModel") ∈ lw_all := lw_g (lw_at lw_m1 5 rfl) rfl
theorem q623 : (Jvm.Cond.instantiable "CamFiguresModel" (32 : Nat)) ∈ lw_all := lw_g (lw_at lw_m3 105 rfl) rfl
theorem q625 : (Jvm.Cond.instanceMethod ({ cls := "CamFiguresModel", name := "<init>", desc := "()V" } : Jvm.MethodName)) ∈ lw_all := lw_g (lw_at lw_m3 107 rfl) rfl
theorem q626 : (Jvm.Cond.code ({ cls := "CamFiguresModel", name := "<init>", desc := "()V" } : Jvm.MethodName) prog_13_method_1_code (1 : Nat) (Option.none : Option Jvm.ClassFile.FieldType)) ∈ lw_all := lw_g (lw_at lw_m3 108 rfl) rfl
theorem q627 : (Jvm.Cond.methodLink "CamFiguresModel" (1 : Nat) ({ cls := "java/lang/Object", name := "<init>", desc := "()V" } : Jvm.MethodName)) ∈ lw_all := lw_g (lw_at lw_m3 109 rfl) rfl
theorem q628 : (Jvm.Cond.methodLink "CamFiguresModel" (72 : Nat) ({ cls := "CamFiguresModel", name := "clearPaper", desc := "()V" } : Jvm.MethodName)) ∈ lw_all := lw_g (lw_at lw_m3 110 rfl) rfl
theorem q629 : (Jvm.Cond.privateMethod ({ cls := "CamFiguresModel", name := "clearPaper", desc := "()V" } : Jvm.MethodName)) ∈ lw_tbl := lw_at lw_m3 111 rfl
theorem q630 : (Jvm.Cond.instanceMethod ({ cls := "CamFiguresModel", name := "clearPaper", desc := "()V" } : Jvm.MethodName)) ∈ lw_all := lw_g (lw_at lw_m3 112 rfl) rfl
theorem q631 : (Jvm.Cond.code ({ cls := "CamFiguresModel", name := "clearPaper", desc := "()V" } : Jvm.MethodName) prog_13_method_5_code (2 : Nat) (Option.none : Option Jvm.ClassFile.FieldType)) ∈ lw_all := lw_g (lw_at lw_m3 113 rfl) rfl
theorem q632 : (Jvm.Cond.fieldLink "CamFiguresModel" (7 : Nat) "CamFiguresModel" "length" "I") ∈ lw_all := lw_g (lw_at lw_m3 114 rfl) rfl
theorem q633 : (Jvm.Cond.fieldLink "CamFiguresModel" (13 : Nat) "CamFiguresModel" "isThere" "[Z") ∈ lw_all := lw_g (lw_at lw_m3 115 rfl) rfl
theorem q634 : (Jvm.Cond.fieldLink "CamFiguresModel" (17 : Nat) "CamFiguresModel" "cam" "[I") ∈ lw_all := lw_g (lw_at lw_m3 116 rfl) rfl
theorem q635 : (Jvm.Cond.fieldLink "CamFiguresModel" (21 : Nat) "CamFiguresModel" "across" "[I") ∈ lw_all := lw_g (lw_at lw_m3 117 rfl) rfl
theorem q636 : (Jvm.Cond.fieldLink "CamFiguresModel" (24 : Nat) "CamFiguresModel" "up" "[I") ∈ lw_all := lw_g (lw_at lw_m3 118 rfl) rfl
theorem q637 : (Jvm.Cond.fieldLink "CamFiguresModel" (27 : Nat) "CamFiguresModel" "lift" "[I") ∈ lw_all := lw_g (lw_at lw_m3 119 rfl) rfl
theorem q638 : (Jvm.Cond.fieldLink "CamFiguresModel" (104 : Nat) "CamFiguresModel" "pegs" "I") ∈ lw_all := lw_g (lw_at lw_m3 120 rfl) rfl
theorem q639 : (Jvm.Cond.fieldLink "CamFiguresModel" (30 : Nat) "CamFiguresModel" "peg" "[I") ∈ lw_all := lw_g (lw_at lw_m3 121 rfl) rfl
theorem q640 : (Jvm.Cond.fieldLink "CamFiguresModel" (33 : Nat) "CamFiguresModel" "advance" "I") ∈ lw_all := lw_g (lw_at lw_m3 122 rfl) rfl
theorem q641 : (Jvm.Cond.fieldLink "CamFiguresModel" (110 : Nat) "CamFiguresModel" "power" "I") ∈ lw_all := lw_g (lw_at lw_m3 123 rfl) rfl
theorem q642 : (Jvm.Cond.fieldLink "CamFiguresModel" (36 : Nat) "CamFiguresModel" "pull" "I") ∈ lw_all := lw_g (lw_at lw_m3 124 rfl) rfl
theorem q643 : (Jvm.Cond.fieldLink "CamFiguresModel" (156 : Nat) "CamFiguresModel" "wear" "I") ∈ lw_all := lw_g (lw_at lw_m3 125 rfl) rfl
theorem q644 : (Jvm.Cond.fieldLink "CamFiguresModel" (107 : Nat) "CamFiguresModel" "strain" "I") ∈ lw_all := lw_g (lw_at lw_m3 126 rfl) rfl
theorem q645 : (Jvm.Cond.fieldLink "CamFiguresModel" (159 : Nat) "CamFiguresModel" "ticks" "I") ∈ lw_all := lw_g (lw_at lw_m3 127 rfl) rfl
theorem q646 : (Jvm.Cond.fieldLink "CamFiguresModel" (166 : Nat) "CamFiguresModel" "steps" "I") ∈ lw_all := lw_g (lw_at lw_m3 128 rfl) rfl
theorem q647 : (Jvm.Cond.fieldLink "CamFiguresModel" (153 : Nat) "CamFiguresModel" "shows" "I") ∈ lw_all := lw_g (lw_at lw_m3 129 rfl) rfl
theorem q648 : (Jvm.Cond.fieldLink "CamFiguresModel" (169 : Nat) "CamFiguresModel" "doneMany" "I") ∈ lw_all := lw_g (lw_at lw_m3 130 rfl) rfl
theorem q649 : (Jvm.Cond.fieldLink "CamFiguresModel" (39 : Nat) "CamFiguresModel" "paperPeg" "[I") ∈ lw_all := lw_g (lw_at lw_m3 131 rfl) rfl
theorem q650 : (Jvm.Cond.fieldLink "CamFiguresModel" (42 : Nat) "CamFiguresModel" "paperStep" "[I") ∈ lw_all := lw_g (lw_at lw_m3 132 rfl) rfl
theorem q651 : (Jvm.Cond.fieldLink "CamFiguresModel" (45 : Nat) "CamFiguresModel" "fault" "[I") ∈ lw_all := lw_g (lw_at lw_m3 133 rfl) rfl
theorem q652 : (Jvm.Cond.fieldLink "CamFiguresModel" (48 : Nat) "CamFiguresModel" "habit" "[I") ∈ lw_all := lw_g (lw_at lw_m3 134 rfl) rfl
theorem q653 : (Jvm.Cond.fieldLink "CamFiguresModel" (51 : Nat) "CamFiguresModel" "cutBy" "[I") ∈ lw_all := lw_g (lw_at lw_m3 135 rfl) rfl
theorem q654 : (Jvm.Cond.fieldLink "CamFiguresModel" (54 : Nat) "CamFiguresModel" "refused" "[I") ∈ lw_all := lw_g (lw_at lw_m3 136 rfl) rfl
theorem q655 : (Jvm.Cond.fieldLink "CamFiguresModel" (57 : Nat) "CamFiguresModel" "between" "[I") ∈ lw_all := lw_g (lw_at lw_m3 137 rfl) rfl
theorem q656 : (Jvm.Cond.fieldLink "CamFiguresModel" (60 : Nat) "CamFiguresModel" "least" "[I") ∈ lw_all := lw_g (lw_at lw_m3 138 rfl) rfl
theorem q657 : (Jvm.Cond.fieldLink "CamFiguresModel" (63 : Nat) "CamFiguresModel" "blankOf" "[I") ∈ lw_all := lw_g (lw_at lw_m3 139 rfl) rfl
theorem q658 : (Jvm.Cond.fieldLink "CamFiguresModel" (113 : Nat) "CamFiguresModel" "worn" "I") ∈ lw_all := lw_g (lw_at lw_m3 140 rfl) rfl
theorem q659 : (Jvm.Cond.fieldLink "CamFiguresModel" (116 : Nat) "CamFiguresModel" "loose" "I") ∈ lw_all := lw_g (lw_at lw_m3 141 rfl) rfl
theorem q660 : (Jvm.Cond.fieldLink "CamFiguresModel" (119 : Nat) "CamFiguresModel" "bent" "I") ∈ lw_all := lw_g (lw_at lw_m3 142 rfl) rfl
theorem q661 : (Jvm.Cond.fieldLink "CamFiguresModel" (66 : Nat) "CamFiguresModel" "markPeg" "[I") ∈ lw_all := lw_g (lw_at lw_m3 143 rfl) rfl
theorem q662 : (Jvm.Cond.fieldLink "CamFiguresModel" (69 : Nat) "CamFiguresModel" "markStep" "[I") ∈ lw_all := lw_g (lw_at lw_m3 144 rfl) rfl
theorem q663 : (Jvm.Cond.fieldLink "CamFiguresModel" (178 : Nat) "CamFiguresModel" "which" "I") ∈ lw_all := lw_g (lw_at lw_m3 145 rfl) rfl
theorem q664 : (Jvm.Cond.lays "CamFiguresModel" "CamFiguresModel" "length" "I") ∈ lw_all := lw_g (lw_at lw_m3 146 rfl) rfl
theorem q665 : (Jvm.Cond.soleField "CamFiguresModel" "length") ∈ lw_all := lw_g (lw_at lw_m3 147 rfl) rfl
theorem q666 : (Jvm.Cond.laysFinal "CamFiguresModel" "CamFiguresModel" "isThere" "[Z") ∈ lw_all := lw_g (lw_at lw_m3 148 rfl) rfl
theorem q667 : (Jvm.Cond.soleField "CamFiguresModel" "isThere") ∈ lw_all := lw_g (lw_at lw_m3 149 rfl) rfl
theorem q668 : (Jvm.Cond.laysFinal "CamFiguresModel" "CamFiguresModel" "cam" "[I") ∈ lw_all := lw_g (lw_at lw_m3 150 rfl) rfl
theorem q669 : (Jvm.Cond.soleField "CamFiguresModel" "cam") ∈ lw_all := lw_g (lw_at lw_m3 151 rfl) rfl
theorem q670 : (Jvm.Cond.laysFinal "CamFiguresModel" "CamFiguresModel" "across" "[I") ∈ lw_all := lw_g (lw_at lw_m3 152 rfl) rfl
theorem q671 : (Jvm.Cond.soleField "CamFiguresModel" "across") ∈ lw_all := lw_g (lw_at lw_m3 153 rfl) rfl
theorem q672 : (Jvm.Cond.laysFinal "CamFiguresModel" "CamFiguresModel" "up" "[I") ∈ lw_all := lw_g (lw_at lw_m3 154 rfl) rfl
theorem q673 : (Jvm.Cond.soleField "CamFiguresModel" "up") ∈ lw_all := lw_g (lw_at lw_m3 155 rfl) rfl
theorem q674 : (Jvm.Cond.laysFinal "CamFiguresModel" "CamFiguresModel" "lift" "[I") ∈ lw_all := lw_g (lw_at lw_m3 156 rfl) rfl
theorem q675 : (Jvm.Cond.soleField "CamFiguresModel" "lift") ∈ lw_all := lw_g (lw_at lw_m3 157 rfl) rfl
theorem q676 : (Jvm.Cond.lays "CamFiguresModel" "CamFiguresModel" "pegs" "I") ∈ lw_all := lw_g (lw_at lw_m3 158 rfl) rfl
theorem q677 : (Jvm.Cond.soleField "CamFiguresModel" "pegs") ∈ lw_all := lw_g (lw_at lw_m3 159 rfl) rfl
theorem q678 : (Jvm.Cond.laysFinal "CamFiguresModel" "CamFiguresModel" "peg" "[I") ∈ lw_all := lw_g (lw_at lw_m3 160 rfl) rfl
theorem q679 : (Jvm.Cond.soleField "CamFiguresModel" "peg") ∈ lw_all := lw_g (lw_at lw_m3 161 rfl) rfl
theorem q680 : (Jvm.Cond.lays "CamFiguresModel" "CamFiguresModel" "advance" "I") ∈ lw_all := lw_g (lw_at lw_m3 162 rfl) rfl
theorem q681 : (Jvm.Cond.soleField "CamFiguresModel" "advance") ∈ lw_all := lw_g (lw_at lw_m3 163 rfl) rfl
theorem q682 : (Jvm.Cond.lays "CamFiguresModel" "CamFiguresModel" "power" "I") ∈ lw_all := lw_g (lw_at lw_m3 164 rfl) rfl
theorem q683 : (Jvm.Cond.soleField "CamFiguresModel" "power") ∈ lw_all := lw_g (lw_at lw_m3 165 rfl) rfl
theorem q684 : (Jvm.Cond.lays "CamFiguresModel" "CamFiguresModel" "pull" "I") ∈ lw_all := lw_g (lw_at lw_m3 166 rfl) rfl
theorem q685 : (Jvm.Cond.soleField "CamFiguresModel" "pull") ∈ lw_all := lw_g (lw_at lw_m3 167 rfl) rfl
theorem q686 : (Jvm.Cond.lays "CamFiguresModel" "CamFiguresModel" "wear" "I") ∈ lw_all := lw_g (lw_at lw_m3 168 rfl) rfl
theorem q687 : (Jvm.Cond.soleField "CamFiguresModel" "wear") ∈ lw_all := lw_g (lw_at lw_m3 169 rfl) rfl
theorem q688 : (Jvm.Cond.lays "CamFiguresModel" "CamFiguresModel" "strain" "I") ∈ lw_all := lw_g (lw_at lw_m3 170 rfl) rfl
theorem q689 : (Jvm.Cond.soleField "CamFiguresModel" "strain") ∈ lw_all := lw_g (lw_at lw_m3 171 rfl) rfl
theorem q690 : (Jvm.Cond.lays "CamFiguresModel" "CamFiguresModel" "ticks" "I") ∈ lw_all := lw_g (lw_at lw_m3 172 rfl) rfl
theorem q691 : (Jvm.Cond.soleField "CamFiguresModel" "ticks") ∈ lw_all := lw_g (lw_at lw_m3 173 rfl) rfl
theorem q692 : (Jvm.Cond.lays "CamFiguresModel" "CamFiguresModel" "steps" "I") ∈ lw_all := lw_g (lw_at lw_m3 174 rfl) rfl
theorem q693 : (Jvm.Cond.soleField "CamFiguresModel" "steps") ∈ lw_all := lw_g (lw_at lw_m3 175 rfl) rfl
theorem q694 : (Jvm.Cond.lays "CamFiguresModel" "CamFiguresModel" "shows" "I") ∈ lw_all := lw_g (lw_at lw_m3 176 rfl) rfl
theorem q695 : (Jvm.Cond.soleField "CamFiguresModel" "shows") ∈ lw_all := lw_g (lw_at lw_m3 177 rfl) rfl
theorem q696 : (Jvm.Cond.lays "CamFiguresModel" "CamFiguresModel" "doneMany" "I") ∈ lw_all := lw_g (lw_at lw_m3 178 rfl) rfl
theorem q697 : (Jvm.Cond.soleField "CamFiguresModel" "doneMany") ∈ lw_all := lw_g (lw_at lw_m3 179 rfl) rfl
theorem q698 : (Jvm.Cond.laysFinal "CamFiguresModel" "CamFiguresModel" "paperPeg" "[I") ∈ lw_all := lw_g (lw_at lw_m3 180 rfl) rfl
theorem q699 : (Jvm.Cond.soleField "CamFiguresModel" "paperPeg") ∈ lw_all := lw_g (lw_at lw_m3 181 rfl) rfl
theorem q700 : (Jvm.Cond.laysFinal "CamFiguresModel" "CamFiguresModel" "paperStep" "[I") ∈ lw_all := lw_g (lw_at lw_m3 182 rfl) rfl
theorem q701 : (Jvm.Cond.soleField "CamFiguresModel" "paperStep") ∈ lw_all := lw_g (lw_at lw_m3 183 rfl) rfl
theorem q702 : (Jvm.Cond.laysFinal "CamFiguresModel" "CamFiguresModel" "fault" "[I") ∈ lw_all := lw_g (lw_at lw_m3 184 rfl) rfl
theorem q703 : (Jvm.Cond.soleField "CamFiguresModel" "fault") ∈ lw_all := lw_g (lw_at lw_m3 185 rfl) rfl
theorem q704 : (Jvm.Cond.laysFinal "CamFiguresModel" "CamFiguresModel" "habit" "[I") ∈ lw_all := lw_g (lw_at lw_m3 186 rfl) rfl
theorem q705 : (Jvm.Cond.soleField "CamFiguresModel" "habit") ∈ lw_all := lw_g (lw_at lw_m3 187 rfl) rfl
theorem q706 : (Jvm.Cond.laysFinal "CamFiguresModel" "CamFiguresModel" "cutBy" "[I") ∈ lw_all := lw_g (lw_at lw_m3 188 rfl) rfl
theorem q707 : (Jvm.Cond.soleField "CamFiguresModel" "cutBy") ∈ lw_all := lw_g (lw_at lw_m3 189 rfl) rfl
theorem q708 : (Jvm.Cond.laysFinal "CamFiguresModel" "CamFiguresModel" "refused" "[I") ∈ lw_all := lw_g (lw_at lw_m3 190 rfl) rfl
theorem q709 : (Jvm.Cond.soleField "CamFiguresModel" "refused") ∈ lw_all := lw_g (lw_at lw_m3 191 rfl) rfl
theorem q710 : (Jvm.Cond.laysFinal "CamFiguresModel" "CamFiguresModel" "between" "[I") ∈ lw_all := lw_g (lw_at lw_m3 192 rfl) rfl
theorem q711 : (Jvm.Cond.soleField "CamFiguresModel" "between") ∈ lw_all := lw_g (lw_at lw_m3 193 rfl) rfl
theorem q712 : (Jvm.Cond.laysFinal "CamFiguresModel" "CamFiguresModel" "least" "[I") ∈ lw_all := lw_g (lw_at lw_m3 194 rfl) rfl
theorem q713 : (Jvm.Cond.soleField "CamFiguresModel" "least") ∈ lw_all := lw_g (lw_at lw_m3 195 rfl) rfl
theorem q714 : (Jvm.Cond.laysFinal "CamFiguresModel" "CamFiguresModel" "blankOf" "[I") ∈ lw_all := lw_g (lw_at lw_m3 196 rfl) rfl
theorem q715 : (Jvm.Cond.soleField "CamFiguresModel" "blankOf") ∈ lw_all := lw_g (lw_at lw_m3 197 rfl) rfl
theorem q716 : (Jvm.Cond.lays "CamFiguresModel" "CamFiguresModel" "worn" "I") ∈ lw_all := lw_g (lw_at lw_m3 198 rfl) rfl
theorem q717 : (Jvm.Cond.soleField "CamFiguresModel" "worn") ∈ lw_all := lw_g (lw_at lw_m3 199 rfl) rfl
theorem q718 : (Jvm.Cond.lays "CamFiguresModel" "CamFiguresModel" "loose" "I") ∈ lw_all := lw_g (lw_at lw_m3 200 rfl) rfl
theorem q719 : (Jvm.Cond.soleField "CamFiguresModel" "loose") ∈ lw_all := lw_g (lw_at lw_m3 201 rfl) rfl
theorem q720 : (Jvm.Cond.lays "CamFiguresModel" "CamFiguresModel" "bent" "I") ∈ lw_all := lw_g (lw_at lw_m3 202 rfl) rfl
theorem q721 : (Jvm.Cond.soleField "CamFiguresModel" "bent") ∈ lw_all := lw_g (lw_at lw_m3 203 rfl) rfl
theorem q722 : (Jvm.Cond.laysFinal "CamFiguresModel" "CamFiguresModel" "markPeg" "[I") ∈ lw_all := lw_g (lw_at lw_m3 204 rfl) rfl
theorem q723 : (Jvm.Cond.soleField "CamFiguresModel" "markPeg") ∈ lw_all := lw_g (lw_at lw_m3 205 rfl) rfl
theorem q724 : (Jvm.Cond.laysFinal "CamFiguresModel" "CamFiguresModel" "markStep" "[I") ∈ lw_all := lw_g (lw_at lw_m3 206 rfl) rfl
theorem q725 : (Jvm.Cond.soleField "CamFiguresModel" "markStep") ∈ lw_all := lw_g (lw_at lw_m3 207 rfl) rfl
theorem q726 : (Jvm.Cond.lays "CamFiguresModel" "CamFiguresModel" "which" "I") ∈ lw_all := lw_g (lw_at lw_m3 208 rfl) rfl
theorem q727 : (Jvm.Cond.soleField "CamFiguresModel" "which") ∈ lw_all := lw_g (lw_at lw_m3 209 rfl) rfl
theorem q728 : (Jvm.Cond.superclass "CamFiguresModel" "java/lang/Object") ∈ lw_all := lw_g (lw_at lw_m3 210 rfl) rfl
theorem q730 : (Jvm.Cond.instanceMethod ({ cls := "CamFiguresModel", name := "length", desc := "(I)I" } : Jvm.MethodName)) ∈ lw_all := lw_g (lw_at lw_m3 212 rfl) rfl
theorem q731 : (Jvm.Cond.selects "CamFiguresModel" ({ cls := "CamFiguresModel", name := "length", desc := "(I)I" } : Jvm.MethodName) ({ cls := "CamFiguresModel", name := "length", desc := "(I)I" } : Jvm.MethodName)) ∈ lw_all := lw_g (lw_at lw_m3 213 rfl) rfl
theorem q732 : (Jvm.Cond.code ({ cls := "CamFiguresModel", name := "length", desc := "(I)I" } : Jvm.MethodName) prog_13_method_7_code (4 : Nat) (Option.some Jvm.ClassFile.FieldType.int)) ∈ lw_all := lw_g (lw_at lw_m3 214 rfl) rfl
theorem q733 : (Jvm.Cond.methodLink "CamFiguresModel" (79 : Nat) ({ cls := "CamFiguresModel", name := "refuse", desc := "(I)I" } : Jvm.MethodName)) ∈ lw_all := lw_g (lw_at lw_m3 215 rfl) rfl
theorem q734 : (Jvm.Cond.privateMethod ({ cls := "CamFiguresModel", name := "refuse", desc := "(I)I" } : Jvm.MethodName)) ∈ lw_tbl := lw_at lw_m3 216 rfl
theorem q735 : (Jvm.Cond.instanceMethod ({ cls := "CamFiguresModel", name := "refuse", desc := "(I)I" } : Jvm.MethodName)) ∈ lw_all := lw_g (lw_at lw_m3 217 rfl) rfl
theorem q736 : (Jvm.Cond.code ({ cls := "CamFiguresModel", name := "refuse", desc := "(I)I" } : Jvm.MethodName) prog_13_method_4_code (2 : Nat) (Option.some Jvm.ClassFile.FieldType.int)) ∈ lw_all := lw_g (lw_at lw_m3 218 rfl) rfl
theorem q738 : (Jvm.Cond.instanceMethod ({ cls := "CamFiguresModel", name := "blank", desc := "(I)I" } : Jvm.MethodName)) ∈ lw_all := lw_g (lw_at lw_m3 220 rfl) rfl
theorem q739 : (Jvm.Cond.selects "CamFiguresModel" ({ cls := "CamFiguresModel", name := "blank", desc := "(I)I" } : Jvm.MethodName) ({ cls := "CamFiguresModel", name := "blank", desc := "(I)I" } : Jvm.MethodName)) ∈ lw_all := lw_g (lw_at lw_m3 221 rfl) rfl
theorem q740 : (Jvm.Cond.code ({ cls := "CamFiguresModel", name := "blank", desc := "(I)I" } : Jvm.MethodName) prog_13_method_8_code (4 : Nat) (Option.some Jvm.ClassFile.FieldType.int)) ∈ lw_all := lw_g (lw_at lw_m3 222 rfl) rfl
theorem q741 : (Jvm.Cond.methodLink "CamFiguresModel" (83 : Nat) ({ cls := "CamFiguresModel", name := "isCam", desc := "(I)Z" } : Jvm.MethodName)) ∈ lw_all := lw_g (lw_at lw_m3 223 rfl) rfl
theorem q742 : (Jvm.Cond.static ({ cls := "CamFiguresModel", name := "isCam", desc := "(I)Z" } : Jvm.MethodName)) ∈ lw_all := lw_g (lw_at lw_m3 224 rfl) rfl
theorem q743 : (Jvm.Cond.code ({ cls := "CamFiguresModel", name := "isCam", desc := "(I)Z" } : Jvm.MethodName) prog_13_method_6_code (1 : Nat) (Option.some Jvm.ClassFile.FieldType.boolean)) ∈ lw_all := lw_g (lw_at lw_m3 225 rfl) rfl
theorem q744 : (Jvm.Cond.methodLink "CamFiguresModel" (75 : Nat) ({ cls := "CamFiguresModel", name := "in", desc := "(III)Z" } : Jvm.MethodName)) ∈ lw_all := lw_g (lw_at lw_m3 226 rfl) rfl
theorem q745 : (Jvm.Cond.static ({ cls := "CamFiguresModel", name := "in", desc := "(III)Z" } : Jvm.MethodName)) ∈ lw_all := lw_g (lw_at lw_m3 227 rfl) rfl
theorem q746 : (Jvm.Cond.code ({ cls := "CamFiguresModel", name := "in", desc := "(III)Z" } : Jvm.MethodName) prog_13_method_3_code (3 : Nat) (Option.some Jvm.ClassFile.FieldType.boolean)) ∈ lw_all := lw_g (lw_at lw_m3 228 rfl) rfl
theorem q748 : (Jvm.Cond.instanceMethod ({ cls := "CamFiguresModel", name := "lose", desc := "(I)I" } : Jvm.MethodName)) ∈ lw_all := lw_g (lw_at lw_m3 230 rfl) rfl
theorem q749 : (Jvm.Cond.selects "CamFiguresModel" ({ cls := "CamFiguresModel", name := "lose", desc := "(I)I" } : Jvm.MethodName) ({ cls := "CamFiguresModel", name := "lose", desc := "(I)I" } : Jvm.MethodName)) ∈ lw_all := lw_g (lw_at lw_m3 231 rfl) rfl
theorem q750 : (Jvm.Cond.code ({ cls := "CamFiguresModel", name := "lose", desc := "(I)I" } : Jvm.MethodName) prog_13_method_10_code (3 : Nat) (Option.some Jvm.ClassFile.FieldType.int)) ∈ lw_all := lw_g (lw_at lw_m3 232 rfl) rfl
theorem q751 : (Jvm.Cond.methodLink "CamFiguresModel" (87 : Nat) ({ cls := "CamFiguresModel", name := "lacks", desc := "(I)I" } : Jvm.MethodName)) ∈ lw_all := lw_g (lw_at lw_m3 233 rfl) rfl
theorem q752 : (Jvm.Cond.privateMethod ({ cls := "CamFiguresModel", name := "lacks", desc := "(I)I" } : Jvm.MethodName)) ∈ lw_tbl := lw_at lw_m3 234 rfl
theorem q753 : (Jvm.Cond.instanceMethod ({ cls := "CamFiguresModel", name := "lacks", desc := "(I)I" } : Jvm.MethodName)) ∈ lw_all := lw_g (lw_at lw_m3 235 rfl) rfl
theorem q754 : (Jvm.Cond.code ({ cls := "CamFiguresModel", name := "lacks", desc := "(I)I" } : Jvm.MethodName) prog_13_method_9_code (2 : Nat) (Option.some Jvm.ClassFile.FieldType.int)) ∈ lw_all := lw_g (lw_at lw_m3 236 rfl) rfl
theorem q756 : (Jvm.Cond.instanceMethod ({ cls := "CamFiguresModel", name := "cutAt", desc := "(III)I" } : Jvm.MethodName)) ∈ lw_all := lw_g (lw_at lw_m3 238 rfl) rfl
theorem q757 : (Jvm.Cond.selects "CamFiguresModel" ({ cls := "CamFiguresModel", name := "cutAt", desc := "(III)I" } : Jvm.MethodName) ({ cls := "CamFiguresModel", name := "cutAt", desc := "(III)I" } : Jvm.MethodName)) ∈ lw_all := lw_g (lw_at lw_m3 239 rfl) rfl
theorem q758 : (Jvm.Cond.code ({ cls := "CamFiguresModel", name := "cutAt", desc := "(III)I" } : Jvm.MethodName) prog_13_method_11_code (6 : Nat) (Option.some Jvm.ClassFile.FieldType.int)) ∈ lw_all := lw_g (lw_at lw_m4 0 rfl) rfl
theorem q760 : (Jvm.Cond.instanceMethod ({ cls := "CamFiguresModel", name := "height", desc := "(II)I" } : Jvm.MethodName)) ∈ lw_all := lw_g (lw_at lw_m4 2 rfl) rfl
theorem q761 : (Jvm.Cond.selects "CamFiguresModel" ({ cls := "CamFiguresModel", name := "height", desc := "(II)I" } : Jvm.MethodName) ({ cls := "CamFiguresModel", name := "height", desc := "(II)I" } : Jvm.MethodName)) ∈ lw_all := lw_g (lw_at lw_m4 3 rfl) rfl
theorem q762 : (Jvm.Cond.code ({ cls := "CamFiguresModel", name := "height", desc := "(II)I" } : Jvm.MethodName) prog_13_method_12_code (4 : Nat) (Option.some Jvm.ClassFile.FieldType.int)) ∈ lw_all := lw_g (lw_at lw_m4 4 rfl) rfl
theorem q764 : (Jvm.Cond.instanceMethod ({ cls := "CamFiguresModel", name := "copy", desc := "(IIIII)I" } : Jvm.MethodName)) ∈ lw_all := lw_g (lw_at lw_m4 6 rfl) rfl
theorem q765 : (Jvm.Cond.selects "CamFiguresModel" ({ cls := "CamFiguresModel", name := "copy", desc := "(IIIII)I" } : Jvm.MethodName) ({ cls := "CamFiguresModel", name := "copy", desc := "(IIIII)I" } : Jvm.MethodName)) ∈ lw_all := lw_g (lw_at lw_m4 7 rfl) rfl
theorem q766 : (Jvm.Cond.code ({ cls := "CamFiguresModel", name := "copy", desc := "(IIIII)I" } : Jvm.MethodName) prog_13_method_13_code (7 : Nat) (Option.some Jvm.ClassFile.FieldType.int)) ∈ lw_all := lw_g (lw_at lw_m4 8 rfl) rfl
theorem q768 : (Jvm.Cond.instanceMethod ({ cls := "CamFiguresModel", name := "turn", desc := "(II)I" } : Jvm.MethodName)) ∈ lw_all := lw_g (lw_at lw_m4 10 rfl) rfl
theorem q769 : (Jvm.Cond.selects "CamFiguresModel" ({ cls := "CamFiguresModel", name := "turn", desc := "(II)I" } : Jvm.MethodName) ({ cls := "CamFiguresModel", name := "turn", desc := "(II)I" } : Jvm.MethodName)) ∈ lw_all := lw_g (lw_at lw_m4 11 rfl) rfl
theorem q770 : (Jvm.Cond.code ({ cls := "CamFiguresModel", name := "turn", desc := "(II)I" } : Jvm.MethodName) prog_13_method_14_code (5 : Nat) (Option.some Jvm.ClassFile.FieldType.int)) ∈ lw_all := lw_g (lw_at lw_m4 12 rfl) rfl
theorem q772 : (Jvm.Cond.instanceMethod ({ cls := "CamFiguresModel", name := "blanks", desc := "()I" } : Jvm.MethodName)) ∈ lw_all := lw_g (lw_at lw_m4 14 rfl) rfl
theorem q773 : (Jvm.Cond.selects "CamFiguresModel" ({ cls := "CamFiguresModel", name := "blanks", desc := "()I" } : Jvm.MethodName) ({ cls := "CamFiguresModel", name := "blanks", desc := "()I" } : Jvm.MethodName)) ∈ lw_all := lw_g (lw_at lw_m4 15 rfl) rfl
theorem q774 : (Jvm.Cond.code ({ cls := "CamFiguresModel", name := "blanks", desc := "()I" } : Jvm.MethodName) prog_13_method_17_code (1 : Nat) (Option.some Jvm.ClassFile.FieldType.int)) ∈ lw_all := lw_g (lw_at lw_m4 16 rfl) rfl
theorem q775 : (Jvm.Cond.methodLink "CamFiguresModel" (94 : Nat) ({ cls := "CamFiguresModel", name := "findBlanks", desc := "()I" } : Jvm.MethodName)) ∈ lw_all := lw_g (lw_at lw_m4 17 rfl) rfl
theorem q776 : (Jvm.Cond.privateMethod ({ cls := "CamFiguresModel", name := "findBlanks", desc := "()I" } : Jvm.MethodName)) ∈ lw_tbl := lw_at lw_m4 18 rfl
theorem q777 : (Jvm.Cond.instanceMethod ({ cls := "CamFiguresModel", name := "findBlanks", desc := "()I" } : Jvm.MethodName)) ∈ lw_all := lw_g (lw_at lw_m4 19 rfl) rfl
theorem q778 : (Jvm.Cond.code ({ cls := "CamFiguresModel", name := "findBlanks", desc := "()I" } : Jvm.MethodName) prog_13_method_16_code (4 : Nat) (Option.some Jvm.ClassFile.FieldType.int)) ∈ lw_all := lw_g (lw_at lw_m4 20 rfl) rfl
theorem q779 : (Jvm.Cond.methodLink "CamFiguresModel" (90 : Nat) ({ cls := "CamFiguresModel", name := "turnedBy", desc := "(II)I" } : Jvm.MethodName)) ∈ lw_all := lw_g (lw_at lw_m4 21 rfl) rfl
theorem q780 : (Jvm.Cond.privateMethod ({ cls := "CamFiguresModel", name := "turnedBy", desc := "(II)I" } : Jvm.MethodName)) ∈ lw_tbl := lw_at lw_m4 22 rfl
theorem q781 : (Jvm.Cond.instanceMethod ({ cls := "CamFiguresModel", name := "turnedBy", desc := "(II)I" } : Jvm.MethodName)) ∈ lw_all := lw_g (lw_at lw_m4 23 rfl) rfl
theorem q782 : (Jvm.Cond.code ({ cls := "CamFiguresModel", name := "turnedBy", desc := "(II)I" } : Jvm.MethodName) prog_13_method_15_code (6 : Nat) (Option.some Jvm.ClassFile.FieldType.int)) ∈ lw_all := lw_g (lw_at lw_m4 24 rfl) rfl
theorem q784 : (Jvm.Cond.instanceMethod ({ cls := "CamFiguresModel", name := "camOf", desc := "(II)I" } : Jvm.MethodName)) ∈ lw_all := lw_g (lw_at lw_m4 26 rfl) rfl
theorem q785 : (Jvm.Cond.selects "CamFiguresModel" ({ cls := "CamFiguresModel", name := "camOf", desc := "(II)I" } : Jvm.MethodName) ({ cls := "CamFiguresModel", name := "camOf", desc := "(II)I" } : Jvm.MethodName)) ∈ lw_all := lw_g (lw_at lw_m4 27 rfl) rfl
theorem q786 : (Jvm.Cond.code ({ cls := "CamFiguresModel", name := "camOf", desc := "(II)I" } : Jvm.MethodName) prog_13_method_19_code (5 : Nat) (Option.some Jvm.ClassFile.FieldType.int)) ∈ lw_all := lw_g (lw_at lw_m4 28 rfl) rfl
theorem q787 : (Jvm.Cond.methodLink "CamFiguresModel" (98 : Nat) ({ cls := "CamFiguresModel", name := "smoothOf", desc := "(I)I" } : Jvm.MethodName)) ∈ lw_all := lw_g (lw_at lw_m4 29 rfl) rfl
theorem q788 : (Jvm.Cond.privateMethod ({ cls := "CamFiguresModel", name := "smoothOf", desc := "(I)I" } : Jvm.MethodName)) ∈ lw_tbl := lw_at lw_m4 30 rfl
theorem q789 : (Jvm.Cond.instanceMethod ({ cls := "CamFiguresModel", name := "smoothOf", desc := "(I)I" } : Jvm.MethodName)) ∈ lw_all := lw_g (lw_at lw_m4 31 rfl) rfl
theorem q790 : (Jvm.Cond.code ({ cls := "CamFiguresModel", name := "smoothOf", desc := "(I)I" } : Jvm.MethodName) prog_13_method_18_code (5 : Nat) (Option.some Jvm.ClassFile.FieldType.int)) ∈ lw_all := lw_g (lw_at lw_m4 32 rfl) rfl
theorem q792 : (Jvm.Cond.instanceMethod ({ cls := "CamFiguresModel", name := "letter", desc := "(IIII)I" } : Jvm.MethodName)) ∈ lw_all := lw_g (lw_at lw_m4 34 rfl) rfl
theorem q793 : (Jvm.Cond.selects "CamFiguresModel" ({ cls := "CamFiguresModel", name := "letter", desc := "(IIII)I" } : Jvm.MethodName) ({ cls := "CamFiguresModel", name := "letter", desc := "(IIII)I" } : Jvm.MethodName)) ∈ lw_all := lw_g (lw_at lw_m4 35 rfl) rfl
theorem q794 : (Jvm.Cond.code ({ cls := "CamFiguresModel", name := "letter", desc := "(IIII)I" } : Jvm.MethodName) prog_13_method_20_code (5 : Nat) (Option.some Jvm.ClassFile.FieldType.int)) ∈ lw_all := lw_g (lw_at lw_m4 36 rfl) rfl
theorem q796 : (Jvm.Cond.instanceMethod ({ cls := "CamFiguresModel", name := "isCut", desc := "(I)I" } : Jvm.MethodName)) ∈ lw_all := lw_g (lw_at lw_m4 38 rfl) rfl
theorem q797 : (Jvm.Cond.selects "CamFiguresModel" ({ cls := "CamFiguresModel", name := "isCut", desc := "(I)I" } : Jvm.MethodName) ({ cls := "CamFiguresModel", name := "isCut", desc := "(I)I" } : Jvm.MethodName)) ∈ lw_all := lw_g (lw_at lw_m4 39 rfl) rfl
theorem q798 : (Jvm.Cond.code ({ cls := "CamFiguresModel", name := "isCut", desc := "(I)I" } : Jvm.MethodName) prog_13_method_22_code (2 : Nat) (Option.some Jvm.ClassFile.FieldType.int)) ∈ lw_all := lw_g (lw_at lw_m4 40 rfl) rfl
theorem q799 : (Jvm.Cond.methodLink "CamFiguresModel" (101 : Nat) ({ cls := "CamFiguresModel", name := "isCutLetter", desc := "(I)Z" } : Jvm.MethodName)) ∈ lw_all := lw_g (lw_at lw_m4 41 rfl) rfl
theorem q800 : (Jvm.Cond.privateMethod ({ cls := "CamFiguresModel", name := "isCutLetter", desc := "(I)Z" } : Jvm.MethodName)) ∈ lw_tbl := lw_at lw_m4 42 rfl
theorem q801 : (Jvm.Cond.instanceMethod ({ cls := "CamFiguresModel", name := "isCutLetter", desc := "(I)Z" } : Jvm.MethodName)) ∈ lw_all := lw_g (lw_at lw_m4 43 rfl) rfl
theorem q802 : (Jvm.Cond.code ({ cls := "CamFiguresModel", name := "isCutLetter", desc := "(I)Z" } : Jvm.MethodName) prog_13_method_21_code (2 : Nat) (Option.some Jvm.ClassFile.FieldType.boolean)) ∈ lw_all := lw_g (lw_at lw_m4 44 rfl) rfl
theorem q804 : (Jvm.Cond.instanceMethod ({ cls := "CamFiguresModel", name := "peg", desc := "(I)I" } : Jvm.MethodName)) ∈ lw_all := lw_g (lw_at lw_m4 46 rfl) rfl
theorem q805 : (Jvm.Cond.selects "CamFiguresModel" ({ cls := "CamFiguresModel", name := "peg", desc := "(I)I" } : Jvm.MethodName) ({ cls := "CamFiguresModel", name := "peg", desc := "(I)I" } : Jvm.MethodName)) ∈ lw_all := lw_g (lw_at lw_m4 47 rfl) rfl
theorem q806 : (Jvm.Cond.code ({ cls := "CamFiguresModel", name := "peg", desc := "(I)I" } : Jvm.MethodName) prog_13_method_23_code (2 : Nat) (Option.some Jvm.ClassFile.FieldType.int)) ∈ lw_all := lw_g (lw_at lw_m4 48 rfl) rfl
theorem q808 : (Jvm.Cond.instanceMethod ({ cls := "CamFiguresModel", name := "unpeg", desc := "()I" } : Jvm.MethodName)) ∈ lw_all := lw_g (lw_at lw_m4 50 rfl) rfl
theorem q809 : (Jvm.Cond.selects "CamFiguresModel" ({ cls := "CamFiguresModel", name := "unpeg", desc := "()I" } : Jvm.MethodName) ({ cls := "CamFiguresModel", name := "unpeg", desc := "()I" } : Jvm.MethodName)) ∈ lw_all := lw_g (lw_at lw_m4 51 rfl) rfl
theorem q810 : (Jvm.Cond.code ({ cls := "CamFiguresModel", name := "unpeg", desc := "()I" } : Jvm.MethodName) prog_13_method_24_code (1 : Nat) (Option.some Jvm.ClassFile.FieldType.int)) ∈ lw_all := lw_g (lw_at lw_m4 52 rfl) rfl
theorem q812 : (Jvm.Cond.instanceMethod ({ cls := "CamFiguresModel", name := "advance", desc := "(I)I" } : Jvm.MethodName)) ∈ lw_all := lw_g (lw_at lw_m4 54 rfl) rfl
theorem q813 : (Jvm.Cond.selects "CamFiguresModel" ({ cls := "CamFiguresModel", name := "advance", desc := "(I)I" } : Jvm.MethodName) ({ cls := "CamFiguresModel", name := "advance", desc := "(I)I" } : Jvm.MethodName)) ∈ lw_all := lw_g (lw_at lw_m4 55 rfl) rfl
theorem q814 : (Jvm.Cond.code ({ cls := "CamFiguresModel", name := "advance", desc := "(I)I" } : Jvm.MethodName) prog_13_method_25_code (3 : Nat) (Option.some Jvm.ClassFile.FieldType.int)) ∈ lw_all := lw_g (lw_at lw_m4 56 rfl) rfl
theorem q816 : (Jvm.Cond.instanceMethod ({ cls := "CamFiguresModel", name := "pull", desc := "(I)I" } : Jvm.MethodName)) ∈ lw_all := lw_g (lw_at lw_m4 58 rfl) rfl
theorem q817 : (Jvm.Cond.selects "CamFiguresModel" ({ cls := "CamFiguresModel", name := "pull", desc := "(I)I" } : Jvm.MethodName) ({ cls := "CamFiguresModel", name := "pull", desc := "(I)I" } : Jvm.MethodName)) ∈ lw_all := lw_g (lw_at lw_m4 59 rfl) rfl
theorem q818 : (Jvm.Cond.code ({ cls := "CamFiguresModel", name := "pull", desc := "(I)I" } : Jvm.MethodName) prog_13_method_26_code (3 : Nat) (Option.some Jvm.ClassFile.FieldType.int)) ∈ lw_all := lw_g (lw_at lw_m4 60 rfl) rfl
theorem q820 : (Jvm.Cond.instanceMethod ({ cls := "CamFiguresModel", name := "wind", desc := "(I)I" } : Jvm.MethodName)) ∈ lw_all := lw_g (lw_at lw_m4 62 rfl) rfl
theorem q821 : (Jvm.Cond.selects "CamFiguresModel" ({ cls := "CamFiguresModel", name := "wind", desc := "(I)I" } : Jvm.MethodName) ({ cls := "CamFiguresModel", name := "wind", desc := "(I)I" } : Jvm.MethodName)) ∈ lw_all := lw_g (lw_at lw_m4 63 rfl) rfl
theorem q822 : (Jvm.Cond.code ({ cls := "CamFiguresModel", name := "wind", desc := "(I)I" } : Jvm.MethodName) prog_13_method_27_code (2 : Nat) (Option.some Jvm.ClassFile.FieldType.int)) ∈ lw_all := lw_g (lw_at lw_m4 64 rfl) rfl
theorem q824 : (Jvm.Cond.instanceMethod ({ cls := "CamFiguresModel", name := "show", desc := "()I" } : Jvm.MethodName)) ∈ lw_all := lw_g (lw_at lw_m4 66 rfl) rfl
theorem q825 : (Jvm.Cond.selects "CamFiguresModel" ({ cls := "CamFiguresModel", name := "show", desc := "()I" } : Jvm.MethodName) ({ cls := "CamFiguresModel", name := "show", desc := "()I" } : Jvm.MethodName)) ∈ lw_all := lw_g (lw_at lw_m4 67 rfl) rfl
theorem q826 : (Jvm.Cond.code ({ cls := "CamFiguresModel", name := "show", desc := "()I" } : Jvm.MethodName) prog_13_method_38_code (5 : Nat) (Option.some Jvm.ClassFile.FieldType.int)) ∈ lw_all := lw_g (lw_at lw_m4 68 rfl) rfl
theorem q827 : (Jvm.Cond.methodLink "CamFiguresModel" (142 : Nat) ({ cls := "CamFiguresModel", name := "areCut", desc := "()Z" } : Jvm.MethodName)) ∈ lw_all := lw_g (lw_at lw_m4 69 rfl) rfl
theorem q828 : (Jvm.Cond.privateMethod ({ cls := "CamFiguresModel", name := "areCut", desc := "()Z" } : Jvm.MethodName)) ∈ lw_tbl := lw_at lw_m4 70 rfl
theorem q829 : (Jvm.Cond.instanceMethod ({ cls := "CamFiguresModel", name := "areCut", desc := "()Z" } : Jvm.MethodName)) ∈ lw_all := lw_g (lw_at lw_m4 71 rfl) rfl
theorem q830 : (Jvm.Cond.code ({ cls := "CamFiguresModel", name := "areCut", desc := "()Z" } : Jvm.MethodName) prog_13_method_37_code (3 : Nat) (Option.some Jvm.ClassFile.FieldType.boolean)) ∈ lw_all := lw_g (lw_at lw_m4 72 rfl) rfl
theorem q831 : (Jvm.Cond.methodLink "CamFiguresModel" (146 : Nat) ({ cls := "CamFiguresModel", name := "holdFaults", desc := "(III)V" } : Jvm.MethodName)) ∈ lw_all := lw_g (lw_at lw_m4 73 rfl) rfl
theorem q832 : (Jvm.Cond.privateMethod ({ cls := "CamFiguresModel", name := "holdFaults", desc := "(III)V" } : Jvm.MethodName)) ∈ lw_tbl := lw_at lw_m4 74 rfl
theorem q833 : (Jvm.Cond.instanceMethod ({ cls := "CamFiguresModel", name := "holdFaults", desc := "(III)V" } : Jvm.MethodName)) ∈ lw_all := lw_g (lw_at lw_m4 75 rfl) rfl
theorem q834 : (Jvm.Cond.code ({ cls := "CamFiguresModel", name := "holdFaults", desc := "(III)V" } : Jvm.MethodName) prog_13_method_28_code (4 : Nat) (Option.none : Option Jvm.ClassFile.FieldType)) ∈ lw_all := lw_g (lw_at lw_m4 76 rfl) rfl
theorem q835 : (Jvm.Cond.methodLink "CamFiguresModel" (150 : Nat) ({ cls := "CamFiguresModel", name := "newMarks", desc := "()V" } : Jvm.MethodName)) ∈ lw_all := lw_g (lw_at lw_m4 77 rfl) rfl
theorem q836 : (Jvm.Cond.privateMethod ({ cls := "CamFiguresModel", name := "newMarks", desc := "()V" } : Jvm.MethodName)) ∈ lw_tbl := lw_at lw_m4 78 rfl
theorem q837 : (Jvm.Cond.instanceMethod ({ cls := "CamFiguresModel", name := "newMarks", desc := "()V" } : Jvm.MethodName)) ∈ lw_all := lw_g (lw_at lw_m4 79 rfl) rfl
theorem q838 : (Jvm.Cond.code ({ cls := "CamFiguresModel", name := "newMarks", desc := "()V" } : Jvm.MethodName) prog_13_method_33_code (2 : Nat) (Option.none : Option Jvm.ClassFile.FieldType)) ∈ lw_all := lw_g (lw_at lw_m4 80 rfl) rfl
theorem q839 : (Jvm.Cond.methodLink "CamFiguresModel" (162 : Nat) ({ cls := "CamFiguresModel", name := "write", desc := "(II)V" } : Jvm.MethodName)) ∈ lw_all := lw_g (lw_at lw_m4 81 rfl) rfl
theorem q840 : (Jvm.Cond.privateMethod ({ cls := "CamFiguresModel", name := "write", desc := "(II)V" } : Jvm.MethodName)) ∈ lw_tbl := lw_at lw_m4 82 rfl
theorem q841 : (Jvm.Cond.instanceMethod ({ cls := "CamFiguresModel", name := "write", desc := "(II)V" } : Jvm.MethodName)) ∈ lw_all := lw_g (lw_at lw_m4 83 rfl) rfl
theorem q842 : (Jvm.Cond.code ({ cls := "CamFiguresModel", name := "write", desc := "(II)V" } : Jvm.MethodName) prog_13_method_36_code (13 : Nat) (Option.none : Option Jvm.ClassFile.FieldType)) ∈ lw_all := lw_g (lw_at lw_m4 84 rfl) rfl
theorem q843 : (Jvm.Cond.methodLink "CamFiguresModel" (125 : Nat) ({ cls := "CamFiguresModel", name := "isDown", desc := "(II)Z" } : Jvm.MethodName)) ∈ lw_all := lw_g (lw_at lw_m4 85 rfl) rfl
theorem q844 : (Jvm.Cond.privateMethod ({ cls := "CamFiguresModel", name := "isDown", desc := "(II)Z" } : Jvm.MethodName)) ∈ lw_tbl := lw_at lw_m4 86 rfl
theorem q845 : (Jvm.Cond.instanceMethod ({ cls := "CamFiguresModel", name := "isDown", desc := "(II)Z" } : Jvm.MethodName)) ∈ lw_all := lw_g (lw_at lw_m4 87 rfl) rfl
theorem q846 : (Jvm.Cond.code ({ cls := "CamFiguresModel", name := "isDown", desc := "(II)Z" } : Jvm.MethodName) prog_13_method_32_code (3 : Nat) (Option.some Jvm.ClassFile.FieldType.boolean)) ∈ lw_all := lw_g (lw_at lw_m4 88 rfl) rfl
theorem q847 : (Jvm.Cond.methodLink "CamFiguresModel" (122 : Nat) ({ cls := "CamFiguresModel", name := "heightOf", desc := "(II)I" } : Jvm.MethodName)) ∈ lw_all := lw_g (lw_at lw_m4 89 rfl) rfl
theorem q848 : (Jvm.Cond.privateMethod ({ cls := "CamFiguresModel", name := "heightOf", desc := "(II)I" } : Jvm.MethodName)) ∈ lw_tbl := lw_at lw_m4 90 rfl
theorem q849 : (Jvm.Cond.instanceMethod ({ cls := "CamFiguresModel", name := "heightOf", desc := "(II)I" } : Jvm.MethodName)) ∈ lw_all := lw_g (lw_at lw_m4 91 rfl) rfl
theorem q850 : (Jvm.Cond.code ({ cls := "CamFiguresModel", name := "heightOf", desc := "(II)I" } : Jvm.MethodName) prog_13_method_29_code (4 : Nat) (Option.some Jvm.ClassFile.FieldType.int)) ∈ lw_all := lw_g (lw_at lw_m4 92 rfl) rfl
theorem q851 : (Jvm.Cond.methodLink "CamFiguresModel" (129 : Nat) ({ cls := "CamFiguresModel", name := "xAt", desc := "(II)I" } : Jvm.MethodName)) ∈ lw_all := lw_g (lw_at lw_m4 93 rfl) rfl
theorem q852 : (Jvm.Cond.privateMethod ({ cls := "CamFiguresModel", name := "xAt", desc := "(II)I" } : Jvm.MethodName)) ∈ lw_tbl := lw_at lw_m4 94 rfl
theorem q853 : (Jvm.Cond.instanceMethod ({ cls := "CamFiguresModel", name := "xAt", desc := "(II)I" } : Jvm.MethodName)) ∈ lw_all := lw_g (lw_at lw_m4 95 rfl) rfl
theorem q854 : (Jvm.Cond.code ({ cls := "CamFiguresModel", name := "xAt", desc := "(II)I" } : Jvm.MethodName) prog_13_method_30_code (3 : Nat) (Option.some Jvm.ClassFile.FieldType.int)) ∈ lw_all := lw_g (lw_at lw_m4 96 rfl) rfl
theorem q855 : (Jvm.Cond.methodLink "CamFiguresModel" (132 : Nat) ({ cls := "CamFiguresModel", name := "yAt", desc := "(II)I" } : Jvm.MethodName)) ∈ lw_all := lw_g (lw_at lw_m4 97 rfl) rfl
theorem q856 : (Jvm.Cond.privateMethod ({ cls := "CamFiguresModel", name := "yAt", desc := "(II)I" } : Jvm.MethodName)) ∈ lw_tbl := lw_at lw_m4 98 rfl
theorem q857 : (Jvm.Cond.instanceMethod ({ cls := "CamFiguresModel", name := "yAt", desc := "(II)I" } : Jvm.MethodName)) ∈ lw_all := lw_g (lw_at lw_m4 99 rfl) rfl
theorem q858 : (Jvm.Cond.code ({ cls := "CamFiguresModel", name := "yAt", desc := "(II)I" } : Jvm.MethodName) prog_13_method_31_code (4 : Nat) (Option.some Jvm.ClassFile.FieldType.int)) ∈ lw_all := lw_g (lw_at lw_m4 100 rfl) rfl
theorem q859 : (Jvm.Cond.methodLink "CamFiguresModel" (135 : Nat) ({ cls := "CamFiguresModel", name := "mark", desc := "(IIII)V" } : Jvm.MethodName)) ∈ lw_all := lw_g (lw_at lw_m4 101 rfl) rfl
theorem q860 : (Jvm.Cond.privateMethod ({ cls := "CamFiguresModel", name := "mark", desc := "(IIII)V" } : Jvm.MethodName)) ∈ lw_tbl := lw_at lw_m4 102 rfl
theorem q861 : (Jvm.Cond.instanceMethod ({ cls := "CamFiguresModel", name := "mark", desc := "(IIII)V" } : Jvm.MethodName)) ∈ lw_all := lw_g (lw_at lw_m4 103 rfl) rfl
theorem q862 : (Jvm.Cond.code ({ cls := "CamFiguresModel", name := "mark", desc := "(IIII)V" } : Jvm.MethodName) prog_13_method_34_code (6 : Nat) (Option.none : Option Jvm.ClassFile.FieldType)) ∈ lw_all := lw_g (lw_at lw_m4 104 rfl) rfl
theorem q863 : (Jvm.Cond.methodLink "CamFiguresModel" (139 : Nat) ({ cls := "CamFiguresModel", name := "lower", desc := "(II)I" } : Jvm.MethodName)) ∈ lw_all := lw_g (lw_at lw_m4 105 rfl) rfl
theorem q864 : (Jvm.Cond.static ({ cls := "CamFiguresModel", name := "lower", desc := "(II)I" } : Jvm.MethodName)) ∈ lw_all := lw_g (lw_at lw_m4 106 rfl) rfl
theorem q865 : (Jvm.Cond.code ({ cls := "CamFiguresModel", name := "lower", desc := "(II)I" } : Jvm.MethodName) prog_13_method_35_code (3 : Nat) (Option.some Jvm.ClassFile.FieldType.int)) ∈ lw_all := lw_g (lw_at lw_m4 107 rfl) rfl
theorem q867 : (Jvm.Cond.instanceMethod ({ cls := "CamFiguresModel", name := "marked", desc := "(II)I" } : Jvm.MethodName)) ∈ lw_all := lw_g (lw_at lw_m4 109 rfl) rfl
theorem q868 : (Jvm.Cond.selects "CamFiguresModel" ({ cls := "CamFiguresModel", name := "marked", desc := "(II)I" } : Jvm.MethodName) ({ cls := "CamFiguresModel", name := "marked", desc := "(II)I" } : Jvm.MethodName)) ∈ lw_all := lw_g (lw_at lw_m4 110 rfl) rfl
theorem q869 : (Jvm.Cond.code ({ cls := "CamFiguresModel", name := "marked", desc := "(II)I" } : Jvm.MethodName) prog_13_method_40_code (3 : Nat) (Option.some Jvm.ClassFile.FieldType.int)) ∈ lw_all := lw_g (lw_at lw_m4 111 rfl) rfl
theorem q870 : (Jvm.Cond.methodLink "CamFiguresModel" (172 : Nat) ({ cls := "CamFiguresModel", name := "isCell", desc := "(II)Z" } : Jvm.MethodName)) ∈ lw_all := lw_g (lw_at lw_m4 112 rfl) rfl
theorem q871 : (Jvm.Cond.static ({ cls := "CamFiguresModel", name := "isCell", desc := "(II)Z" } : Jvm.MethodName)) ∈ lw_all := lw_g (lw_at lw_m4 113 rfl) rfl
theorem q872 : (Jvm.Cond.code ({ cls := "CamFiguresModel", name := "isCell", desc := "(II)Z" } : Jvm.MethodName) prog_13_method_39_code (2 : Nat) (Option.some Jvm.ClassFile.FieldType.boolean)) ∈ lw_all := lw_g (lw_at lw_m4 114 rfl) rfl
theorem q874 : (Jvm.Cond.instanceMethod ({ cls := "CamFiguresModel", name := "first", desc := "(III)I" } : Jvm.MethodName)) ∈ lw_all := lw_g (lw_at lw_m4 116 rfl) rfl
theorem q875 : (Jvm.Cond.selects "CamFiguresModel" ({ cls := "CamFiguresModel", name := "first", desc := "(III)I" } : Jvm.MethodName) ({ cls := "CamFiguresModel", name := "first", desc := "(III)I" } : Jvm.MethodName)) ∈ lw_all := lw_g (lw_at lw_m4 117 rfl) rfl
theorem q876 : (Jvm.Cond.code ({ cls := "CamFiguresModel", name := "first", desc := "(III)I" } : Jvm.MethodName) prog_13_method_41_code (5 : Nat) (Option.some Jvm.ClassFile.FieldType.int)) ∈ lw_all := lw_g (lw_at lw_m4 118 rfl) rfl
theorem q878 : (Jvm.Cond.instanceMethod ({ cls := "CamFiguresModel", name := "marks", desc := "()I" } : Jvm.MethodName)) ∈ lw_all := lw_g (lw_at lw_m4 120 rfl) rfl
theorem q879 : (Jvm.Cond.selects "CamFiguresModel" ({ cls := "CamFiguresModel", name := "marks", desc := "()I" } : Jvm.MethodName) ({ cls := "CamFiguresModel", name := "marks", desc := "()I" } : Jvm.MethodName)) ∈ lw_all := lw_g (lw_at lw_m4 121 rfl) rfl
theorem q880 : (Jvm.Cond.code ({ cls := "CamFiguresModel", name := "marks", desc := "()I" } : Jvm.MethodName) prog_13_method_42_code (3 : Nat) (Option.some Jvm.ClassFile.FieldType.int)) ∈ lw_all := lw_g (lw_at lw_m4 122 rfl) rfl
theorem q882 : (Jvm.Cond.instanceMethod ({ cls := "CamFiguresModel", name := "see", desc := "(IIZ)I" } : Jvm.MethodName)) ∈ lw_all := lw_g (lw_at lw_m4 124 rfl) rfl
theorem q883 : (Jvm.Cond.selects "CamFiguresModel" ({ cls := "CamFiguresModel", name := "see", desc := "(IIZ)I" } : Jvm.MethodName) ({ cls := "CamFiguresModel", name := "see", desc := "(IIZ)I" } : Jvm.MethodName)) ∈ lw_all := lw_g (lw_at lw_m4 125 rfl) rfl
theorem q884 : (Jvm.Cond.code ({ cls := "CamFiguresModel", name := "see", desc := "(IIZ)I" } : Jvm.MethodName) prog_13_method_43_code (6 : Nat) (Option.some Jvm.ClassFile.FieldType.int)) ∈ lw_all := lw_g (lw_at lw_m4 126 rfl) rfl
theorem q886 : (Jvm.Cond.instanceMethod ({ cls := "CamFiguresModel", name := "fault", desc := "(II)I" } : Jvm.MethodName)) ∈ lw_all := lw_g (lw_at lw_m4 128 rfl) rfl
theorem q887 : (Jvm.Cond.selects "CamFiguresModel" ({ cls := "CamFiguresModel", name := "fault", desc := "(II)I" } : Jvm.MethodName) ({ cls := "CamFiguresModel", name := "fault", desc := "(II)I" } : Jvm.MethodName)) ∈ lw_all := lw_g (lw_at lw_m4 129 rfl) rfl
theorem q888 : (Jvm.Cond.code ({ cls := "CamFiguresModel", name := "fault", desc := "(II)I" } : Jvm.MethodName) prog_13_method_44_code (3 : Nat) (Option.some Jvm.ClassFile.FieldType.int)) ∈ lw_all := lw_g (lw_at lw_m4 130 rfl) rfl
theorem q890 : (Jvm.Cond.instanceMethod ({ cls := "CamFiguresModel", name := "mend", desc := "()I" } : Jvm.MethodName)) ∈ lw_all := lw_g (lw_at lw_m4 132 rfl) rfl
theorem q891 : (Jvm.Cond.selects "CamFiguresModel" ({ cls := "CamFiguresModel", name := "mend", desc := "()I" } : Jvm.MethodName) ({ cls := "CamFiguresModel", name := "mend", desc := "()I" } : Jvm.MethodName)) ∈ lw_all := lw_g (lw_at lw_m4 133 rfl) rfl
theorem q892 : (Jvm.Cond.code ({ cls := "CamFiguresModel", name := "mend", desc := "()I" } : Jvm.MethodName) prog_13_method_46_code (3 : Nat) (Option.some Jvm.ClassFile.FieldType.int)) ∈ lw_all := lw_g (lw_at lw_m4 134 rfl) rfl
theorem q893 : (Jvm.Cond.methodLink "CamFiguresModel" (175 : Nat) ({ cls := "CamFiguresModel", name := "faultMany", desc := "()I" } : Jvm.MethodName)) ∈ lw_all := lw_g (lw_at lw_m4 135 rfl) rfl
theorem q894 : (Jvm.Cond.privateMethod ({ cls := "CamFiguresModel", name := "faultMany", desc := "()I" } : Jvm.MethodName)) ∈ lw_tbl := lw_at lw_m4 136 rfl
theorem q895 : (Jvm.Cond.instanceMethod ({ cls := "CamFiguresModel", name := "faultMany", desc := "()I" } : Jvm.MethodName)) ∈ lw_all := lw_g (lw_at lw_m4 137 rfl) rfl
theorem q896 : (Jvm.Cond.code ({ cls := "CamFiguresModel", name := "faultMany", desc := "()I" } : Jvm.MethodName) prog_13_method_45_code (1 : Nat) (Option.some Jvm.ClassFile.FieldType.int)) ∈ lw_all := lw_g (lw_at lw_m4 138 rfl) rfl
theorem q898 : (Jvm.Cond.instanceMethod ({ cls := "CamFiguresModel", name := "explained", desc := "(I)I" } : Jvm.MethodName)) ∈ lw_all := lw_g (lw_at lw_m4 140 rfl) rfl
theorem q899 : (Jvm.Cond.selects "CamFiguresModel" ({ cls := "CamFiguresModel", name := "explained", desc := "(I)I" } : Jvm.MethodName) ({ cls := "CamFiguresModel", name := "explained", desc := "(I)I" } : Jvm.MethodName)) ∈ lw_all := lw_g (lw_at lw_m4 141 rfl) rfl
theorem q900 : (Jvm.Cond.code ({ cls := "CamFiguresModel", name := "explained", desc := "(I)I" } : Jvm.MethodName) prog_13_method_49_code (3 : Nat) (Option.some Jvm.ClassFile.FieldType.int)) ∈ lw_all := lw_g (lw_at lw_m4 142 rfl) rfl
theorem q901 : (Jvm.Cond.methodLink "CamFiguresModel" (184 : Nat) ({ cls := "CamFiguresModel", name := "findKind", desc := "()I" } : Jvm.MethodName)) ∈ lw_all := lw_g (lw_at lw_m4 143 rfl) rfl
theorem q902 : (Jvm.Cond.privateMethod ({ cls := "CamFiguresModel", name := "findKind", desc := "()I" } : Jvm.MethodName)) ∈ lw_tbl := lw_at lw_m4 144 rfl
theorem q903 : (Jvm.Cond.instanceMethod ({ cls := "CamFiguresModel", name := "findKind", desc := "()I" } : Jvm.MethodName)) ∈ lw_all := lw_g (lw_at lw_m4 145 rfl) rfl
theorem q904 : (Jvm.Cond.code ({ cls := "CamFiguresModel", name := "findKind", desc := "()I" } : Jvm.MethodName) prog_13_method_48_code (2 : Nat) (Option.some Jvm.ClassFile.FieldType.int)) ∈ lw_all := lw_g (lw_at lw_m4 146 rfl) rfl
theorem q905 : (Jvm.Cond.methodLink "CamFiguresModel" (181 : Nat) ({ cls := "CamFiguresModel", name := "isWritten", desc := "(III)Z" } : Jvm.MethodName)) ∈ lw_all := lw_g (lw_at lw_m4 147 rfl) rfl
theorem q906 : (Jvm.Cond.privateMethod ({ cls := "CamFiguresModel", name := "isWritten", desc := "(III)Z" } : Jvm.MethodName)) ∈ lw_tbl := lw_at lw_m4 148 rfl
theorem q907 : (Jvm.Cond.instanceMethod ({ cls := "CamFiguresModel", name := "isWritten", desc := "(III)Z" } : Jvm.MethodName)) ∈ lw_all := lw_g (lw_at lw_m4 149 rfl) rfl
theorem q908 : (Jvm.Cond.code ({ cls := "CamFiguresModel", name := "isWritten", desc := "(III)Z" } : Jvm.MethodName) prog_13_method_47_code (6 : Nat) (Option.some Jvm.ClassFile.FieldType.boolean)) ∈ lw_all := lw_g (lw_at lw_m4 150 rfl) rfl
theorem q910 : (Jvm.Cond.instanceMethod ({ cls := "CamFiguresModel", name := "made", desc := "(II)I" } : Jvm.MethodName)) ∈ lw_all := lw_g (lw_at lw_m4 152 rfl) rfl
theorem q911 : (Jvm.Cond.selects "CamFiguresModel" ({ cls := "CamFiguresModel", name := "made", desc := "(II)I" } : Jvm.MethodName) ({ cls := "CamFiguresModel", name := "made", desc := "(II)I" } : Jvm.MethodName)) ∈ lw_all := lw_g (lw_at lw_m4 153 rfl) rfl
theorem q912 : (Jvm.Cond.code ({ cls := "CamFiguresModel", name := "made", desc := "(II)I" } : Jvm.MethodName) prog_13_method_51_code (4 : Nat) (Option.some Jvm.ClassFile.FieldType.int)) ∈ lw_all := lw_g (lw_at lw_m4 154 rfl) rfl
theorem q913 : (Jvm.Cond.methodLink "CamFiguresModel" (187 : Nat) ({ cls := "CamFiguresModel", name := "timesIn", desc := "(II)I" } : Jvm.MethodName)) ∈ lw_all := lw_g (lw_at lw_m4 155 rfl) rfl
theorem q914 : (Jvm.Cond.privateMethod ({ cls := "CamFiguresModel", name := "timesIn", desc := "(II)I" } : Jvm.MethodName)) ∈ lw_tbl := lw_at lw_m4 156 rfl
theorem q915 : (Jvm.Cond.instanceMethod ({ cls := "CamFiguresModel", name := "timesIn", desc := "(II)I" } : Jvm.MethodName)) ∈ lw_all := lw_g (lw_at lw_m4 157 rfl) rfl
theorem q916 : (Jvm.Cond.code ({ cls := "CamFiguresModel", name := "timesIn", desc := "(II)I" } : Jvm.MethodName) prog_13_method_50_code (5 : Nat) (Option.some Jvm.ClassFile.FieldType.int)) ∈ lw_all := lw_g (lw_at lw_m4 158 rfl) rfl
theorem q918 : (Jvm.Cond.instanceMethod ({ cls := "CamFiguresModel", name := "like", desc := "(II)I" } : Jvm.MethodName)) ∈ lw_all := lw_g (lw_at lw_m4 160 rfl) rfl
theorem q919 : (Jvm.Cond.selects "CamFiguresModel" ({ cls := "CamFiguresModel", name := "like", desc := "(II)I" } : Jvm.MethodName) ({ cls := "CamFiguresModel", name := "like", desc := "(II)I" } : Jvm.MethodName)) ∈ lw_all := lw_g (lw_at lw_m4 161 rfl) rfl
theorem q920 : (Jvm.Cond.code ({ cls := "CamFiguresModel", name := "like", desc := "(II)I" } : Jvm.MethodName) prog_13_method_53_code (3 : Nat) (Option.some Jvm.ClassFile.FieldType.int)) ∈ lw_all := lw_g (lw_at lw_m4 162 rfl) rfl
theorem q921 : (Jvm.Cond.methodLink "CamFiguresModel" (190 : Nat) ({ cls := "CamFiguresModel", name := "likeness", desc := "(II)I" } : Jvm.MethodName)) ∈ lw_all := lw_g (lw_at lw_m4 163 rfl) rfl
theorem q922 : (Jvm.Cond.privateMethod ({ cls := "CamFiguresModel", name := "likeness", desc := "(II)I" } : Jvm.MethodName)) ∈ lw_tbl := lw_at lw_m4 164 rfl
theorem q923 : (Jvm.Cond.instanceMethod ({ cls := "CamFiguresModel", name := "likeness", desc := "(II)I" } : Jvm.MethodName)) ∈ lw_all := lw_g (lw_at lw_m4 165 rfl) rfl
theorem q924 : (Jvm.Cond.code ({ cls := "CamFiguresModel", name := "likeness", desc := "(II)I" } : Jvm.MethodName) prog_13_method_52_code (6 : Nat) (Option.some Jvm.ClassFile.FieldType.int)) ∈ lw_all := lw_g (lw_at lw_m4 166 rfl) rfl
theorem q926 : (Jvm.Cond.instanceMethod ({ cls := "CamFiguresModel", name := "whose", desc := "(I)I" } : Jvm.MethodName)) ∈ lw_all := lw_g (lw_at lw_m4 168 rfl) rfl
theorem q927 : (Jvm.Cond.selects "CamFiguresModel" ({ cls := "CamFiguresModel", name := "whose", desc := "(I)I" } : Jvm.MethodName) ({ cls := "CamFiguresModel", name := "whose", desc := "(I)I" } : Jvm.MethodName)) ∈ lw_all := lw_g (lw_at lw_m4 169 rfl) rfl
theorem q928 : (Jvm.Cond.code ({ cls := "CamFiguresModel", name := "whose", desc := "(I)I" } : Jvm.MethodName) prog_13_method_54_code (5 : Nat) (Option.some Jvm.ClassFile.FieldType.int)) ∈ lw_all := lw_g (lw_at lw_m4 170 rfl) rfl
theorem q930 : (Jvm.Cond.instanceMethod ({ cls := "CamFiguresModel", name := "count", desc := "(I)I" } : Jvm.MethodName)) ∈ lw_all := lw_g (lw_at lw_m4 172 rfl) rfl
theorem q931 : (Jvm.Cond.selects "CamFiguresModel" ({ cls := "CamFiguresModel", name := "count", desc := "(I)I" } : Jvm.MethodName) ({ cls := "CamFiguresModel", name := "count", desc := "(I)I" } : Jvm.MethodName)) ∈ lw_all := lw_g (lw_at lw_m4 173 rfl) rfl
theorem q932 : (Jvm.Cond.code ({ cls := "CamFiguresModel", name := "count", desc := "(I)I" } : Jvm.MethodName) prog_13_method_55_code (4 : Nat) (Option.some Jvm.ClassFile.FieldType.int)) ∈ lw_all := lw_g (lw_at lw_m4 174 rfl) rfl
theorem in_X4 : ∀ w ∈ wsX40, w ∈ lw_all := lw_in wsX40 [664, 666, 668, 670, 672, 674, 676, 678, 680, 682, 684, 686, 688, 690, 692, 694, 696, 698, 700, 702, 704, 706, 708, 710, 712, 714, 716, 718, 720, 722, 724, 726] (by decide +kernel) (by decide +kernel)
theorem dX4_init_0 : decode cX4_init 0 = .ok (.aload_n 0, 1) := by decide +kernel
theorem dX4_init_1 : decode cX4_init 1 = .ok (.invokespecial 1, 3) := by decide +kernel
theorem dX4_init_4 : decode cX4_init 4 = .ok (.aload_n 0, 1) := by decide +kernel
theorem dX4_init_5 : decode cX4_init 5 = .ok (.bipush 8, 2) := by decide +kernel
theorem dX4_init_7 : decode cX4_init 7 = .ok (.putfield 7, 3) := by decide +kernel
theorem dX4_init_10 : decode cX4_init 10 = .ok (.aload_n 0, 1) := by decide +kernel
theorem dX4_init_11 : decode cX4_init 11 = .ok (.bipush 12, 2) := by decide +kernel
theorem dX4_init_13 : decode cX4_init 13 = .ok (.newarray .boolean, 2) := by decide +kernel
theorem dX4_init_15 : decode cX4_init 15 = .ok (.putfield 13, 3) := by decide +kernel
theorem dX4_init_18 : decode cX4_init 18 = .ok (.aload_n 0, 1) := by decide +kernel
theorem dX4_init_19 : decode cX4_init 19 = .ok (.sipush 192, 3) := by decide +kernel
theorem dX4_init_22 : decode cX4_init 22 = .ok (.newarray .int, 2) := by decide +kernel
theorem dX4_init_24 : decode cX4_init 24 = .ok (.putfield 17, 3) := by decide +kernel
theorem dX4_init_27 : decode cX4_init 27 = .ok (.aload_n 0, 1) := by decide +kernel
theorem dX4_init_28 : decode cX4_init 28 = .ok (.bipush 10, 2) := by decide +kernel
theorem dX4_init_30 : decode cX4_init 30 = .ok (.newarray .int, 2) := by decide +kernel
theorem dX4_init_32 : decode cX4_init 32 = .ok (.putfield 21, 3) := by decide +kernel
theorem dX4_init_35 : decode cX4_init 35 = .ok (.aload_n 0, 1) := by decide +kernel
theorem dX4_init_36 : decode cX4_init 36 = .ok (.bipush 10, 2) := by decide +kernel
theorem dX4_init_38 : decode cX4_init 38 = .ok (.newarray .int, 2) := by decide +kernel
theorem dX4_init_40 : decode cX4_init 40 = .ok (.putfield 24, 3) := by decide +kernel
theorem dX4_init_43 : decode cX4_init 43 = .ok (.aload_n 0, 1) := by decide +kernel
theorem dX4_init_44 : decode cX4_init 44 = .ok (.bipush 10, 2) := by decide +kernel
theorem dX4_init_46 : decode cX4_init 46 = .ok (.newarray .int, 2) := by decide +kernel
theorem dX4_init_48 : decode cX4_init 48 = .ok (.putfield 27, 3) := by decide +kernel
theorem dX4_init_51 : decode cX4_init 51 = .ok (.aload_n 0, 1) := by decide +kernel
theorem dX4_init_52 : decode cX4_init 52 = .ok (.bipush 12, 2) := by decide +kernel
theorem dX4_init_54 : decode cX4_init 54 = .ok (.newarray .int, 2) := by decide +kernel
theorem dX4_init_56 : decode cX4_init 56 = .ok (.putfield 30, 3) := by decide +kernel
theorem dX4_init_59 : decode cX4_init 59 = .ok (.aload_n 0, 1) := by decide +kernel
theorem dX4_init_60 : decode cX4_init 60 = .ok (.iconst 5, 1) := by decide +kernel
theorem dX4_init_61 : decode cX4_init 61 = .ok (.putfield 33, 3) := by decide +kernel
theorem dX4_init_64 : decode cX4_init 64 = .ok (.aload_n 0, 1) := by decide +kernel
theorem dX4_init_65 : decode cX4_init 65 = .ok (.iconst 2, 1) := by decide +kernel
theorem dX4_init_66 : decode cX4_init 66 = .ok (.putfield 36, 3) := by decide +kernel
theorem dX4_init_69 : decode cX4_init 69 = .ok (.aload_n 0, 1) := by decide +kernel
theorem dX4_init_70 : decode cX4_init 70 = .ok (.sipush 1200, 3) := by decide +kernel
theorem dX4_init_73 : decode cX4_init 73 = .ok (.newarray .int, 2) := by decide +kernel
theorem dX4_init_75 : decode cX4_init 75 = .ok (.putfield 39, 3) := by decide +kernel
theorem dX4_init_78 : decode cX4_init 78 = .ok (.aload_n 0, 1) := by decide +kernel
theorem dX4_init_79 : decode cX4_init 79 = .ok (.sipush 1200, 3) := by decide +kernel
theorem dX4_init_82 : decode cX4_init 82 = .ok (.newarray .int, 2) := by decide +kernel
theorem dX4_init_84 : decode cX4_init 84 = .ok (.putfield 42, 3) := by decide +kernel
theorem dX4_init_87 : decode cX4_init 87 = .ok (.aload_n 0, 1) := by decide +kernel
theorem dX4_init_88 : decode cX4_init 88 = .ok (.iconst 4, 1) := by decide +kernel
theorem dX4_init_89 : decode cX4_init 89 = .ok (.newarray .int, 2) := by decide +kernel
theorem dX4_init_91 : decode cX4_init 91 = .ok (.dup, 1) := by decide +kernel
theorem dX4_init_92 : decode cX4_init 92 = .ok (.iconst 0, 1) := by decide +kernel
theorem dX4_init_93 : decode cX4_init 93 = .ok (.iconst (-1), 1) := by decide +kernel
theorem dX4_init_94 : decode cX4_init 94 = .ok (.iastore, 1) := by decide +kernel
theorem dX4_init_95 : decode cX4_init 95 = .ok (.dup, 1) := by decide +kernel
theorem dX4_init_96 : decode cX4_init 96 = .ok (.iconst 1, 1) := by decide +kernel
theorem dX4_init_97 : decode cX4_init 97 = .ok (.iconst (-1), 1) := by decide +kernel
theorem dX4_init_98 : decode cX4_init 98 = .ok (.iastore, 1) := by decide +kernel
theorem dX4_init_99 : decode cX4_init 99 = .ok (.dup, 1) := by decide +kernel
theorem dX4_init_100 : decode cX4_init 100 = .ok (.iconst 2, 1) := by decide +kernel
theorem dX4_init_101 : decode cX4_init 101 = .ok (.iconst (-1), 1) := by decide +kernel
theorem dX4_init_102 : decode cX4_init 102 = .ok (.iastore, 1) := by decide +kernel
theorem dX4_init_103 : decode cX4_init 103 = .ok (.dup, 1) := by decide +kernel
theorem dX4_init_104 : decode cX4_init 104 = .ok (.iconst 3, 1) := by decide +kernel
theorem dX4_init_105 : decode cX4_init 105 = .ok (.iconst (-1), 1) := by decide +kernel
theorem dX4_init_106 : decode cX4_init 106 = .ok (.iastore, 1) := by decide +kernel
theorem dX4_init_107 : decode cX4_init 107 = .ok (.putfield 45, 3) := by decide +kernel
theorem dX4_init_110 : decode cX4_init 110 = .ok (.aload_n 0, 1) := by decide +kernel
theorem dX4_init_111 : decode cX4_init 111 = .ok (.bipush 40, 2) := by decide +kernel
theorem dX4_init_113 : decode cX4_init 113 = .ok (.newarray .int, 2) := by decide +kernel
theorem dX4_init_115 : decode cX4_init 115 = .ok (.putfield 48, 3) := by decide +kernel
theorem dX4_init_118 : decode cX4_init 118 = .ok (.aload_n 0, 1) := by decide +kernel
theorem dX4_init_119 : decode cX4_init 119 = .ok (.iconst 4, 1) := by decide +kernel
theorem dX4_init_120 : decode cX4_init 120 = .ok (.newarray .int, 2) := by decide +kernel
theorem dX4_init_122 : decode cX4_init 122 = .ok (.putfield 51, 3) := by decide +kernel
theorem dX4_init_125 : decode cX4_init 125 = .ok (.aload_n 0, 1) := by decide +kernel
theorem dX4_init_126 : decode cX4_init 126 = .ok (.bipush 8, 2) := by decide +kernel
theorem dX4_init_128 : decode cX4_init 128 = .ok (.newarray .int, 2) := by decide +kernel
theorem dX4_init_130 : decode cX4_init 130 = .ok (.putfield 54, 3) := by decide +kernel
theorem dX4_init_133 : decode cX4_init 133 = .ok (.aload_n 0, 1) := by decide +kernel
theorem dX4_init_134 : decode cX4_init 134 = .ok (.bipush 16, 2) := by decide +kernel
theorem dX4_init_136 : decode cX4_init 136 = .ok (.newarray .int, 2) := by decide +kernel
theorem dX4_init_138 : decode cX4_init 138 = .ok (.putfield 57, 3) := by decide +kernel
theorem dX4_init_141 : decode cX4_init 141 = .ok (.aload_n 0, 1) := by decide +kernel
theorem dX4_init_142 : decode cX4_init 142 = .ok (.bipush 12, 2) := by decide +kernel
theorem dX4_init_144 : decode cX4_init 144 = .ok (.newarray .int, 2) := by decide +kernel
theorem dX4_init_146 : decode cX4_init 146 = .ok (.putfield 60, 3) := by decide +kernel
theorem dX4_init_149 : decode cX4_init 149 = .ok (.aload_n 0, 1) := by decide +kernel
theorem dX4_init_150 : decode cX4_init 150 = .ok (.bipush 12, 2) := by decide +kernel
theorem dX4_init_152 : decode cX4_init 152 = .ok (.newarray .int, 2) := by decide +kernel
theorem dX4_init_154 : decode cX4_init 154 = .ok (.putfield 63, 3) := by decide +kernel
theorem dX4_init_157 : decode cX4_init 157 = .ok (.aload_n 0, 1) := by decide +kernel
theorem dX4_init_158 : decode cX4_init 158 = .ok (.sipush 1200, 3) := by decide +kernel
theorem dX4_init_161 : decode cX4_init 161 = .ok (.newarray .int, 2) := by decide +kernel
theorem dX4_init_163 : decode cX4_init 163 = .ok (.putfield 66, 3) := by decide +kernel
theorem dX4_init_166 : decode cX4_init 166 = .ok (.aload_n 0, 1) := by decide +kernel
theorem dX4_init_167 : decode cX4_init 167 = .ok (.sipush 1200, 3) := by decide +kernel
theorem dX4_init_170 : decode cX4_init 170 = .ok (.newarray .int, 2) := by decide +kernel
theorem dX4_init_172 : decode cX4_init 172 = .ok (.putfield 69, 3) := by decide +kernel
theorem dX4_init_175 : decode cX4_init 175 = .ok (.aload_n 0, 1) := by decide +kernel
theorem dX4_init_176 : decode cX4_init 176 = .ok (.invokevirtual 72, 3) := by decide +kernel
theorem dX4_init_179 : decode cX4_init 179 = .ok (.return_, 1) := by decide +kernel
theorem dX4_clearPaper_0 : decode cX4_clearPaper 0 = .ok (.iconst 0, 1) := by decide +kernel
theorem dX4_clearPaper_1 : decode cX4_clearPaper 1 = .ok (.istore_n 1, 1) := by decide +kernel
theorem dX4_clearPaper_2 : decode cX4_clearPaper 2 = .ok (.iload_n 1, 1) := by decide +kernel
theorem dX4_clearPaper_3 : decode cX4_clearPaper 3 = .ok (.sipush 1200, 3) := by decide +kernel
theorem dX4_clearPaper_6 : decode cX4_clearPaper 6 = .ok (.if_icmp .ge 23, 3) := by decide +kernel
theorem dX4_clearPaper_9 : decode cX4_clearPaper 9 = .ok (.aload_n 0, 1) := by decide +kernel
theorem dX4_clearPaper_10 : decode cX4_clearPaper 10 = .ok (.getfield 39, 3) := by decide +kernel
theorem dX4_clearPaper_13 : decode cX4_clearPaper 13 = .ok (.iload_n 1, 1) := by decide +kernel
theorem dX4_clearPaper_14 : decode cX4_clearPaper 14 = .ok (.iconst (-1), 1) := by decide +kernel
theorem dX4_clearPaper_15 : decode cX4_clearPaper 15 = .ok (.iastore, 1) := by decide +kernel
theorem dX4_clearPaper_16 : decode cX4_clearPaper 16 = .ok (.aload_n 0, 1) := by decide +kernel
theorem dX4_clearPaper_17 : decode cX4_clearPaper 17 = .ok (.getfield 42, 3) := by decide +kernel
theorem dX4_clearPaper_20 : decode cX4_clearPaper 20 = .ok (.iload_n 1, 1) := by decide +kernel
theorem dX4_clearPaper_21 : decode cX4_clearPaper 21 = .ok (.iconst (-1), 1) := by decide +kernel
theorem dX4_clearPaper_22 : decode cX4_clearPaper 22 = .ok (.iastore, 1) := by decide +kernel
theorem dX4_clearPaper_23 : decode cX4_clearPaper 23 = .ok (.iinc 1 1, 3) := by decide +kernel
theorem dX4_clearPaper_26 : decode cX4_clearPaper 26 = .ok (.goto (-24), 3) := by decide +kernel
theorem dX4_clearPaper_29 : decode cX4_clearPaper 29 = .ok (.return_, 1) := by decide +kernel
theorem dX4_length_0 : decode cX4_length 0 = .ok (.iload_n 1, 1) := by decide +kernel
theorem dX4_length_1 : decode cX4_length 1 = .ok (.iconst 2, 1) := by decide +kernel
theorem dX4_length_2 : decode cX4_length 2 = .ok (.if_icmp .ge 10, 3) := by decide +kernel
theorem dX4_length_5 : decode cX4_length 5 = .ok (.aload_n 0, 1) := by decide +kernel
theorem dX4_length_6 : decode cX4_length 6 = .ok (.bipush (-4), 2) := by decide +kernel
theorem dX4_length_8 : decode cX4_length 8 = .ok (.invokevirtual 79, 3) := by decide +kernel
theorem dX4_length_11 : decode cX4_length 11 = .ok (.ireturn, 1) := by decide +kernel
theorem dX4_length_12 : decode cX4_length 12 = .ok (.iload_n 1, 1) := by decide +kernel
theorem dX4_length_13 : decode cX4_length 13 = .ok (.bipush 16, 2) := by decide +kernel
theorem dX4_length_15 : decode cX4_length 15 = .ok (.if_icmp .le 10, 3) := by decide +kernel
theorem dX4_length_18 : decode cX4_length 18 = .ok (.aload_n 0, 1) := by decide +kernel
theorem dX4_length_19 : decode cX4_length 19 = .ok (.bipush (-6), 2) := by decide +kernel
theorem dX4_length_21 : decode cX4_length 21 = .ok (.invokevirtual 79, 3) := by decide +kernel
theorem dX4_length_24 : decode cX4_length 24 = .ok (.ireturn, 1) := by decide +kernel
theorem dX4_length_25 : decode cX4_length 25 = .ok (.aload_n 0, 1) := by decide +kernel
theorem dX4_length_26 : decode cX4_length 26 = .ok (.getfield 7, 3) := by decide +kernel
theorem dX4_length_29 : decode cX4_length 29 = .ok (.istore_n 2, 1) := by decide +kernel
theorem dX4_length_30 : decode cX4_length 30 = .ok (.aload_n 0, 1) := by decide +kernel
theorem dX4_length_31 : decode cX4_length 31 = .ok (.iload_n 1, 1) := by decide +kernel
theorem dX4_length_32 : decode cX4_length 32 = .ok (.putfield 7, 3) := by decide +kernel
theorem dX4_length_35 : decode cX4_length 35 = .ok (.iconst 0, 1) := by decide +kernel
theorem dX4_length_36 : decode cX4_length 36 = .ok (.istore_n 3, 1) := by decide +kernel
theorem dX4_length_37 : decode cX4_length 37 = .ok (.iload_n 3, 1) := by decide +kernel
theorem dX4_length_38 : decode cX4_length 38 = .ok (.bipush 12, 2) := by decide +kernel
theorem dX4_length_40 : decode cX4_length 40 = .ok (.if_icmp .ge 16, 3) := by decide +kernel
theorem dX4_length_43 : decode cX4_length 43 = .ok (.aload_n 0, 1) := by decide +kernel
theorem dX4_length_44 : decode cX4_length 44 = .ok (.getfield 13, 3) := by decide +kernel
theorem dX4_length_47 : decode cX4_length 47 = .ok (.iload_n 3, 1) := by decide +kernel
theorem dX4_length_48 : decode cX4_length 48 = .ok (.iconst 0, 1) := by decide +kernel
theorem dX4_length_49 : decode cX4_length 49 = .ok (.bastore, 1) := by decide +kernel
theorem dX4_length_50 : decode cX4_length 50 = .ok (.iinc 3 1, 3) := by decide +kernel
theorem dX4_length_53 : decode cX4_length 53 = .ok (.goto (-16), 3) := by decide +kernel
theorem dX4_length_56 : decode cX4_length 56 = .ok (.aload_n 0, 1) := by decide +kernel
theorem dX4_length_57 : decode cX4_length 57 = .ok (.invokevirtual 72, 3) := by decide +kernel
theorem dX4_length_60 : decode cX4_length 60 = .ok (.iload_n 2, 1) := by decide +kernel
theorem dX4_length_61 : decode cX4_length 61 = .ok (.ireturn, 1) := by decide +kernel
theorem dX4_refuse_0 : decode cX4_refuse 0 = .ok (.aload_n 0, 1) := by decide +kernel
theorem dX4_refuse_1 : decode cX4_refuse 1 = .ok (.getfield 54, 3) := by decide +kernel
theorem dX4_refuse_4 : decode cX4_refuse 4 = .ok (.iload_n 1, 1) := by decide +kernel
theorem dX4_refuse_5 : decode cX4_refuse 5 = .ok (.ineg, 1) := by decide +kernel
theorem dX4_refuse_6 : decode cX4_refuse 6 = .ok (.dup2, 1) := by decide +kernel
theorem dX4_refuse_7 : decode cX4_refuse 7 = .ok (.iaload, 1) := by decide +kernel
theorem dX4_refuse_8 : decode cX4_refuse 8 = .ok (.iconst 1, 1) := by decide +kernel
theorem dX4_refuse_9 : decode cX4_refuse 9 = .ok (.iadd, 1) := by decide +kernel
theorem dX4_refuse_10 : decode cX4_refuse 10 = .ok (.iastore, 1) := by decide +kernel
theorem dX4_refuse_11 : decode cX4_refuse 11 = .ok (.iload_n 1, 1) := by decide +kernel
theorem dX4_refuse_12 : decode cX4_refuse 12 = .ok (.ireturn, 1) := by decide +kernel
theorem dX4_blank_0 : decode cX4_blank 0 = .ok (.iload_n 1, 1) := by decide +kernel
theorem dX4_blank_1 : decode cX4_blank 1 = .ok (.invokestatic 83, 3) := by decide +kernel
theorem dX4_blank_4 : decode cX4_blank 4 = .ok (.ifCond .ne 9, 3) := by decide +kernel
theorem dX4_blank_7 : decode cX4_blank 7 = .ok (.aload_n 0, 1) := by decide +kernel
theorem dX4_blank_8 : decode cX4_blank 8 = .ok (.iconst (-1), 1) := by decide +kernel
theorem dX4_blank_9 : decode cX4_blank 9 = .ok (.invokevirtual 79, 3) := by decide +kernel
theorem dX4_blank_12 : decode cX4_blank 12 = .ok (.ireturn, 1) := by decide +kernel
theorem dX4_blank_13 : decode cX4_blank 13 = .ok (.aload_n 0, 1) := by decide +kernel
theorem dX4_blank_14 : decode cX4_blank 14 = .ok (.getfield 13, 3) := by decide +kernel
theorem dX4_blank_17 : decode cX4_blank 17 = .ok (.iload_n 1, 1) := by decide +kernel
theorem dX4_blank_18 : decode cX4_blank 18 = .ok (.baload, 1) := by decide +kernel
theorem dX4_blank_19 : decode cX4_blank 19 = .ok (.istore_n 2, 1) := by decide +kernel
theorem dX4_blank_20 : decode cX4_blank 20 = .ok (.aload_n 0, 1) := by decide +kernel
theorem dX4_blank_21 : decode cX4_blank 21 = .ok (.getfield 13, 3) := by decide +kernel
theorem dX4_blank_24 : decode cX4_blank 24 = .ok (.iload_n 1, 1) := by decide +kernel
theorem dX4_blank_25 : decode cX4_blank 25 = .ok (.iconst 1, 1) := by decide +kernel
theorem dX4_blank_26 : decode cX4_blank 26 = .ok (.bastore, 1) := by decide +kernel
theorem dX4_blank_27 : decode cX4_blank 27 = .ok (.iconst 0, 1) := by decide +kernel
theorem dX4_blank_28 : decode cX4_blank 28 = .ok (.istore_n 3, 1) := by decide +kernel
theorem dX4_blank_29 : decode cX4_blank 29 = .ok (.iload_n 3, 1) := by decide +kernel
theorem dX4_blank_30 : decode cX4_blank 30 = .ok (.bipush 16, 2) := by decide +kernel
theorem dX4_blank_32 : decode cX4_blank 32 = .ok (.if_icmp .ge 21, 3) := by decide +kernel
theorem dX4_blank_35 : decode cX4_blank 35 = .ok (.aload_n 0, 1) := by decide +kernel
theorem dX4_blank_36 : decode cX4_blank 36 = .ok (.getfield 17, 3) := by decide +kernel
theorem dX4_blank_39 : decode cX4_blank 39 = .ok (.bipush 16, 2) := by decide +kernel
theorem dX4_blank_41 : decode cX4_blank 41 = .ok (.iload_n 1, 1) := by decide +kernel
theorem dX4_blank_42 : decode cX4_blank 42 = .ok (.imul, 1) := by decide +kernel
theorem dX4_blank_43 : decode cX4_blank 43 = .ok (.iload_n 3, 1) := by decide +kernel
theorem dX4_blank_44 : decode cX4_blank 44 = .ok (.iadd, 1) := by decide +kernel
theorem dX4_blank_45 : decode cX4_blank 45 = .ok (.iconst 0, 1) := by decide +kernel
theorem dX4_blank_46 : decode cX4_blank 46 = .ok (.iastore, 1) := by decide +kernel
theorem dX4_blank_47 : decode cX4_blank 47 = .ok (.iinc 3 1, 3) := by decide +kernel
theorem dX4_blank_50 : decode cX4_blank 50 = .ok (.goto (-21), 3) := by decide +kernel
theorem dX4_blank_53 : decode cX4_blank 53 = .ok (.iload_n 2, 1) := by decide +kernel
theorem dX4_blank_54 : decode cX4_blank 54 = .ok (.ifCond .eq 7, 3) := by decide +kernel
theorem dX4_blank_57 : decode cX4_blank 57 = .ok (.iconst 0, 1) := by decide +kernel
theorem dX4_blank_58 : decode cX4_blank 58 = .ok (.goto 4, 3) := by decide +kernel
theorem dX4_blank_61 : decode cX4_blank 61 = .ok (.iconst 1, 1) := by decide +kernel
theorem dX4_blank_62 : decode cX4_blank 62 = .ok (.ireturn, 1) := by decide +kernel
theorem dX4_isCam_0 : decode cX4_isCam 0 = .ok (.iload_n 0, 1) := by decide +kernel
theorem dX4_isCam_1 : decode cX4_isCam 1 = .ok (.iconst 0, 1) := by decide +kernel
theorem dX4_isCam_2 : decode cX4_isCam 2 = .ok (.bipush 11, 2) := by decide +kernel
theorem dX4_isCam_4 : decode cX4_isCam 4 = .ok (.invokestatic 75, 3) := by decide +kernel
theorem dX4_isCam_7 : decode cX4_isCam 7 = .ok (.ireturn, 1) := by decide +kernel
theorem dX4_in_0 : decode cX4_in 0 = .ok (.iload_n 0, 1) := by decide +kernel
theorem dX4_in_1 : decode cX4_in 1 = .ok (.iload_n 1, 1) := by decide +kernel
theorem dX4_in_2 : decode cX4_in 2 = .ok (.if_icmp .lt 12, 3) := by decide +kernel
theorem dX4_in_5 : decode cX4_in 5 = .ok (.iload_n 0, 1) := by decide +kernel
theorem dX4_in_6 : decode cX4_in 6 = .ok (.iload_n 2, 1) := by decide +kernel
theorem dX4_in_7 : decode cX4_in 7 = .ok (.if_icmp .gt 7, 3) := by decide +kernel
theorem dX4_in_10 : decode cX4_in 10 = .ok (.iconst 1, 1) := by decide +kernel
theorem dX4_in_11 : decode cX4_in 11 = .ok (.goto 4, 3) := by decide +kernel
theorem dX4_in_14 : decode cX4_in 14 = .ok (.iconst 0, 1) := by decide +kernel
theorem dX4_in_15 : decode cX4_in 15 = .ok (.ireturn, 1) := by decide +kernel
theorem dX4_lose_0 : decode cX4_lose 0 = .ok (.aload_n 0, 1) := by decide +kernel
theorem dX4_lose_1 : decode cX4_lose 1 = .ok (.iload_n 1, 1) := by decide +kernel
theorem dX4_lose_2 : decode cX4_lose 2 = .ok (.invokevirtual 87, 3) := by decide +kernel
theorem dX4_lose_5 : decode cX4_lose 5 = .ok (.istore_n 2, 1) := by decide +kernel
theorem dX4_lose_6 : decode cX4_lose 6 = .ok (.iload_n 2, 1) := by decide +kernel
theorem dX4_lose_7 : decode cX4_lose 7 = .ok (.ifCond .ge 9, 3) := by decide +kernel
theorem dX4_lose_10 : decode cX4_lose 10 = .ok (.aload_n 0, 1) := by decide +kernel
theorem dX4_lose_11 : decode cX4_lose 11 = .ok (.iload_n 2, 1) := by decide +kernel
theorem dX4_lose_12 : decode cX4_lose 12 = .ok (.invokevirtual 79, 3) := by decide +kernel
theorem dX4_lose_15 : decode cX4_lose 15 = .ok (.ireturn, 1) := by decide +kernel
theorem dX4_lose_16 : decode cX4_lose 16 = .ok (.aload_n 0, 1) := by decide +kernel
theorem dX4_lose_17 : decode cX4_lose 17 = .ok (.getfield 13, 3) := by decide +kernel
theorem dX4_lose_20 : decode cX4_lose 20 = .ok (.iload_n 1, 1) := by decide +kernel
theorem dX4_lose_21 : decode cX4_lose 21 = .ok (.iconst 0, 1) := by decide +kernel
theorem dX4_lose_22 : decode cX4_lose 22 = .ok (.bastore, 1) := by decide +kernel
theorem dX4_lose_23 : decode cX4_lose 23 = .ok (.iconst 1, 1) := by decide +kernel
theorem dX4_lose_24 : decode cX4_lose 24 = .ok (.ireturn, 1) := by decide +kernel
theorem dX4_lacks_0 : decode cX4_lacks 0 = .ok (.iload_n 1, 1) := by decide +kernel
theorem dX4_lacks_1 : decode cX4_lacks 1 = .ok (.invokestatic 83, 3) := by decide +kernel
theorem dX4_lacks_4 : decode cX4_lacks 4 = .ok (.ifCond .ne 7, 3) := by decide +kernel
theorem dX4_lacks_7 : decode cX4_lacks 7 = .ok (.iconst (-1), 1) := by decide +kernel
theorem dX4_lacks_8 : decode cX4_lacks 8 = .ok (.goto 18, 3) := by decide +kernel
theorem dX4_lacks_11 : decode cX4_lacks 11 = .ok (.aload_n 0, 1) := by decide +kernel
theorem dX4_lacks_12 : decode cX4_lacks 12 = .ok (.getfield 13, 3) := by decide +kernel
theorem dX4_lacks_15 : decode cX4_lacks 15 = .ok (.iload_n 1, 1) := by decide +kernel
theorem dX4_lacks_16 : decode cX4_lacks 16 = .ok (.baload, 1) := by decide +kernel
theorem dX4_lacks_17 : decode cX4_lacks 17 = .ok (.ifCond .eq 7, 3) := by decide +kernel
theorem dX4_lacks_20 : decode cX4_lacks 20 = .ok (.iconst 0, 1) := by decide +kernel
theorem dX4_lacks_21 : decode cX4_lacks 21 = .ok (.goto 5, 3) := by decide +kernel
theorem dX4_lacks_24 : decode cX4_lacks 24 = .ok (.bipush (-5), 2) := by decide +kernel
theorem dX4_lacks_26 : decode cX4_lacks 26 = .ok (.ireturn, 1) := by decide +kernel
theorem dX4_cutAt_0 : decode cX4_cutAt 0 = .ok (.aload_n 0, 1) := by decide +kernel
theorem dX4_cutAt_1 : decode cX4_cutAt 1 = .ok (.iload_n 1, 1) := by decide +kernel
theorem dX4_cutAt_2 : decode cX4_cutAt 2 = .ok (.invokevirtual 87, 3) := by decide +kernel
theorem dX4_cutAt_5 : decode cX4_cutAt 5 = .ok (.istore 4, 2) := by decide +kernel
theorem dX4_cutAt_7 : decode cX4_cutAt 7 = .ok (.iload 4, 2) := by decide +kernel
theorem dX4_cutAt_9 : decode cX4_cutAt 9 = .ok (.ifCond .ge 10, 3) := by decide +kernel
theorem dX4_cutAt_12 : decode cX4_cutAt 12 = .ok (.aload_n 0, 1) := by decide +kernel
theorem dX4_cutAt_13 : decode cX4_cutAt 13 = .ok (.iload 4, 2) := by decide +kernel
theorem dX4_cutAt_15 : decode cX4_cutAt 15 = .ok (.invokevirtual 79, 3) := by decide +kernel
theorem dX4_cutAt_18 : decode cX4_cutAt 18 = .ok (.ireturn, 1) := by decide +kernel
theorem dX4_cutAt_19 : decode cX4_cutAt 19 = .ok (.iload_n 2, 1) := by decide +kernel
theorem dX4_cutAt_20 : decode cX4_cutAt 20 = .ok (.iconst 0, 1) := by decide +kernel
theorem dX4_cutAt_21 : decode cX4_cutAt 21 = .ok (.aload_n 0, 1) := by decide +kernel
theorem dX4_cutAt_22 : decode cX4_cutAt 22 = .ok (.getfield 7, 3) := by decide +kernel
theorem dX4_cutAt_25 : decode cX4_cutAt 25 = .ok (.iconst 1, 1) := by decide +kernel
theorem dX4_cutAt_26 : decode cX4_cutAt 26 = .ok (.isub, 1) := by decide +kernel
theorem dX4_cutAt_27 : decode cX4_cutAt 27 = .ok (.invokestatic 75, 3) := by decide +kernel
theorem dX4_cutAt_30 : decode cX4_cutAt 30 = .ok (.ifCond .ne 10, 3) := by decide +kernel
theorem dX4_cutAt_33 : decode cX4_cutAt 33 = .ok (.aload_n 0, 1) := by decide +kernel
theorem dX4_cutAt_34 : decode cX4_cutAt 34 = .ok (.bipush (-7), 2) := by decide +kernel
theorem dX4_cutAt_36 : decode cX4_cutAt 36 = .ok (.invokevirtual 79, 3) := by decide +kernel
theorem dX4_cutAt_39 : decode cX4_cutAt 39 = .ok (.ireturn, 1) := by decide +kernel
theorem dX4_cutAt_40 : decode cX4_cutAt 40 = .ok (.iload_n 3, 1) := by decide +kernel
theorem dX4_cutAt_41 : decode cX4_cutAt 41 = .ok (.ifCond .ge 10, 3) := by decide +kernel
theorem dX4_cutAt_44 : decode cX4_cutAt 44 = .ok (.aload_n 0, 1) := by decide +kernel
theorem dX4_cutAt_45 : decode cX4_cutAt 45 = .ok (.bipush (-4), 2) := by decide +kernel
theorem dX4_cutAt_47 : decode cX4_cutAt 47 = .ok (.invokevirtual 79, 3) := by decide +kernel
theorem dX4_cutAt_50 : decode cX4_cutAt 50 = .ok (.ireturn, 1) := by decide +kernel
theorem dX4_cutAt_51 : decode cX4_cutAt 51 = .ok (.iload_n 3, 1) := by decide +kernel
theorem dX4_cutAt_52 : decode cX4_cutAt 52 = .ok (.bipush 9, 2) := by decide +kernel
theorem dX4_cutAt_54 : decode cX4_cutAt 54 = .ok (.if_icmp .le 10, 3) := by decide +kernel
theorem dX4_cutAt_57 : decode cX4_cutAt 57 = .ok (.aload_n 0, 1) := by decide +kernel
theorem dX4_cutAt_58 : decode cX4_cutAt 58 = .ok (.bipush (-6), 2) := by decide +kernel
theorem dX4_cutAt_60 : decode cX4_cutAt 60 = .ok (.invokevirtual 79, 3) := by decide +kernel
theorem dX4_cutAt_63 : decode cX4_cutAt 63 = .ok (.ireturn, 1) := by decide +kernel
theorem dX4_cutAt_64 : decode cX4_cutAt 64 = .ok (.aload_n 0, 1) := by decide +kernel
theorem dX4_cutAt_65 : decode cX4_cutAt 65 = .ok (.getfield 17, 3) := by decide +kernel
theorem dX4_cutAt_68 : decode cX4_cutAt 68 = .ok (.bipush 16, 2) := by decide +kernel
theorem dX4_cutAt_70 : decode cX4_cutAt 70 = .ok (.iload_n 1, 1) := by decide +kernel
theorem dX4_cutAt_71 : decode cX4_cutAt 71 = .ok (.imul, 1) := by decide +kernel
theorem dX4_cutAt_72 : decode cX4_cutAt 72 = .ok (.iload_n 2, 1) := by decide +kernel
theorem dX4_cutAt_73 : decode cX4_cutAt 73 = .ok (.iadd, 1) := by decide +kernel
theorem dX4_cutAt_74 : decode cX4_cutAt 74 = .ok (.iaload, 1) := by decide +kernel
theorem dX4_cutAt_75 : decode cX4_cutAt 75 = .ok (.istore 5, 2) := by decide +kernel
theorem dX4_cutAt_77 : decode cX4_cutAt 77 = .ok (.aload_n 0, 1) := by decide +kernel
theorem dX4_cutAt_78 : decode cX4_cutAt 78 = .ok (.getfield 17, 3) := by decide +kernel
theorem dX4_cutAt_81 : decode cX4_cutAt 81 = .ok (.bipush 16, 2) := by decide +kernel
theorem dX4_cutAt_83 : decode cX4_cutAt 83 = .ok (.iload_n 1, 1) := by decide +kernel
theorem dX4_cutAt_84 : decode cX4_cutAt 84 = .ok (.imul, 1) := by decide +kernel
theorem dX4_cutAt_85 : decode cX4_cutAt 85 = .ok (.iload_n 2, 1) := by decide +kernel
theorem dX4_cutAt_86 : decode cX4_cutAt 86 = .ok (.iadd, 1) := by decide +kernel
theorem dX4_cutAt_87 : decode cX4_cutAt 87 = .ok (.iload_n 3, 1) := by decide +kernel
theorem dX4_cutAt_88 : decode cX4_cutAt 88 = .ok (.iastore, 1) := by decide +kernel
theorem dX4_cutAt_89 : decode cX4_cutAt 89 = .ok (.iload 5, 2) := by decide +kernel
theorem dX4_cutAt_91 : decode cX4_cutAt 91 = .ok (.ireturn, 1) := by decide +kernel
theorem dX4_height_0 : decode cX4_height 0 = .ok (.aload_n 0, 1) := by decide +kernel
theorem dX4_height_1 : decode cX4_height 1 = .ok (.iload_n 1, 1) := by decide +kernel
theorem dX4_height_2 : decode cX4_height 2 = .ok (.invokevirtual 87, 3) := by decide +kernel
theorem dX4_height_5 : decode cX4_height 5 = .ok (.istore_n 3, 1) := by decide +kernel
theorem dX4_height_6 : decode cX4_height 6 = .ok (.iload_n 3, 1) := by decide +kernel
theorem dX4_height_7 : decode cX4_height 7 = .ok (.ifCond .ge 9, 3) := by decide +kernel
theorem dX4_height_10 : decode cX4_height 10 = .ok (.aload_n 0, 1) := by decide +kernel
theorem dX4_height_11 : decode cX4_height 11 = .ok (.iload_n 3, 1) := by decide +kernel
theorem dX4_height_12 : decode cX4_height 12 = .ok (.invokevirtual 79, 3) := by decide +kernel
theorem dX4_height_15 : decode cX4_height 15 = .ok (.ireturn, 1) := by decide +kernel
theorem dX4_height_16 : decode cX4_height 16 = .ok (.iload_n 2, 1) := by decide +kernel
theorem dX4_height_17 : decode cX4_height 17 = .ok (.iconst 0, 1) := by decide +kernel
theorem dX4_height_18 : decode cX4_height 18 = .ok (.aload_n 0, 1) := by decide +kernel
theorem dX4_height_19 : decode cX4_height 19 = .ok (.getfield 7, 3) := by decide +kernel
theorem dX4_height_22 : decode cX4_height 22 = .ok (.iconst 1, 1) := by decide +kernel
theorem dX4_height_23 : decode cX4_height 23 = .ok (.isub, 1) := by decide +kernel
theorem dX4_height_24 : decode cX4_height 24 = .ok (.invokestatic 75, 3) := by decide +kernel
theorem dX4_height_27 : decode cX4_height 27 = .ok (.ifCond .eq 17, 3) := by decide +kernel
theorem dX4_height_30 : decode cX4_height 30 = .ok (.aload_n 0, 1) := by decide +kernel
theorem dX4_height_31 : decode cX4_height 31 = .ok (.getfield 17, 3) := by decide +kernel
theorem dX4_height_34 : decode cX4_height 34 = .ok (.bipush 16, 2) := by decide +kernel
theorem dX4_height_36 : decode cX4_height 36 = .ok (.iload_n 1, 1) := by decide +kernel
theorem dX4_height_37 : decode cX4_height 37 = .ok (.imul, 1) := by decide +kernel
theorem dX4_height_38 : decode cX4_height 38 = .ok (.iload_n 2, 1) := by decide +kernel
theorem dX4_height_39 : decode cX4_height 39 = .ok (.iadd, 1) := by decide +kernel
theorem dX4_height_40 : decode cX4_height 40 = .ok (.iaload, 1) := by decide +kernel
theorem dX4_height_41 : decode cX4_height 41 = .ok (.goto 9, 3) := by decide +kernel
theorem dX4_height_44 : decode cX4_height 44 = .ok (.aload_n 0, 1) := by decide +kernel
theorem dX4_height_45 : decode cX4_height 45 = .ok (.bipush (-7), 2) := by decide +kernel
theorem dX4_height_47 : decode cX4_height 47 = .ok (.invokevirtual 79, 3) := by decide +kernel
theorem dX4_height_50 : decode cX4_height 50 = .ok (.ireturn, 1) := by decide +kernel
theorem dX4_copy_0 : decode cX4_copy 0 = .ok (.iload_n 1, 1) := by decide +kernel
theorem dX4_copy_1 : decode cX4_copy 1 = .ok (.invokestatic 83, 3) := by decide +kernel
theorem dX4_copy_4 : decode cX4_copy 4 = .ok (.ifCond .eq 10, 3) := by decide +kernel
theorem dX4_copy_7 : decode cX4_copy 7 = .ok (.iload_n 3, 1) := by decide +kernel
theorem dX4_copy_8 : decode cX4_copy 8 = .ok (.invokestatic 83, 3) := by decide +kernel
theorem dX4_copy_11 : decode cX4_copy 11 = .ok (.ifCond .ne 9, 3) := by decide +kernel
theorem dX4_copy_14 : decode cX4_copy 14 = .ok (.aload_n 0, 1) := by decide +kernel
theorem dX4_copy_15 : decode cX4_copy 15 = .ok (.iconst (-1), 1) := by decide +kernel
theorem dX4_copy_16 : decode cX4_copy 16 = .ok (.invokevirtual 79, 3) := by decide +kernel
theorem dX4_copy_19 : decode cX4_copy 19 = .ok (.ireturn, 1) := by decide +kernel
theorem dX4_copy_20 : decode cX4_copy 20 = .ok (.aload_n 0, 1) := by decide +kernel
theorem dX4_copy_21 : decode cX4_copy 21 = .ok (.getfield 13, 3) := by decide +kernel
theorem dX4_copy_24 : decode cX4_copy 24 = .ok (.iload_n 1, 1) := by decide +kernel
theorem dX4_copy_25 : decode cX4_copy 25 = .ok (.baload, 1) := by decide +kernel
theorem dX4_copy_26 : decode cX4_copy 26 = .ok (.ifCond .eq 12, 3) := by decide +kernel
theorem dX4_copy_29 : decode cX4_copy 29 = .ok (.aload_n 0, 1) := by decide +kernel
theorem dX4_copy_30 : decode cX4_copy 30 = .ok (.getfield 13, 3) := by decide +kernel
theorem dX4_copy_33 : decode cX4_copy 33 = .ok (.iload_n 3, 1) := by decide +kernel
theorem dX4_copy_34 : decode cX4_copy 34 = .ok (.baload, 1) := by decide +kernel
theorem dX4_copy_35 : decode cX4_copy 35 = .ok (.ifCond .ne 10, 3) := by decide +kernel
theorem dX4_copy_38 : decode cX4_copy 38 = .ok (.aload_n 0, 1) := by decide +kernel
theorem dX4_copy_39 : decode cX4_copy 39 = .ok (.bipush (-5), 2) := by decide +kernel
theorem dX4_copy_41 : decode cX4_copy 41 = .ok (.invokevirtual 79, 3) := by decide +kernel
theorem dX4_copy_44 : decode cX4_copy 44 = .ok (.ireturn, 1) := by decide +kernel
theorem dX4_copy_45 : decode cX4_copy 45 = .ok (.iload 5, 2) := by decide +kernel
theorem dX4_copy_47 : decode cX4_copy 47 = .ok (.ifCond .lt 44, 3) := by decide +kernel
theorem dX4_copy_50 : decode cX4_copy 50 = .ok (.iload 5, 2) := by decide +kernel
theorem dX4_copy_52 : decode cX4_copy 52 = .ok (.aload_n 0, 1) := by decide +kernel
theorem dX4_copy_53 : decode cX4_copy 53 = .ok (.getfield 7, 3) := by decide +kernel
theorem dX4_copy_56 : decode cX4_copy 56 = .ok (.if_icmp .gt 35, 3) := by decide +kernel
theorem dX4_copy_59 : decode cX4_copy 59 = .ok (.iload_n 2, 1) := by decide +kernel
theorem dX4_copy_60 : decode cX4_copy 60 = .ok (.ifCond .lt 31, 3) := by decide +kernel
theorem dX4_copy_63 : decode cX4_copy 63 = .ok (.iload 4, 2) := by decide +kernel
theorem dX4_copy_65 : decode cX4_copy 65 = .ok (.ifCond .lt 26, 3) := by decide +kernel
theorem dX4_copy_68 : decode cX4_copy 68 = .ok (.iload_n 2, 1) := by decide +kernel
theorem dX4_copy_69 : decode cX4_copy 69 = .ok (.aload_n 0, 1) := by decide +kernel
theorem dX4_copy_70 : decode cX4_copy 70 = .ok (.getfield 7, 3) := by decide +kernel
theorem dX4_copy_73 : decode cX4_copy 73 = .ok (.iload 5, 2) := by decide +kernel
theorem dX4_copy_75 : decode cX4_copy 75 = .ok (.isub, 1) := by decide +kernel
theorem dX4_copy_76 : decode cX4_copy 76 = .ok (.if_icmp .gt 15, 3) := by decide +kernel
theorem dX4_copy_79 : decode cX4_copy 79 = .ok (.iload 4, 2) := by decide +kernel
theorem dX4_copy_81 : decode cX4_copy 81 = .ok (.aload_n 0, 1) := by decide +kernel
theorem dX4_copy_82 : decode cX4_copy 82 = .ok (.getfield 7, 3) := by decide +kernel
theorem dX4_copy_85 : decode cX4_copy 85 = .ok (.iload 5, 2) := by decide +kernel
theorem dX4_copy_87 : decode cX4_copy 87 = .ok (.isub, 1) := by decide +kernel
theorem dX4_copy_88 : decode cX4_copy 88 = .ok (.if_icmp .le 10, 3) := by decide +kernel
theorem dX4_copy_91 : decode cX4_copy 91 = .ok (.aload_n 0, 1) := by decide +kernel
theorem dX4_copy_92 : decode cX4_copy 92 = .ok (.bipush (-7), 2) := by decide +kernel
theorem dX4_copy_94 : decode cX4_copy 94 = .ok (.invokevirtual 79, 3) := by decide +kernel
theorem dX4_copy_97 : decode cX4_copy 97 = .ok (.ireturn, 1) := by decide +kernel
theorem dX4_copy_98 : decode cX4_copy 98 = .ok (.iconst 0, 1) := by decide +kernel
theorem dX4_copy_99 : decode cX4_copy 99 = .ok (.istore 6, 2) := by decide +kernel
theorem dX4_copy_101 : decode cX4_copy 101 = .ok (.iload 6, 2) := by decide +kernel
theorem dX4_copy_103 : decode cX4_copy 103 = .ok (.iload 5, 2) := by decide +kernel
theorem dX4_copy_105 : decode cX4_copy 105 = .ok (.if_icmp .ge 30, 3) := by decide +kernel
theorem dX4_copy_108 : decode cX4_copy 108 = .ok (.aload_n 0, 1) := by decide +kernel
theorem dX4_copy_109 : decode cX4_copy 109 = .ok (.getfield 57, 3) := by decide +kernel
theorem dX4_copy_112 : decode cX4_copy 112 = .ok (.iload 6, 2) := by decide +kernel
theorem dX4_copy_114 : decode cX4_copy 114 = .ok (.aload_n 0, 1) := by decide +kernel
theorem dX4_copy_115 : decode cX4_copy 115 = .ok (.getfield 17, 3) := by decide +kernel
theorem dX4_copy_118 : decode cX4_copy 118 = .ok (.bipush 16, 2) := by decide +kernel
theorem dX4_copy_120 : decode cX4_copy 120 = .ok (.iload_n 1, 1) := by decide +kernel
theorem dX4_copy_121 : decode cX4_copy 121 = .ok (.imul, 1) := by decide +kernel
theorem dX4_copy_122 : decode cX4_copy 122 = .ok (.iload_n 2, 1) := by decide +kernel
theorem dX4_copy_123 : decode cX4_copy 123 = .ok (.iadd, 1) := by decide +kernel
theorem dX4_copy_124 : decode cX4_copy 124 = .ok (.iload 6, 2) := by decide +kernel
theorem dX4_copy_126 : decode cX4_copy 126 = .ok (.iadd, 1) := by decide +kernel
theorem dX4_copy_127 : decode cX4_copy 127 = .ok (.iaload, 1) := by decide +kernel
theorem dX4_copy_128 : decode cX4_copy 128 = .ok (.iastore, 1) := by decide +kernel
theorem dX4_copy_129 : decode cX4_copy 129 = .ok (.iinc 6 1, 3) := by decide +kernel
theorem dX4_copy_132 : decode cX4_copy 132 = .ok (.goto (-31), 3) := by decide +kernel
theorem dX4_copy_135 : decode cX4_copy 135 = .ok (.iconst 0, 1) := by decide +kernel
theorem dX4_copy_136 : decode cX4_copy 136 = .ok (.istore 6, 2) := by decide +kernel
theorem dX4_copy_138 : decode cX4_copy 138 = .ok (.iload 6, 2) := by decide +kernel
theorem dX4_copy_140 : decode cX4_copy 140 = .ok (.iload 5, 2) := by decide +kernel
theorem dX4_copy_142 : decode cX4_copy 142 = .ok (.if_icmp .ge 31, 3) := by decide +kernel
theorem dX4_copy_145 : decode cX4_copy 145 = .ok (.aload_n 0, 1) := by decide +kernel
theorem dX4_copy_146 : decode cX4_copy 146 = .ok (.getfield 17, 3) := by decide +kernel
theorem dX4_copy_149 : decode cX4_copy 149 = .ok (.bipush 16, 2) := by decide +kernel
theorem dX4_copy_151 : decode cX4_copy 151 = .ok (.iload_n 3, 1) := by decide +kernel
theorem dX4_copy_152 : decode cX4_copy 152 = .ok (.imul, 1) := by decide +kernel
theorem dX4_copy_153 : decode cX4_copy 153 = .ok (.iload 4, 2) := by decide +kernel
theorem dX4_copy_155 : decode cX4_copy 155 = .ok (.iadd, 1) := by decide +kernel
theorem dX4_copy_156 : decode cX4_copy 156 = .ok (.iload 6, 2) := by decide +kernel
theorem dX4_copy_158 : decode cX4_copy 158 = .ok (.iadd, 1) := by decide +kernel
theorem dX4_copy_159 : decode cX4_copy 159 = .ok (.aload_n 0, 1) := by decide +kernel
theorem dX4_copy_160 : decode cX4_copy 160 = .ok (.getfield 57, 3) := by decide +kernel
theorem dX4_copy_163 : decode cX4_copy 163 = .ok (.iload 6, 2) := by decide +kernel
theorem dX4_copy_165 : decode cX4_copy 165 = .ok (.iaload, 1) := by decide +kernel
theorem dX4_copy_166 : decode cX4_copy 166 = .ok (.iastore, 1) := by decide +kernel
theorem dX4_copy_167 : decode cX4_copy 167 = .ok (.iinc 6 1, 3) := by decide +kernel
theorem dX4_copy_170 : decode cX4_copy 170 = .ok (.goto (-32), 3) := by decide +kernel
theorem dX4_copy_173 : decode cX4_copy 173 = .ok (.iload 5, 2) := by decide +kernel
theorem dX4_copy_175 : decode cX4_copy 175 = .ok (.ireturn, 1) := by decide +kernel
theorem dX4_turn_0 : decode cX4_turn 0 = .ok (.aload_n 0, 1) := by decide +kernel
theorem dX4_turn_1 : decode cX4_turn 1 = .ok (.iload_n 1, 1) := by decide +kernel
theorem dX4_turn_2 : decode cX4_turn 2 = .ok (.invokevirtual 87, 3) := by decide +kernel
theorem dX4_turn_5 : decode cX4_turn 5 = .ok (.istore_n 3, 1) := by decide +kernel
theorem dX4_turn_6 : decode cX4_turn 6 = .ok (.iload_n 3, 1) := by decide +kernel
theorem dX4_turn_7 : decode cX4_turn 7 = .ok (.ifCond .ge 9, 3) := by decide +kernel
theorem dX4_turn_10 : decode cX4_turn 10 = .ok (.aload_n 0, 1) := by decide +kernel
theorem dX4_turn_11 : decode cX4_turn 11 = .ok (.iload_n 3, 1) := by decide +kernel
theorem dX4_turn_12 : decode cX4_turn 12 = .ok (.invokevirtual 79, 3) := by decide +kernel
theorem dX4_turn_15 : decode cX4_turn 15 = .ok (.ireturn, 1) := by decide +kernel
theorem dX4_turn_16 : decode cX4_turn 16 = .ok (.iload_n 2, 1) := by decide +kernel
theorem dX4_turn_17 : decode cX4_turn 17 = .ok (.iconst 0, 1) := by decide +kernel
theorem dX4_turn_18 : decode cX4_turn 18 = .ok (.aload_n 0, 1) := by decide +kernel
theorem dX4_turn_19 : decode cX4_turn 19 = .ok (.getfield 7, 3) := by decide +kernel
theorem dX4_turn_22 : decode cX4_turn 22 = .ok (.iconst 1, 1) := by decide +kernel
theorem dX4_turn_23 : decode cX4_turn 23 = .ok (.isub, 1) := by decide +kernel
theorem dX4_turn_24 : decode cX4_turn 24 = .ok (.invokestatic 75, 3) := by decide +kernel
theorem dX4_turn_27 : decode cX4_turn 27 = .ok (.ifCond .ne 10, 3) := by decide +kernel
theorem dX4_turn_30 : decode cX4_turn 30 = .ok (.aload_n 0, 1) := by decide +kernel
theorem dX4_turn_31 : decode cX4_turn 31 = .ok (.bipush (-7), 2) := by decide +kernel
theorem dX4_turn_33 : decode cX4_turn 33 = .ok (.invokevirtual 79, 3) := by decide +kernel
theorem dX4_turn_36 : decode cX4_turn 36 = .ok (.ireturn, 1) := by decide +kernel
theorem dX4_turn_37 : decode cX4_turn 37 = .ok (.iconst 0, 1) := by decide +kernel
theorem dX4_turn_38 : decode cX4_turn 38 = .ok (.istore 4, 2) := by decide +kernel
theorem dX4_turn_40 : decode cX4_turn 40 = .ok (.iload 4, 2) := by decide +kernel
theorem dX4_turn_42 : decode cX4_turn 42 = .ok (.aload_n 0, 1) := by decide +kernel
theorem dX4_turn_43 : decode cX4_turn 43 = .ok (.getfield 7, 3) := by decide +kernel
theorem dX4_turn_46 : decode cX4_turn 46 = .ok (.if_icmp .ge 35, 3) := by decide +kernel
theorem dX4_turn_49 : decode cX4_turn 49 = .ok (.aload_n 0, 1) := by decide +kernel
theorem dX4_turn_50 : decode cX4_turn 50 = .ok (.getfield 57, 3) := by decide +kernel
theorem dX4_turn_53 : decode cX4_turn 53 = .ok (.iload 4, 2) := by decide +kernel
theorem dX4_turn_55 : decode cX4_turn 55 = .ok (.iload_n 2, 1) := by decide +kernel
theorem dX4_turn_56 : decode cX4_turn 56 = .ok (.iadd, 1) := by decide +kernel
theorem dX4_turn_57 : decode cX4_turn 57 = .ok (.aload_n 0, 1) := by decide +kernel
theorem dX4_turn_58 : decode cX4_turn 58 = .ok (.getfield 7, 3) := by decide +kernel
theorem dX4_turn_61 : decode cX4_turn 61 = .ok (.irem, 1) := by decide +kernel
theorem dX4_turn_62 : decode cX4_turn 62 = .ok (.aload_n 0, 1) := by decide +kernel
theorem dX4_turn_63 : decode cX4_turn 63 = .ok (.getfield 17, 3) := by decide +kernel
theorem dX4_turn_66 : decode cX4_turn 66 = .ok (.bipush 16, 2) := by decide +kernel
theorem dX4_turn_68 : decode cX4_turn 68 = .ok (.iload_n 1, 1) := by decide +kernel
theorem dX4_turn_69 : decode cX4_turn 69 = .ok (.imul, 1) := by decide +kernel
theorem dX4_turn_70 : decode cX4_turn 70 = .ok (.iload 4, 2) := by decide +kernel
theorem dX4_turn_72 : decode cX4_turn 72 = .ok (.iadd, 1) := by decide +kernel
theorem dX4_turn_73 : decode cX4_turn 73 = .ok (.iaload, 1) := by decide +kernel
theorem dX4_turn_74 : decode cX4_turn 74 = .ok (.iastore, 1) := by decide +kernel
theorem dX4_turn_75 : decode cX4_turn 75 = .ok (.iinc 4 1, 3) := by decide +kernel
theorem dX4_turn_78 : decode cX4_turn 78 = .ok (.goto (-38), 3) := by decide +kernel
theorem dX4_turn_81 : decode cX4_turn 81 = .ok (.iconst 0, 1) := by decide +kernel
theorem dX4_turn_82 : decode cX4_turn 82 = .ok (.istore 4, 2) := by decide +kernel
theorem dX4_turn_84 : decode cX4_turn 84 = .ok (.iload 4, 2) := by decide +kernel
theorem dX4_turn_86 : decode cX4_turn 86 = .ok (.aload_n 0, 1) := by decide +kernel
theorem dX4_turn_87 : decode cX4_turn 87 = .ok (.getfield 7, 3) := by decide +kernel
theorem dX4_turn_90 : decode cX4_turn 90 = .ok (.if_icmp .ge 28, 3) := by decide +kernel
theorem dX4_turn_93 : decode cX4_turn 93 = .ok (.aload_n 0, 1) := by decide +kernel
theorem dX4_turn_94 : decode cX4_turn 94 = .ok (.getfield 17, 3) := by decide +kernel
theorem dX4_turn_97 : decode cX4_turn 97 = .ok (.bipush 16, 2) := by decide +kernel
theorem dX4_turn_99 : decode cX4_turn 99 = .ok (.iload_n 1, 1) := by decide +kernel
theorem dX4_turn_100 : decode cX4_turn 100 = .ok (.imul, 1) := by decide +kernel
theorem dX4_turn_101 : decode cX4_turn 101 = .ok (.iload 4, 2) := by decide +kernel
theorem dX4_turn_103 : decode cX4_turn 103 = .ok (.iadd, 1) := by decide +kernel
theorem dX4_turn_104 : decode cX4_turn 104 = .ok (.aload_n 0, 1) := by decide +kernel
theorem dX4_turn_105 : decode cX4_turn 105 = .ok (.getfield 57, 3) := by decide +kernel
theorem dX4_turn_108 : decode cX4_turn 108 = .ok (.iload 4, 2) := by decide +kernel
theorem dX4_turn_110 : decode cX4_turn 110 = .ok (.iaload, 1) := by decide +kernel
theorem dX4_turn_111 : decode cX4_turn 111 = .ok (.iastore, 1) := by decide +kernel
theorem dX4_turn_112 : decode cX4_turn 112 = .ok (.iinc 4 1, 3) := by decide +kernel
theorem dX4_turn_115 : decode cX4_turn 115 = .ok (.goto (-31), 3) := by decide +kernel
theorem dX4_turn_118 : decode cX4_turn 118 = .ok (.iconst 1, 1) := by decide +kernel
theorem dX4_turn_119 : decode cX4_turn 119 = .ok (.ireturn, 1) := by decide +kernel
theorem dX4_blanks_0 : decode cX4_blanks 0 = .ok (.aload_n 0, 1) := by decide +kernel
theorem dX4_blanks_1 : decode cX4_blanks 1 = .ok (.invokevirtual 94, 3) := by decide +kernel
theorem dX4_blanks_4 : decode cX4_blanks 4 = .ok (.ireturn, 1) := by decide +kernel
theorem dX4_findBlanks_0 : decode cX4_findBlanks 0 = .ok (.iconst 0, 1) := by decide +kernel
theorem dX4_findBlanks_1 : decode cX4_findBlanks 1 = .ok (.istore_n 1, 1) := by decide +kernel
theorem dX4_findBlanks_2 : decode cX4_findBlanks 2 = .ok (.iconst 0, 1) := by decide +kernel
theorem dX4_findBlanks_3 : decode cX4_findBlanks 3 = .ok (.istore_n 2, 1) := by decide +kernel
theorem dX4_findBlanks_4 : decode cX4_findBlanks 4 = .ok (.iload_n 2, 1) := by decide +kernel
theorem dX4_findBlanks_5 : decode cX4_findBlanks 5 = .ok (.bipush 12, 2) := by decide +kernel
theorem dX4_findBlanks_7 : decode cX4_findBlanks 7 = .ok (.if_icmp .ge 138, 3) := by decide +kernel
theorem dX4_findBlanks_10 : decode cX4_findBlanks 10 = .ok (.aload_n 0, 1) := by decide +kernel
theorem dX4_findBlanks_11 : decode cX4_findBlanks 11 = .ok (.getfield 60, 3) := by decide +kernel
theorem dX4_findBlanks_14 : decode cX4_findBlanks 14 = .ok (.iload_n 2, 1) := by decide +kernel
theorem dX4_findBlanks_15 : decode cX4_findBlanks 15 = .ok (.bipush (-9), 2) := by decide +kernel
theorem dX4_findBlanks_17 : decode cX4_findBlanks 17 = .ok (.iastore, 1) := by decide +kernel
theorem dX4_findBlanks_18 : decode cX4_findBlanks 18 = .ok (.aload_n 0, 1) := by decide +kernel
theorem dX4_findBlanks_19 : decode cX4_findBlanks 19 = .ok (.getfield 63, 3) := by decide +kernel
theorem dX4_findBlanks_22 : decode cX4_findBlanks 22 = .ok (.iload_n 2, 1) := by decide +kernel
theorem dX4_findBlanks_23 : decode cX4_findBlanks 23 = .ok (.bipush (-9), 2) := by decide +kernel
theorem dX4_findBlanks_25 : decode cX4_findBlanks 25 = .ok (.iastore, 1) := by decide +kernel
theorem dX4_findBlanks_26 : decode cX4_findBlanks 26 = .ok (.iconst 0, 1) := by decide +kernel
theorem dX4_findBlanks_27 : decode cX4_findBlanks 27 = .ok (.istore_n 3, 1) := by decide +kernel
theorem dX4_findBlanks_28 : decode cX4_findBlanks 28 = .ok (.iload_n 3, 1) := by decide +kernel
