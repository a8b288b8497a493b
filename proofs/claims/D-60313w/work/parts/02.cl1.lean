/-! CompLabel -/
set_option maxRecDepth 100000
def RX1 : String := "CompLabel"
def TX1 : u_T := fun k => match k with
  | 0 => ("CompLabel", "width", "I", false)
  | 1 => ("CompLabel", "height", "I", false)
  | 2 => ("CompLabel", "rowBits", "[I", true)
  | 3 => ("CompLabel", "labelled", "Z", false)
  | 4 => ("CompLabel", "runCount", "I", false)
  | 5 => ("CompLabel", "runFrom", "[B", true)
  | 6 => ("CompLabel", "runTo", "[B", true)
  | 7 => ("CompLabel", "runBlack", "[Z", true)
  | 8 => ("CompLabel", "leadsTo", "[S", true)
  | 9 => ("CompLabel", "rowStart", "[S", true)
  | 10 => ("CompLabel", "surround", "[S", true)
  | 11 => ("CompLabel", "level", "[B", true)
  | 12 => ("CompLabel", "places", "[S", true)
  | 13 => ("CompLabel", "within", "[S", true)
  | 14 => ("CompLabel", "holeCount", "[S", true)
  | 15 => ("CompLabel", "number", "[S", true)
  | 16 => ("CompLabel", "firstRun", "[S", true)
  | 17 => ("CompLabel", "componentCount", "I", false)
  | _ => ("CompLabel", "regionCount", "I", false)
def tyX1 : Nat → FieldType := fun k => match k with
  | 0 => .int
  | 1 => .int
  | 2 => .array .int
  | 3 => .boolean
  | 4 => .int
  | 5 => .array .byte
  | 6 => .array .byte
  | 7 => .array .boolean
  | 8 => .array .short
  | 9 => .array .short
  | 10 => .array .short
  | 11 => .array .byte
  | 12 => .array .short
  | 13 => .array .short
  | 14 => .array .short
  | 15 => .array .short
  | 16 => .array .short
  | 17 => .int
  | _ => .int
abbrev wsX10 : List Cond := u_ws RX1 TX1 19
set_option maxRecDepth 100000 in
theorem nmX1 : ∀ a, a < 19 → ∀ b, b < 19 → a ≠ b → (TX1 a).2.1 ≠ (TX1 b).2.1 := by decide +kernel
set_option maxRecDepth 100000 in
theorem tyX1_ok : ∀ k, k < 19 → parseFieldDescriptor (TX1 k).2.2.1 = some (tyX1 k) := by decide +kernel
abbrev cX1_init : ByteArray := prog_1_method_1_code
def yX1_init : MethodName := ⟨RX1, "<init>", "(II)V"⟩
abbrev cX1_set : ByteArray := prog_1_method_2_code
def yX1_set : MethodName := ⟨RX1, "set", "(IIZ)Z"⟩
abbrev cX1_inPicture : ByteArray := prog_1_method_13_code
def yX1_inPicture : MethodName := ⟨RX1, "inPicture", "(II)Z"⟩
abbrev cX1_invert : ByteArray := prog_1_method_3_code
def yX1_invert : MethodName := ⟨RX1, "invert", "(IIII)Z"⟩
abbrev cX1_isBlack : ByteArray := prog_1_method_4_code
def yX1_isBlack : MethodName := ⟨RX1, "isBlack", "(II)Z"⟩
abbrev cX1_components : ByteArray := prog_1_method_5_code
def yX1_components : MethodName := ⟨RX1, "components", "()I"⟩
abbrev cX1_labelAll : ByteArray := prog_1_method_15_code
def yX1_labelAll : MethodName := ⟨RX1, "labelAll", "()V"⟩
abbrev cX1_cutRow : ByteArray := prog_1_method_16_code
def yX1_cutRow : MethodName := ⟨RX1, "cutRow", "(I)V"⟩
abbrev cX1_openBorders : ByteArray := prog_1_method_17_code
def yX1_openBorders : MethodName := ⟨RX1, "openBorders", "(I)V"⟩
abbrev cX1_unite : ByteArray := prog_1_method_21_code
def yX1_unite : MethodName := ⟨RX1, "unite", "(II)V"⟩
abbrev cX1_first : ByteArray := prog_1_method_20_code
def yX1_first : MethodName := ⟨RX1, "first", "(I)I"⟩
abbrev cX1_touchAbove : ByteArray := prog_1_method_18_code
def yX1_touchAbove : MethodName := ⟨RX1, "touchAbove", "(I)V"⟩
abbrev cX1_cornerAbove : ByteArray := prog_1_method_19_code
def yX1_cornerAbove : MethodName := ⟨RX1, "cornerAbove", "(III)V"⟩
abbrev cX1_settleRuns : ByteArray := prog_1_method_22_code
def yX1_settleRuns : MethodName := ⟨RX1, "settleRuns", "()V"⟩
abbrev cX1_sumUp : ByteArray := prog_1_method_23_code
def yX1_sumUp : MethodName := ⟨RX1, "sumUp", "()V"⟩
abbrev cX1_euler : ByteArray := prog_1_method_6_code
def yX1_euler : MethodName := ⟨RX1, "euler", "()I"⟩
abbrev cX1_label : ByteArray := prog_1_method_7_code
def yX1_label : MethodName := ⟨RX1, "label", "(II)I"⟩
abbrev cX1_runAt : ByteArray := prog_1_method_14_code
def yX1_runAt : MethodName := ⟨RX1, "runAt", "(II)I"⟩
abbrev cX1_area : ByteArray := prog_1_method_8_code
def yX1_area : MethodName := ⟨RX1, "area", "(I)I"⟩
abbrev cX1_holes : ByteArray := prog_1_method_9_code
def yX1_holes : MethodName := ⟨RX1, "holes", "(I)I"⟩
abbrev cX1_around : ByteArray := prog_1_method_10_code
def yX1_around : MethodName := ⟨RX1, "around", "(I)I"⟩
abbrev cX1_depth : ByteArray := prog_1_method_11_code
def yX1_depth : MethodName := ⟨RX1, "depth", "(II)I"⟩
abbrev cX1_enclosed : ByteArray := prog_1_method_12_code
def yX1_enclosed : MethodName := ⟨RX1, "enclosed", "(I)I"⟩
theorem q27 : (Jvm.Cond.initialized "CompLabel") ∈ lw_all := lw_g (lw_at lw_m1 1 rfl) rfl
theorem q30 : (Jvm.Cond.instantiable "CompLabel" (19 : Nat)) ∈ lw_all := lw_g (lw_at lw_m1 4 rfl) rfl
theorem q32 : (Jvm.Cond.instanceMethod ({ cls := "CompLabel", name := "<init>", desc := "(II)V" } : Jvm.MethodName)) ∈ lw_all := lw_g (lw_at lw_m1 6 rfl) rfl
theorem q33 : (Jvm.Cond.code ({ cls := "CompLabel", name := "<init>", desc := "(II)V" } : Jvm.MethodName) prog_1_method_1_code (3 : Nat) (Option.none : Option Jvm.ClassFile.FieldType)) ∈ lw_all := lw_g (lw_at lw_m1 7 rfl) rfl
theorem q34 : (Jvm.Cond.methodLink "CompLabel" (1 : Nat) ({ cls := "java/lang/Object", name := "<init>", desc := "()V" } : Jvm.MethodName)) ∈ lw_all := lw_g (lw_at lw_m1 8 rfl) rfl
theorem q37 : (Jvm.Cond.fieldLink "CompLabel" (52 : Nat) "CompLabel" "width" "I") ∈ lw_all := lw_g (lw_at lw_m1 11 rfl) rfl
theorem q38 : (Jvm.Cond.fieldLink "CompLabel" (56 : Nat) "CompLabel" "height" "I") ∈ lw_all := lw_g (lw_at lw_m1 12 rfl) rfl
theorem q39 : (Jvm.Cond.fieldLink "CompLabel" (7 : Nat) "CompLabel" "rowBits" "[I") ∈ lw_all := lw_g (lw_at lw_m1 13 rfl) rfl
theorem q40 : (Jvm.Cond.fieldLink "CompLabel" (63 : Nat) "CompLabel" "labelled" "Z") ∈ lw_all := lw_g (lw_at lw_m1 14 rfl) rfl
theorem q41 : (Jvm.Cond.fieldLink "CompLabel" (80 : Nat) "CompLabel" "runCount" "I") ∈ lw_all := lw_g (lw_at lw_m1 15 rfl) rfl
theorem q42 : (Jvm.Cond.fieldLink "CompLabel" (13 : Nat) "CompLabel" "runFrom" "[B") ∈ lw_all := lw_g (lw_at lw_m1 16 rfl) rfl
theorem q43 : (Jvm.Cond.fieldLink "CompLabel" (17 : Nat) "CompLabel" "runTo" "[B") ∈ lw_all := lw_g (lw_at lw_m1 17 rfl) rfl
theorem q44 : (Jvm.Cond.fieldLink "CompLabel" (20 : Nat) "CompLabel" "runBlack" "[Z") ∈ lw_all := lw_g (lw_at lw_m1 18 rfl) rfl
theorem q45 : (Jvm.Cond.fieldLink "CompLabel" (24 : Nat) "CompLabel" "leadsTo" "[S") ∈ lw_all := lw_g (lw_at lw_m1 19 rfl) rfl
theorem q46 : (Jvm.Cond.fieldLink "CompLabel" (28 : Nat) "CompLabel" "rowStart" "[S") ∈ lw_all := lw_g (lw_at lw_m1 20 rfl) rfl
theorem q47 : (Jvm.Cond.fieldLink "CompLabel" (31 : Nat) "CompLabel" "surround" "[S") ∈ lw_all := lw_g (lw_at lw_m1 21 rfl) rfl
theorem q48 : (Jvm.Cond.fieldLink "CompLabel" (34 : Nat) "CompLabel" "level" "[B") ∈ lw_all := lw_g (lw_at lw_m1 22 rfl) rfl
theorem q49 : (Jvm.Cond.fieldLink "CompLabel" (37 : Nat) "CompLabel" "places" "[S") ∈ lw_all := lw_g (lw_at lw_m1 23 rfl) rfl
theorem q50 : (Jvm.Cond.fieldLink "CompLabel" (40 : Nat) "CompLabel" "within" "[S") ∈ lw_all := lw_g (lw_at lw_m1 24 rfl) rfl
theorem q51 : (Jvm.Cond.fieldLink "CompLabel" (43 : Nat) "CompLabel" "holeCount" "[S") ∈ lw_all := lw_g (lw_at lw_m1 25 rfl) rfl
theorem q52 : (Jvm.Cond.fieldLink "CompLabel" (46 : Nat) "CompLabel" "number" "[S") ∈ lw_all := lw_g (lw_at lw_m1 26 rfl) rfl
theorem q53 : (Jvm.Cond.fieldLink "CompLabel" (49 : Nat) "CompLabel" "firstRun" "[S") ∈ lw_all := lw_g (lw_at lw_m1 27 rfl) rfl
theorem q54 : (Jvm.Cond.fieldLink "CompLabel" (70 : Nat) "CompLabel" "componentCount" "I") ∈ lw_all := lw_g (lw_at lw_m1 28 rfl) rfl
theorem q55 : (Jvm.Cond.fieldLink "CompLabel" (73 : Nat) "CompLabel" "regionCount" "I") ∈ lw_all := lw_g (lw_at lw_m1 29 rfl) rfl
theorem q56 : (Jvm.Cond.lays "CompLabel" "CompLabel" "width" "I") ∈ lw_all := lw_g (lw_at lw_m1 30 rfl) rfl
theorem q57 : (Jvm.Cond.soleField "CompLabel" "width") ∈ lw_all := lw_g (lw_at lw_m1 31 rfl) rfl
theorem q58 : (Jvm.Cond.lays "CompLabel" "CompLabel" "height" "I") ∈ lw_all := lw_g (lw_at lw_m1 32 rfl) rfl
theorem q59 : (Jvm.Cond.soleField "CompLabel" "height") ∈ lw_all := lw_g (lw_at lw_m1 33 rfl) rfl
theorem q60 : (Jvm.Cond.laysFinal "CompLabel" "CompLabel" "rowBits" "[I") ∈ lw_all := lw_g (lw_at lw_m1 34 rfl) rfl
theorem q61 : (Jvm.Cond.soleField "CompLabel" "rowBits") ∈ lw_all := lw_g (lw_at lw_m1 35 rfl) rfl
theorem q62 : (Jvm.Cond.lays "CompLabel" "CompLabel" "labelled" "Z") ∈ lw_all := lw_g (lw_at lw_m1 36 rfl) rfl
theorem q63 : (Jvm.Cond.soleField "CompLabel" "labelled") ∈ lw_all := lw_g (lw_at lw_m1 37 rfl) rfl
theorem q64 : (Jvm.Cond.lays "CompLabel" "CompLabel" "runCount" "I") ∈ lw_all := lw_g (lw_at lw_m1 38 rfl) rfl
theorem q65 : (Jvm.Cond.soleField "CompLabel" "runCount") ∈ lw_all := lw_g (lw_at lw_m1 39 rfl) rfl
theorem q66 : (Jvm.Cond.laysFinal "CompLabel" "CompLabel" "runFrom" "[B") ∈ lw_all := lw_g (lw_at lw_m1 40 rfl) rfl
theorem q67 : (Jvm.Cond.soleField "CompLabel" "runFrom") ∈ lw_all := lw_g (lw_at lw_m1 41 rfl) rfl
theorem q68 : (Jvm.Cond.laysFinal "CompLabel" "CompLabel" "runTo" "[B") ∈ lw_all := lw_g (lw_at lw_m1 42 rfl) rfl
theorem q69 : (Jvm.Cond.soleField "CompLabel" "runTo") ∈ lw_all := lw_g (lw_at lw_m1 43 rfl) rfl
theorem q70 : (Jvm.Cond.laysFinal "CompLabel" "CompLabel" "runBlack" "[Z") ∈ lw_all := lw_g (lw_at lw_m1 44 rfl) rfl
theorem q71 : (Jvm.Cond.soleField "CompLabel" "runBlack") ∈ lw_all := lw_g (lw_at lw_m1 45 rfl) rfl
theorem q72 : (Jvm.Cond.laysFinal "CompLabel" "CompLabel" "leadsTo" "[S") ∈ lw_all := lw_g (lw_at lw_m1 46 rfl) rfl
theorem q73 : (Jvm.Cond.soleField "CompLabel" "leadsTo") ∈ lw_all := lw_g (lw_at lw_m1 47 rfl) rfl
theorem q74 : (Jvm.Cond.laysFinal "CompLabel" "CompLabel" "rowStart" "[S") ∈ lw_all := lw_g (lw_at lw_m1 48 rfl) rfl
theorem q75 : (Jvm.Cond.soleField "CompLabel" "rowStart") ∈ lw_all := lw_g (lw_at lw_m1 49 rfl) rfl
theorem q76 : (Jvm.Cond.laysFinal "CompLabel" "CompLabel" "surround" "[S") ∈ lw_all := lw_g (lw_at lw_m1 50 rfl) rfl
theorem q77 : (Jvm.Cond.soleField "CompLabel" "surround") ∈ lw_all := lw_g (lw_at lw_m1 51 rfl) rfl
theorem q78 : (Jvm.Cond.laysFinal "CompLabel" "CompLabel" "level" "[B") ∈ lw_all := lw_g (lw_at lw_m1 52 rfl) rfl
theorem q79 : (Jvm.Cond.soleField "CompLabel" "level") ∈ lw_all := lw_g (lw_at lw_m1 53 rfl) rfl
theorem q80 : (Jvm.Cond.laysFinal "CompLabel" "CompLabel" "places" "[S") ∈ lw_all := lw_g (lw_at lw_m1 54 rfl) rfl
theorem q81 : (Jvm.Cond.soleField "CompLabel" "places") ∈ lw_all := lw_g (lw_at lw_m1 55 rfl) rfl
theorem q82 : (Jvm.Cond.laysFinal "CompLabel" "CompLabel" "within" "[S") ∈ lw_all := lw_g (lw_at lw_m1 56 rfl) rfl
theorem q83 : (Jvm.Cond.soleField "CompLabel" "within") ∈ lw_all := lw_g (lw_at lw_m1 57 rfl) rfl
theorem q84 : (Jvm.Cond.laysFinal "CompLabel" "CompLabel" "holeCount" "[S") ∈ lw_all := lw_g (lw_at lw_m1 58 rfl) rfl
theorem q85 : (Jvm.Cond.soleField "CompLabel" "holeCount") ∈ lw_all := lw_g (lw_at lw_m1 59 rfl) rfl
theorem q86 : (Jvm.Cond.laysFinal "CompLabel" "CompLabel" "number" "[S") ∈ lw_all := lw_g (lw_at lw_m1 60 rfl) rfl
theorem q87 : (Jvm.Cond.soleField "CompLabel" "number") ∈ lw_all := lw_g (lw_at lw_m1 61 rfl) rfl
theorem q88 : (Jvm.Cond.laysFinal "CompLabel" "CompLabel" "firstRun" "[S") ∈ lw_all := lw_g (lw_at lw_m1 62 rfl) rfl
theorem q89 : (Jvm.Cond.soleField "CompLabel" "firstRun") ∈ lw_all := lw_g (lw_at lw_m1 63 rfl) rfl
theorem q90 : (Jvm.Cond.lays "CompLabel" "CompLabel" "componentCount" "I") ∈ lw_all := lw_g (lw_at lw_m1 64 rfl) rfl
theorem q91 : (Jvm.Cond.soleField "CompLabel" "componentCount") ∈ lw_all := lw_g (lw_at lw_m1 65 rfl) rfl
theorem q92 : (Jvm.Cond.lays "CompLabel" "CompLabel" "regionCount" "I") ∈ lw_all := lw_g (lw_at lw_m1 66 rfl) rfl
theorem q93 : (Jvm.Cond.soleField "CompLabel" "regionCount") ∈ lw_all := lw_g (lw_at lw_m1 67 rfl) rfl
theorem q94 : (Jvm.Cond.superclass "CompLabel" "java/lang/Object") ∈ lw_all := lw_g (lw_at lw_m1 68 rfl) rfl
theorem q100 : (Jvm.Cond.instanceMethod ({ cls := "CompLabel", name := "set", desc := "(IIZ)Z" } : Jvm.MethodName)) ∈ lw_all := lw_g (lw_at lw_m1 74 rfl) rfl
theorem q101 : (Jvm.Cond.selects "CompLabel" ({ cls := "CompLabel", name := "set", desc := "(IIZ)Z" } : Jvm.MethodName) ({ cls := "CompLabel", name := "set", desc := "(IIZ)Z" } : Jvm.MethodName)) ∈ lw_all := lw_g (lw_at lw_m1 75 rfl) rfl
theorem q102 : (Jvm.Cond.code ({ cls := "CompLabel", name := "set", desc := "(IIZ)Z" } : Jvm.MethodName) prog_1_method_2_code (4 : Nat) (Option.some Jvm.ClassFile.FieldType.boolean)) ∈ lw_all := lw_g (lw_at lw_m1 76 rfl) rfl
theorem q103 : (Jvm.Cond.methodLink "CompLabel" (59 : Nat) ({ cls := "CompLabel", name := "inPicture", desc := "(II)Z" } : Jvm.MethodName)) ∈ lw_all := lw_g (lw_at lw_m1 77 rfl) rfl
theorem q104 : (Jvm.Cond.privateMethod ({ cls := "CompLabel", name := "inPicture", desc := "(II)Z" } : Jvm.MethodName)) ∈ lw_tbl := lw_at lw_m1 78 rfl
theorem q105 : (Jvm.Cond.instanceMethod ({ cls := "CompLabel", name := "inPicture", desc := "(II)Z" } : Jvm.MethodName)) ∈ lw_all := lw_g (lw_at lw_m1 79 rfl) rfl
theorem q106 : (Jvm.Cond.code ({ cls := "CompLabel", name := "inPicture", desc := "(II)Z" } : Jvm.MethodName) prog_1_method_13_code (3 : Nat) (Option.some Jvm.ClassFile.FieldType.boolean)) ∈ lw_all := lw_g (lw_at lw_m1 80 rfl) rfl
theorem q108 : (Jvm.Cond.instanceMethod ({ cls := "CompLabel", name := "invert", desc := "(IIII)Z" } : Jvm.MethodName)) ∈ lw_all := lw_g (lw_at lw_m1 82 rfl) rfl
theorem q109 : (Jvm.Cond.selects "CompLabel" ({ cls := "CompLabel", name := "invert", desc := "(IIII)Z" } : Jvm.MethodName) ({ cls := "CompLabel", name := "invert", desc := "(IIII)Z" } : Jvm.MethodName)) ∈ lw_all := lw_g (lw_at lw_m1 83 rfl) rfl
theorem q110 : (Jvm.Cond.code ({ cls := "CompLabel", name := "invert", desc := "(IIII)Z" } : Jvm.MethodName) prog_1_method_3_code (7 : Nat) (Option.some Jvm.ClassFile.FieldType.boolean)) ∈ lw_all := lw_g (lw_at lw_m1 84 rfl) rfl
theorem q112 : (Jvm.Cond.instanceMethod ({ cls := "CompLabel", name := "isBlack", desc := "(II)Z" } : Jvm.MethodName)) ∈ lw_all := lw_g (lw_at lw_m1 86 rfl) rfl
theorem q113 : (Jvm.Cond.selects "CompLabel" ({ cls := "CompLabel", name := "isBlack", desc := "(II)Z" } : Jvm.MethodName) ({ cls := "CompLabel", name := "isBlack", desc := "(II)Z" } : Jvm.MethodName)) ∈ lw_all := lw_g (lw_at lw_m1 87 rfl) rfl
theorem q114 : (Jvm.Cond.code ({ cls := "CompLabel", name := "isBlack", desc := "(II)Z" } : Jvm.MethodName) prog_1_method_4_code (3 : Nat) (Option.some Jvm.ClassFile.FieldType.boolean)) ∈ lw_all := lw_g (lw_at lw_m1 88 rfl) rfl
theorem q116 : (Jvm.Cond.instanceMethod ({ cls := "CompLabel", name := "components", desc := "()I" } : Jvm.MethodName)) ∈ lw_all := lw_g (lw_at lw_m1 90 rfl) rfl
theorem q117 : (Jvm.Cond.selects "CompLabel" ({ cls := "CompLabel", name := "components", desc := "()I" } : Jvm.MethodName) ({ cls := "CompLabel", name := "components", desc := "()I" } : Jvm.MethodName)) ∈ lw_all := lw_g (lw_at lw_m1 91 rfl) rfl
theorem q118 : (Jvm.Cond.code ({ cls := "CompLabel", name := "components", desc := "()I" } : Jvm.MethodName) prog_1_method_5_code (1 : Nat) (Option.some Jvm.ClassFile.FieldType.int)) ∈ lw_all := lw_g (lw_at lw_m1 92 rfl) rfl
theorem q119 : (Jvm.Cond.methodLink "CompLabel" (67 : Nat) ({ cls := "CompLabel", name := "labelAll", desc := "()V" } : Jvm.MethodName)) ∈ lw_all := lw_g (lw_at lw_m1 93 rfl) rfl
theorem q120 : (Jvm.Cond.privateMethod ({ cls := "CompLabel", name := "labelAll", desc := "()V" } : Jvm.MethodName)) ∈ lw_tbl := lw_at lw_m1 94 rfl
theorem q121 : (Jvm.Cond.instanceMethod ({ cls := "CompLabel", name := "labelAll", desc := "()V" } : Jvm.MethodName)) ∈ lw_all := lw_g (lw_at lw_m1 95 rfl) rfl
theorem q122 : (Jvm.Cond.code ({ cls := "CompLabel", name := "labelAll", desc := "()V" } : Jvm.MethodName) prog_1_method_15_code (2 : Nat) (Option.none : Option Jvm.ClassFile.FieldType)) ∈ lw_all := lw_g (lw_at lw_m1 96 rfl) rfl
theorem q123 : (Jvm.Cond.methodLink "CompLabel" (83 : Nat) ({ cls := "CompLabel", name := "cutRow", desc := "(I)V" } : Jvm.MethodName)) ∈ lw_all := lw_g (lw_at lw_m1 97 rfl) rfl
theorem q124 : (Jvm.Cond.privateMethod ({ cls := "CompLabel", name := "cutRow", desc := "(I)V" } : Jvm.MethodName)) ∈ lw_tbl := lw_at lw_m1 98 rfl
theorem q125 : (Jvm.Cond.instanceMethod ({ cls := "CompLabel", name := "cutRow", desc := "(I)V" } : Jvm.MethodName)) ∈ lw_all := lw_g (lw_at lw_m1 99 rfl) rfl
theorem q126 : (Jvm.Cond.code ({ cls := "CompLabel", name := "cutRow", desc := "(I)V" } : Jvm.MethodName) prog_1_method_16_code (5 : Nat) (Option.none : Option Jvm.ClassFile.FieldType)) ∈ lw_all := lw_g (lw_at lw_m1 100 rfl) rfl
theorem q127 : (Jvm.Cond.methodLink "CompLabel" (87 : Nat) ({ cls := "CompLabel", name := "openBorders", desc := "(I)V" } : Jvm.MethodName)) ∈ lw_all := lw_g (lw_at lw_m1 101 rfl) rfl
theorem q128 : (Jvm.Cond.privateMethod ({ cls := "CompLabel", name := "openBorders", desc := "(I)V" } : Jvm.MethodName)) ∈ lw_tbl := lw_at lw_m1 102 rfl
theorem q129 : (Jvm.Cond.instanceMethod ({ cls := "CompLabel", name := "openBorders", desc := "(I)V" } : Jvm.MethodName)) ∈ lw_all := lw_g (lw_at lw_m1 103 rfl) rfl
theorem q130 : (Jvm.Cond.code ({ cls := "CompLabel", name := "openBorders", desc := "(I)V" } : Jvm.MethodName) prog_1_method_17_code (4 : Nat) (Option.none : Option Jvm.ClassFile.FieldType)) ∈ lw_all := lw_g (lw_at lw_m1 104 rfl) rfl
theorem q131 : (Jvm.Cond.methodLink "CompLabel" (99 : Nat) ({ cls := "CompLabel", name := "unite", desc := "(II)V" } : Jvm.MethodName)) ∈ lw_all := lw_g (lw_at lw_m1 105 rfl) rfl
theorem q132 : (Jvm.Cond.privateMethod ({ cls := "CompLabel", name := "unite", desc := "(II)V" } : Jvm.MethodName)) ∈ lw_tbl := lw_at lw_m1 106 rfl
theorem q133 : (Jvm.Cond.instanceMethod ({ cls := "CompLabel", name := "unite", desc := "(II)V" } : Jvm.MethodName)) ∈ lw_all := lw_g (lw_at lw_m1 107 rfl) rfl
theorem q134 : (Jvm.Cond.code ({ cls := "CompLabel", name := "unite", desc := "(II)V" } : Jvm.MethodName) prog_1_method_21_code (5 : Nat) (Option.none : Option Jvm.ClassFile.FieldType)) ∈ lw_all := lw_g (lw_at lw_m1 108 rfl) rfl
theorem q135 : (Jvm.Cond.methodLink "CompLabel" (107 : Nat) ({ cls := "CompLabel", name := "first", desc := "(I)I" } : Jvm.MethodName)) ∈ lw_all := lw_g (lw_at lw_m1 109 rfl) rfl
theorem q136 : (Jvm.Cond.privateMethod ({ cls := "CompLabel", name := "first", desc := "(I)I" } : Jvm.MethodName)) ∈ lw_tbl := lw_at lw_m1 110 rfl
theorem q137 : (Jvm.Cond.instanceMethod ({ cls := "CompLabel", name := "first", desc := "(I)I" } : Jvm.MethodName)) ∈ lw_all := lw_g (lw_at lw_m1 111 rfl) rfl
theorem q138 : (Jvm.Cond.code ({ cls := "CompLabel", name := "first", desc := "(I)I" } : Jvm.MethodName) prog_1_method_20_code (3 : Nat) (Option.some Jvm.ClassFile.FieldType.int)) ∈ lw_all := lw_g (lw_at lw_m1 112 rfl) rfl
theorem q139 : (Jvm.Cond.methodLink "CompLabel" (90 : Nat) ({ cls := "CompLabel", name := "touchAbove", desc := "(I)V" } : Jvm.MethodName)) ∈ lw_all := lw_g (lw_at lw_m1 113 rfl) rfl
theorem q140 : (Jvm.Cond.privateMethod ({ cls := "CompLabel", name := "touchAbove", desc := "(I)V" } : Jvm.MethodName)) ∈ lw_tbl := lw_at lw_m1 114 rfl
theorem q141 : (Jvm.Cond.instanceMethod ({ cls := "CompLabel", name := "touchAbove", desc := "(I)V" } : Jvm.MethodName)) ∈ lw_all := lw_g (lw_at lw_m1 115 rfl) rfl
theorem q142 : (Jvm.Cond.code ({ cls := "CompLabel", name := "touchAbove", desc := "(I)V" } : Jvm.MethodName) prog_1_method_18_code (5 : Nat) (Option.none : Option Jvm.ClassFile.FieldType)) ∈ lw_all := lw_g (lw_at lw_m1 116 rfl) rfl
theorem q143 : (Jvm.Cond.methodLink "CompLabel" (103 : Nat) ({ cls := "CompLabel", name := "cornerAbove", desc := "(III)V" } : Jvm.MethodName)) ∈ lw_all := lw_g (lw_at lw_m1 117 rfl) rfl
theorem q144 : (Jvm.Cond.privateMethod ({ cls := "CompLabel", name := "cornerAbove", desc := "(III)V" } : Jvm.MethodName)) ∈ lw_tbl := lw_at lw_m1 118 rfl
theorem q145 : (Jvm.Cond.instanceMethod ({ cls := "CompLabel", name := "cornerAbove", desc := "(III)V" } : Jvm.MethodName)) ∈ lw_all := lw_g (lw_at lw_m1 119 rfl) rfl
theorem q146 : (Jvm.Cond.code ({ cls := "CompLabel", name := "cornerAbove", desc := "(III)V" } : Jvm.MethodName) prog_1_method_19_code (4 : Nat) (Option.none : Option Jvm.ClassFile.FieldType)) ∈ lw_all := lw_g (lw_at lw_m1 120 rfl) rfl
theorem q147 : (Jvm.Cond.methodLink "CompLabel" (93 : Nat) ({ cls := "CompLabel", name := "settleRuns", desc := "()V" } : Jvm.MethodName)) ∈ lw_all := lw_g (lw_at lw_m1 121 rfl) rfl
theorem q148 : (Jvm.Cond.privateMethod ({ cls := "CompLabel", name := "settleRuns", desc := "()V" } : Jvm.MethodName)) ∈ lw_tbl := lw_at lw_m1 122 rfl
theorem q149 : (Jvm.Cond.instanceMethod ({ cls := "CompLabel", name := "settleRuns", desc := "()V" } : Jvm.MethodName)) ∈ lw_all := lw_g (lw_at lw_m1 123 rfl) rfl
theorem q150 : (Jvm.Cond.code ({ cls := "CompLabel", name := "settleRuns", desc := "()V" } : Jvm.MethodName) prog_1_method_22_code (5 : Nat) (Option.none : Option Jvm.ClassFile.FieldType)) ∈ lw_all := lw_g (lw_at lw_m1 124 rfl) rfl
theorem q151 : (Jvm.Cond.methodLink "CompLabel" (96 : Nat) ({ cls := "CompLabel", name := "sumUp", desc := "()V" } : Jvm.MethodName)) ∈ lw_all := lw_g (lw_at lw_m1 125 rfl) rfl
theorem q152 : (Jvm.Cond.privateMethod ({ cls := "CompLabel", name := "sumUp", desc := "()V" } : Jvm.MethodName)) ∈ lw_tbl := lw_at lw_m1 126 rfl
theorem q153 : (Jvm.Cond.instanceMethod ({ cls := "CompLabel", name := "sumUp", desc := "()V" } : Jvm.MethodName)) ∈ lw_all := lw_g (lw_at lw_m1 127 rfl) rfl
theorem q154 : (Jvm.Cond.code ({ cls := "CompLabel", name := "sumUp", desc := "()V" } : Jvm.MethodName) prog_1_method_23_code (3 : Nat) (Option.none : Option Jvm.ClassFile.FieldType)) ∈ lw_all := lw_g (lw_at lw_m1 128 rfl) rfl
theorem q156 : (Jvm.Cond.instanceMethod ({ cls := "CompLabel", name := "euler", desc := "()I" } : Jvm.MethodName)) ∈ lw_all := lw_g (lw_at lw_m1 130 rfl) rfl
theorem q157 : (Jvm.Cond.selects "CompLabel" ({ cls := "CompLabel", name := "euler", desc := "()I" } : Jvm.MethodName) ({ cls := "CompLabel", name := "euler", desc := "()I" } : Jvm.MethodName)) ∈ lw_all := lw_g (lw_at lw_m1 131 rfl) rfl
theorem q158 : (Jvm.Cond.code ({ cls := "CompLabel", name := "euler", desc := "()I" } : Jvm.MethodName) prog_1_method_6_code (1 : Nat) (Option.some Jvm.ClassFile.FieldType.int)) ∈ lw_all := lw_g (lw_at lw_m1 132 rfl) rfl
theorem q160 : (Jvm.Cond.instanceMethod ({ cls := "CompLabel", name := "label", desc := "(II)I" } : Jvm.MethodName)) ∈ lw_all := lw_g (lw_at lw_m1 134 rfl) rfl
theorem q161 : (Jvm.Cond.selects "CompLabel" ({ cls := "CompLabel", name := "label", desc := "(II)I" } : Jvm.MethodName) ({ cls := "CompLabel", name := "label", desc := "(II)I" } : Jvm.MethodName)) ∈ lw_all := lw_g (lw_at lw_m1 135 rfl) rfl
theorem q162 : (Jvm.Cond.code ({ cls := "CompLabel", name := "label", desc := "(II)I" } : Jvm.MethodName) prog_1_method_7_code (4 : Nat) (Option.some Jvm.ClassFile.FieldType.int)) ∈ lw_all := lw_g (lw_at lw_m1 136 rfl) rfl
theorem q163 : (Jvm.Cond.methodLink "CompLabel" (76 : Nat) ({ cls := "CompLabel", name := "runAt", desc := "(II)I" } : Jvm.MethodName)) ∈ lw_all := lw_g (lw_at lw_m1 137 rfl) rfl
theorem q164 : (Jvm.Cond.privateMethod ({ cls := "CompLabel", name := "runAt", desc := "(II)I" } : Jvm.MethodName)) ∈ lw_tbl := lw_at lw_m1 138 rfl
theorem q165 : (Jvm.Cond.instanceMethod ({ cls := "CompLabel", name := "runAt", desc := "(II)I" } : Jvm.MethodName)) ∈ lw_all := lw_g (lw_at lw_m1 139 rfl) rfl
theorem q166 : (Jvm.Cond.code ({ cls := "CompLabel", name := "runAt", desc := "(II)I" } : Jvm.MethodName) prog_1_method_14_code (4 : Nat) (Option.some Jvm.ClassFile.FieldType.int)) ∈ lw_all := lw_g (lw_at lw_m1 140 rfl) rfl
theorem q168 : (Jvm.Cond.instanceMethod ({ cls := "CompLabel", name := "area", desc := "(I)I" } : Jvm.MethodName)) ∈ lw_all := lw_g (lw_at lw_m1 142 rfl) rfl
theorem q169 : (Jvm.Cond.selects "CompLabel" ({ cls := "CompLabel", name := "area", desc := "(I)I" } : Jvm.MethodName) ({ cls := "CompLabel", name := "area", desc := "(I)I" } : Jvm.MethodName)) ∈ lw_all := lw_g (lw_at lw_m1 143 rfl) rfl
theorem q170 : (Jvm.Cond.code ({ cls := "CompLabel", name := "area", desc := "(I)I" } : Jvm.MethodName) prog_1_method_8_code (2 : Nat) (Option.some Jvm.ClassFile.FieldType.int)) ∈ lw_all := lw_g (lw_at lw_m1 144 rfl) rfl
theorem q172 : (Jvm.Cond.instanceMethod ({ cls := "CompLabel", name := "holes", desc := "(I)I" } : Jvm.MethodName)) ∈ lw_all := lw_g (lw_at lw_m1 146 rfl) rfl
theorem q173 : (Jvm.Cond.selects "CompLabel" ({ cls := "CompLabel", name := "holes", desc := "(I)I" } : Jvm.MethodName) ({ cls := "CompLabel", name := "holes", desc := "(I)I" } : Jvm.MethodName)) ∈ lw_all := lw_g (lw_at lw_m1 147 rfl) rfl
theorem q174 : (Jvm.Cond.code ({ cls := "CompLabel", name := "holes", desc := "(I)I" } : Jvm.MethodName) prog_1_method_9_code (2 : Nat) (Option.some Jvm.ClassFile.FieldType.int)) ∈ lw_all := lw_g (lw_at lw_m1 148 rfl) rfl
theorem q176 : (Jvm.Cond.instanceMethod ({ cls := "CompLabel", name := "around", desc := "(I)I" } : Jvm.MethodName)) ∈ lw_all := lw_g (lw_at lw_m1 150 rfl) rfl
theorem q177 : (Jvm.Cond.selects "CompLabel" ({ cls := "CompLabel", name := "around", desc := "(I)I" } : Jvm.MethodName) ({ cls := "CompLabel", name := "around", desc := "(I)I" } : Jvm.MethodName)) ∈ lw_all := lw_g (lw_at lw_m1 151 rfl) rfl
theorem q178 : (Jvm.Cond.code ({ cls := "CompLabel", name := "around", desc := "(I)I" } : Jvm.MethodName) prog_1_method_10_code (3 : Nat) (Option.some Jvm.ClassFile.FieldType.int)) ∈ lw_all := lw_g (lw_at lw_m1 152 rfl) rfl
theorem q180 : (Jvm.Cond.instanceMethod ({ cls := "CompLabel", name := "depth", desc := "(II)I" } : Jvm.MethodName)) ∈ lw_all := lw_g (lw_at lw_m1 154 rfl) rfl
theorem q181 : (Jvm.Cond.selects "CompLabel" ({ cls := "CompLabel", name := "depth", desc := "(II)I" } : Jvm.MethodName) ({ cls := "CompLabel", name := "depth", desc := "(II)I" } : Jvm.MethodName)) ∈ lw_all := lw_g (lw_at lw_m1 155 rfl) rfl
theorem q182 : (Jvm.Cond.code ({ cls := "CompLabel", name := "depth", desc := "(II)I" } : Jvm.MethodName) prog_1_method_11_code (4 : Nat) (Option.some Jvm.ClassFile.FieldType.int)) ∈ lw_all := lw_g (lw_at lw_m1 156 rfl) rfl
theorem q184 : (Jvm.Cond.instanceMethod ({ cls := "CompLabel", name := "enclosed", desc := "(I)I" } : Jvm.MethodName)) ∈ lw_all := lw_g (lw_at lw_m1 158 rfl) rfl
theorem q185 : (Jvm.Cond.selects "CompLabel" ({ cls := "CompLabel", name := "enclosed", desc := "(I)I" } : Jvm.MethodName) ({ cls := "CompLabel", name := "enclosed", desc := "(I)I" } : Jvm.MethodName)) ∈ lw_all := lw_g (lw_at lw_m1 159 rfl) rfl
theorem q186 : (Jvm.Cond.code ({ cls := "CompLabel", name := "enclosed", desc := "(I)I" } : Jvm.MethodName) prog_1_method_12_code (2 : Nat) (Option.some Jvm.ClassFile.FieldType.int)) ∈ lw_all := lw_g (lw_at lw_m1 160 rfl) rfl
theorem in_X1 : ∀ w ∈ wsX10, w ∈ lw_all := lw_in wsX10 [56, 58, 60, 62, 64, 66, 68, 70, 72, 74, 76, 78, 80, 82, 84, 86, 88, 90, 92] (by decide +kernel) (by decide +kernel)
theorem dX1_init_0 : decode cX1_init 0 = .ok (.aload_n 0, 1) := by decide +kernel
theorem dX1_init_1 : decode cX1_init 1 = .ok (.invokespecial 1, 3) := by decide +kernel
theorem dX1_init_4 : decode cX1_init 4 = .ok (.aload_n 0, 1) := by decide +kernel
theorem dX1_init_5 : decode cX1_init 5 = .ok (.bipush 12, 2) := by decide +kernel
theorem dX1_init_7 : decode cX1_init 7 = .ok (.newarray .int, 2) := by decide +kernel
theorem dX1_init_9 : decode cX1_init 9 = .ok (.putfield 7, 3) := by decide +kernel
theorem dX1_init_12 : decode cX1_init 12 = .ok (.aload_n 0, 1) := by decide +kernel
theorem dX1_init_13 : decode cX1_init 13 = .ok (.sipush 145, 3) := by decide +kernel
theorem dX1_init_16 : decode cX1_init 16 = .ok (.newarray .byte, 2) := by decide +kernel
theorem dX1_init_18 : decode cX1_init 18 = .ok (.putfield 13, 3) := by decide +kernel
theorem dX1_init_21 : decode cX1_init 21 = .ok (.aload_n 0, 1) := by decide +kernel
theorem dX1_init_22 : decode cX1_init 22 = .ok (.sipush 145, 3) := by decide +kernel
theorem dX1_init_25 : decode cX1_init 25 = .ok (.newarray .byte, 2) := by decide +kernel
theorem dX1_init_27 : decode cX1_init 27 = .ok (.putfield 17, 3) := by decide +kernel
theorem dX1_init_30 : decode cX1_init 30 = .ok (.aload_n 0, 1) := by decide +kernel
theorem dX1_init_31 : decode cX1_init 31 = .ok (.sipush 145, 3) := by decide +kernel
theorem dX1_init_34 : decode cX1_init 34 = .ok (.newarray .boolean, 2) := by decide +kernel
theorem dX1_init_36 : decode cX1_init 36 = .ok (.putfield 20, 3) := by decide +kernel
theorem dX1_init_39 : decode cX1_init 39 = .ok (.aload_n 0, 1) := by decide +kernel
theorem dX1_init_40 : decode cX1_init 40 = .ok (.sipush 145, 3) := by decide +kernel
theorem dX1_init_43 : decode cX1_init 43 = .ok (.newarray .short, 2) := by decide +kernel
theorem dX1_init_45 : decode cX1_init 45 = .ok (.putfield 24, 3) := by decide +kernel
theorem dX1_init_48 : decode cX1_init 48 = .ok (.aload_n 0, 1) := by decide +kernel
theorem dX1_init_49 : decode cX1_init 49 = .ok (.bipush 13, 2) := by decide +kernel
theorem dX1_init_51 : decode cX1_init 51 = .ok (.newarray .short, 2) := by decide +kernel
theorem dX1_init_53 : decode cX1_init 53 = .ok (.putfield 28, 3) := by decide +kernel
theorem dX1_init_56 : decode cX1_init 56 = .ok (.aload_n 0, 1) := by decide +kernel
theorem dX1_init_57 : decode cX1_init 57 = .ok (.sipush 145, 3) := by decide +kernel
theorem dX1_init_60 : decode cX1_init 60 = .ok (.newarray .short, 2) := by decide +kernel
theorem dX1_init_62 : decode cX1_init 62 = .ok (.putfield 31, 3) := by decide +kernel
theorem dX1_init_65 : decode cX1_init 65 = .ok (.aload_n 0, 1) := by decide +kernel
theorem dX1_init_66 : decode cX1_init 66 = .ok (.sipush 145, 3) := by decide +kernel
theorem dX1_init_69 : decode cX1_init 69 = .ok (.newarray .byte, 2) := by decide +kernel
theorem dX1_init_71 : decode cX1_init 71 = .ok (.putfield 34, 3) := by decide +kernel
theorem dX1_init_74 : decode cX1_init 74 = .ok (.aload_n 0, 1) := by decide +kernel
theorem dX1_init_75 : decode cX1_init 75 = .ok (.sipush 145, 3) := by decide +kernel
theorem dX1_init_78 : decode cX1_init 78 = .ok (.newarray .short, 2) := by decide +kernel
theorem dX1_init_80 : decode cX1_init 80 = .ok (.putfield 37, 3) := by decide +kernel
theorem dX1_init_83 : decode cX1_init 83 = .ok (.aload_n 0, 1) := by decide +kernel
theorem dX1_init_84 : decode cX1_init 84 = .ok (.sipush 145, 3) := by decide +kernel
theorem dX1_init_87 : decode cX1_init 87 = .ok (.newarray .short, 2) := by decide +kernel
theorem dX1_init_89 : decode cX1_init 89 = .ok (.putfield 40, 3) := by decide +kernel
theorem dX1_init_92 : decode cX1_init 92 = .ok (.aload_n 0, 1) := by decide +kernel
theorem dX1_init_93 : decode cX1_init 93 = .ok (.sipush 145, 3) := by decide +kernel
theorem dX1_init_96 : decode cX1_init 96 = .ok (.newarray .short, 2) := by decide +kernel
theorem dX1_init_98 : decode cX1_init 98 = .ok (.putfield 43, 3) := by decide +kernel
theorem dX1_init_101 : decode cX1_init 101 = .ok (.aload_n 0, 1) := by decide +kernel
theorem dX1_init_102 : decode cX1_init 102 = .ok (.sipush 145, 3) := by decide +kernel
theorem dX1_init_105 : decode cX1_init 105 = .ok (.newarray .short, 2) := by decide +kernel
theorem dX1_init_107 : decode cX1_init 107 = .ok (.putfield 46, 3) := by decide +kernel
theorem dX1_init_110 : decode cX1_init 110 = .ok (.aload_n 0, 1) := by decide +kernel
theorem dX1_init_111 : decode cX1_init 111 = .ok (.sipush 145, 3) := by decide +kernel
theorem dX1_init_114 : decode cX1_init 114 = .ok (.newarray .short, 2) := by decide +kernel
theorem dX1_init_116 : decode cX1_init 116 = .ok (.putfield 49, 3) := by decide +kernel
theorem dX1_init_119 : decode cX1_init 119 = .ok (.aload_n 0, 1) := by decide +kernel
theorem dX1_init_120 : decode cX1_init 120 = .ok (.iload_n 1, 1) := by decide +kernel
theorem dX1_init_121 : decode cX1_init 121 = .ok (.iconst 2, 1) := by decide +kernel
theorem dX1_init_122 : decode cX1_init 122 = .ok (.if_icmp .ge 7, 3) := by decide +kernel
theorem dX1_init_125 : decode cX1_init 125 = .ok (.iconst 2, 1) := by decide +kernel
theorem dX1_init_126 : decode cX1_init 126 = .ok (.goto 15, 3) := by decide +kernel
theorem dX1_init_129 : decode cX1_init 129 = .ok (.iload_n 1, 1) := by decide +kernel
theorem dX1_init_130 : decode cX1_init 130 = .ok (.bipush 12, 2) := by decide +kernel
theorem dX1_init_132 : decode cX1_init 132 = .ok (.if_icmp .le 8, 3) := by decide +kernel
theorem dX1_init_135 : decode cX1_init 135 = .ok (.bipush 12, 2) := by decide +kernel
theorem dX1_init_137 : decode cX1_init 137 = .ok (.goto 4, 3) := by decide +kernel
theorem dX1_init_140 : decode cX1_init 140 = .ok (.iload_n 1, 1) := by decide +kernel
theorem dX1_init_141 : decode cX1_init 141 = .ok (.putfield 52, 3) := by decide +kernel
theorem dX1_init_144 : decode cX1_init 144 = .ok (.aload_n 0, 1) := by decide +kernel
theorem dX1_init_145 : decode cX1_init 145 = .ok (.iload_n 2, 1) := by decide +kernel
theorem dX1_init_146 : decode cX1_init 146 = .ok (.iconst 2, 1) := by decide +kernel
theorem dX1_init_147 : decode cX1_init 147 = .ok (.if_icmp .ge 7, 3) := by decide +kernel
theorem dX1_init_150 : decode cX1_init 150 = .ok (.iconst 2, 1) := by decide +kernel
theorem dX1_init_151 : decode cX1_init 151 = .ok (.goto 15, 3) := by decide +kernel
theorem dX1_init_154 : decode cX1_init 154 = .ok (.iload_n 2, 1) := by decide +kernel
theorem dX1_init_155 : decode cX1_init 155 = .ok (.bipush 12, 2) := by decide +kernel
theorem dX1_init_157 : decode cX1_init 157 = .ok (.if_icmp .le 8, 3) := by decide +kernel
theorem dX1_init_160 : decode cX1_init 160 = .ok (.bipush 12, 2) := by decide +kernel
theorem dX1_init_162 : decode cX1_init 162 = .ok (.goto 4, 3) := by decide +kernel
theorem dX1_init_165 : decode cX1_init 165 = .ok (.iload_n 2, 1) := by decide +kernel
theorem dX1_init_166 : decode cX1_init 166 = .ok (.putfield 56, 3) := by decide +kernel
theorem dX1_init_169 : decode cX1_init 169 = .ok (.return_, 1) := by decide +kernel
theorem dX1_set_0 : decode cX1_set 0 = .ok (.aload_n 0, 1) := by decide +kernel
theorem dX1_set_1 : decode cX1_set 1 = .ok (.iload_n 1, 1) := by decide +kernel
theorem dX1_set_2 : decode cX1_set 2 = .ok (.iload_n 2, 1) := by decide +kernel
theorem dX1_set_3 : decode cX1_set 3 = .ok (.invokevirtual 59, 3) := by decide +kernel
theorem dX1_set_6 : decode cX1_set 6 = .ok (.ifCond .ne 5, 3) := by decide +kernel
theorem dX1_set_9 : decode cX1_set 9 = .ok (.iconst 0, 1) := by decide +kernel
theorem dX1_set_10 : decode cX1_set 10 = .ok (.ireturn, 1) := by decide +kernel
theorem dX1_set_11 : decode cX1_set 11 = .ok (.iload_n 3, 1) := by decide +kernel
theorem dX1_set_12 : decode cX1_set 12 = .ok (.ifCond .eq 18, 3) := by decide +kernel
theorem dX1_set_15 : decode cX1_set 15 = .ok (.aload_n 0, 1) := by decide +kernel
theorem dX1_set_16 : decode cX1_set 16 = .ok (.getfield 7, 3) := by decide +kernel
theorem dX1_set_19 : decode cX1_set 19 = .ok (.iload_n 2, 1) := by decide +kernel
theorem dX1_set_20 : decode cX1_set 20 = .ok (.dup2, 1) := by decide +kernel
theorem dX1_set_21 : decode cX1_set 21 = .ok (.iaload, 1) := by decide +kernel
theorem dX1_set_22 : decode cX1_set 22 = .ok (.iconst 1, 1) := by decide +kernel
theorem dX1_set_23 : decode cX1_set 23 = .ok (.iload_n 1, 1) := by decide +kernel
theorem dX1_set_24 : decode cX1_set 24 = .ok (.ishl, 1) := by decide +kernel
theorem dX1_set_25 : decode cX1_set 25 = .ok (.ior, 1) := by decide +kernel
theorem dX1_set_26 : decode cX1_set 26 = .ok (.iastore, 1) := by decide +kernel
theorem dX1_set_27 : decode cX1_set 27 = .ok (.goto 17, 3) := by decide +kernel
theorem dX1_set_30 : decode cX1_set 30 = .ok (.aload_n 0, 1) := by decide +kernel
theorem dX1_set_31 : decode cX1_set 31 = .ok (.getfield 7, 3) := by decide +kernel
theorem dX1_set_34 : decode cX1_set 34 = .ok (.iload_n 2, 1) := by decide +kernel
theorem dX1_set_35 : decode cX1_set 35 = .ok (.dup2, 1) := by decide +kernel
theorem dX1_set_36 : decode cX1_set 36 = .ok (.iaload, 1) := by decide +kernel
theorem dX1_set_37 : decode cX1_set 37 = .ok (.iconst 1, 1) := by decide +kernel
theorem dX1_set_38 : decode cX1_set 38 = .ok (.iload_n 1, 1) := by decide +kernel
theorem dX1_set_39 : decode cX1_set 39 = .ok (.ishl, 1) := by decide +kernel
theorem dX1_set_40 : decode cX1_set 40 = .ok (.iconst (-1), 1) := by decide +kernel
theorem dX1_set_41 : decode cX1_set 41 = .ok (.ixor, 1) := by decide +kernel
theorem dX1_set_42 : decode cX1_set 42 = .ok (.iand, 1) := by decide +kernel
theorem dX1_set_43 : decode cX1_set 43 = .ok (.iastore, 1) := by decide +kernel
theorem dX1_set_44 : decode cX1_set 44 = .ok (.aload_n 0, 1) := by decide +kernel
theorem dX1_set_45 : decode cX1_set 45 = .ok (.iconst 0, 1) := by decide +kernel
theorem dX1_set_46 : decode cX1_set 46 = .ok (.putfield 63, 3) := by decide +kernel
theorem dX1_set_49 : decode cX1_set 49 = .ok (.iconst 1, 1) := by decide +kernel
theorem dX1_set_50 : decode cX1_set 50 = .ok (.ireturn, 1) := by decide +kernel
theorem dX1_inPicture_0 : decode cX1_inPicture 0 = .ok (.iload_n 1, 1) := by decide +kernel
theorem dX1_inPicture_1 : decode cX1_inPicture 1 = .ok (.ifCond .lt 27, 3) := by decide +kernel
theorem dX1_inPicture_4 : decode cX1_inPicture 4 = .ok (.iload_n 1, 1) := by decide +kernel
theorem dX1_inPicture_5 : decode cX1_inPicture 5 = .ok (.aload_n 0, 1) := by decide +kernel
theorem dX1_inPicture_6 : decode cX1_inPicture 6 = .ok (.getfield 52, 3) := by decide +kernel
theorem dX1_inPicture_9 : decode cX1_inPicture 9 = .ok (.if_icmp .ge 19, 3) := by decide +kernel
theorem dX1_inPicture_12 : decode cX1_inPicture 12 = .ok (.iload_n 2, 1) := by decide +kernel
theorem dX1_inPicture_13 : decode cX1_inPicture 13 = .ok (.ifCond .lt 15, 3) := by decide +kernel
theorem dX1_inPicture_16 : decode cX1_inPicture 16 = .ok (.iload_n 2, 1) := by decide +kernel
theorem dX1_inPicture_17 : decode cX1_inPicture 17 = .ok (.aload_n 0, 1) := by decide +kernel
theorem dX1_inPicture_18 : decode cX1_inPicture 18 = .ok (.getfield 56, 3) := by decide +kernel
theorem dX1_inPicture_21 : decode cX1_inPicture 21 = .ok (.if_icmp .ge 7, 3) := by decide +kernel
theorem dX1_inPicture_24 : decode cX1_inPicture 24 = .ok (.iconst 1, 1) := by decide +kernel
theorem dX1_inPicture_25 : decode cX1_inPicture 25 = .ok (.goto 4, 3) := by decide +kernel
theorem dX1_inPicture_28 : decode cX1_inPicture 28 = .ok (.iconst 0, 1) := by decide +kernel
theorem dX1_inPicture_29 : decode cX1_inPicture 29 = .ok (.ireturn, 1) := by decide +kernel
theorem dX1_invert_0 : decode cX1_invert 0 = .ok (.aload_n 0, 1) := by decide +kernel
theorem dX1_invert_1 : decode cX1_invert 1 = .ok (.iload_n 1, 1) := by decide +kernel
theorem dX1_invert_2 : decode cX1_invert 2 = .ok (.iload_n 2, 1) := by decide +kernel
theorem dX1_invert_3 : decode cX1_invert 3 = .ok (.invokevirtual 59, 3) := by decide +kernel
theorem dX1_invert_6 : decode cX1_invert 6 = .ok (.ifCond .ne 5, 3) := by decide +kernel
theorem dX1_invert_9 : decode cX1_invert 9 = .ok (.iconst 0, 1) := by decide +kernel
theorem dX1_invert_10 : decode cX1_invert 10 = .ok (.ireturn, 1) := by decide +kernel
theorem dX1_invert_11 : decode cX1_invert 11 = .ok (.iload_n 3, 1) := by decide +kernel
theorem dX1_invert_12 : decode cX1_invert 12 = .ok (.iconst 1, 1) := by decide +kernel
theorem dX1_invert_13 : decode cX1_invert 13 = .ok (.if_icmp .lt 30, 3) := by decide +kernel
theorem dX1_invert_16 : decode cX1_invert 16 = .ok (.iload_n 3, 1) := by decide +kernel
theorem dX1_invert_17 : decode cX1_invert 17 = .ok (.aload_n 0, 1) := by decide +kernel
theorem dX1_invert_18 : decode cX1_invert 18 = .ok (.getfield 52, 3) := by decide +kernel
theorem dX1_invert_21 : decode cX1_invert 21 = .ok (.iload_n 1, 1) := by decide +kernel
theorem dX1_invert_22 : decode cX1_invert 22 = .ok (.isub, 1) := by decide +kernel
theorem dX1_invert_23 : decode cX1_invert 23 = .ok (.if_icmp .gt 20, 3) := by decide +kernel
theorem dX1_invert_26 : decode cX1_invert 26 = .ok (.iload 4, 2) := by decide +kernel
theorem dX1_invert_28 : decode cX1_invert 28 = .ok (.iconst 1, 1) := by decide +kernel
theorem dX1_invert_29 : decode cX1_invert 29 = .ok (.if_icmp .lt 14, 3) := by decide +kernel
theorem dX1_invert_32 : decode cX1_invert 32 = .ok (.iload 4, 2) := by decide +kernel
theorem dX1_invert_34 : decode cX1_invert 34 = .ok (.aload_n 0, 1) := by decide +kernel
theorem dX1_invert_35 : decode cX1_invert 35 = .ok (.getfield 56, 3) := by decide +kernel
theorem dX1_invert_38 : decode cX1_invert 38 = .ok (.iload_n 2, 1) := by decide +kernel
theorem dX1_invert_39 : decode cX1_invert 39 = .ok (.isub, 1) := by decide +kernel
theorem dX1_invert_40 : decode cX1_invert 40 = .ok (.if_icmp .le 5, 3) := by decide +kernel
theorem dX1_invert_43 : decode cX1_invert 43 = .ok (.iconst 0, 1) := by decide +kernel
theorem dX1_invert_44 : decode cX1_invert 44 = .ok (.ireturn, 1) := by decide +kernel
theorem dX1_invert_45 : decode cX1_invert 45 = .ok (.iconst 1, 1) := by decide +kernel
theorem dX1_invert_46 : decode cX1_invert 46 = .ok (.iload_n 3, 1) := by decide +kernel
theorem dX1_invert_47 : decode cX1_invert 47 = .ok (.ishl, 1) := by decide +kernel
theorem dX1_invert_48 : decode cX1_invert 48 = .ok (.iconst 1, 1) := by decide +kernel
theorem dX1_invert_49 : decode cX1_invert 49 = .ok (.isub, 1) := by decide +kernel
theorem dX1_invert_50 : decode cX1_invert 50 = .ok (.iload_n 1, 1) := by decide +kernel
theorem dX1_invert_51 : decode cX1_invert 51 = .ok (.ishl, 1) := by decide +kernel
theorem dX1_invert_52 : decode cX1_invert 52 = .ok (.istore 5, 2) := by decide +kernel
theorem dX1_invert_54 : decode cX1_invert 54 = .ok (.iload_n 2, 1) := by decide +kernel
theorem dX1_invert_55 : decode cX1_invert 55 = .ok (.istore 6, 2) := by decide +kernel
theorem dX1_invert_57 : decode cX1_invert 57 = .ok (.iload 6, 2) := by decide +kernel
theorem dX1_invert_59 : decode cX1_invert 59 = .ok (.iload_n 2, 1) := by decide +kernel
theorem dX1_invert_60 : decode cX1_invert 60 = .ok (.iload 4, 2) := by decide +kernel
theorem dX1_invert_62 : decode cX1_invert 62 = .ok (.iadd, 1) := by decide +kernel
theorem dX1_invert_63 : decode cX1_invert 63 = .ok (.if_icmp .ge 21, 3) := by decide +kernel
theorem dX1_invert_66 : decode cX1_invert 66 = .ok (.aload_n 0, 1) := by decide +kernel
theorem dX1_invert_67 : decode cX1_invert 67 = .ok (.getfield 7, 3) := by decide +kernel
theorem dX1_invert_70 : decode cX1_invert 70 = .ok (.iload 6, 2) := by decide +kernel
theorem dX1_invert_72 : decode cX1_invert 72 = .ok (.dup2, 1) := by decide +kernel
theorem dX1_invert_73 : decode cX1_invert 73 = .ok (.iaload, 1) := by decide +kernel
theorem dX1_invert_74 : decode cX1_invert 74 = .ok (.iload 5, 2) := by decide +kernel
theorem dX1_invert_76 : decode cX1_invert 76 = .ok (.ixor, 1) := by decide +kernel
theorem dX1_invert_77 : decode cX1_invert 77 = .ok (.iastore, 1) := by decide +kernel
theorem dX1_invert_78 : decode cX1_invert 78 = .ok (.iinc 6 1, 3) := by decide +kernel
theorem dX1_invert_81 : decode cX1_invert 81 = .ok (.goto (-24), 3) := by decide +kernel
theorem dX1_invert_84 : decode cX1_invert 84 = .ok (.aload_n 0, 1) := by decide +kernel
theorem dX1_invert_85 : decode cX1_invert 85 = .ok (.iconst 0, 1) := by decide +kernel
theorem dX1_invert_86 : decode cX1_invert 86 = .ok (.putfield 63, 3) := by decide +kernel
theorem dX1_invert_89 : decode cX1_invert 89 = .ok (.iconst 1, 1) := by decide +kernel
theorem dX1_invert_90 : decode cX1_invert 90 = .ok (.ireturn, 1) := by decide +kernel
theorem dX1_isBlack_0 : decode cX1_isBlack 0 = .ok (.aload_n 0, 1) := by decide +kernel
theorem dX1_isBlack_1 : decode cX1_isBlack 1 = .ok (.iload_n 1, 1) := by decide +kernel
theorem dX1_isBlack_2 : decode cX1_isBlack 2 = .ok (.iload_n 2, 1) := by decide +kernel
theorem dX1_isBlack_3 : decode cX1_isBlack 3 = .ok (.invokevirtual 59, 3) := by decide +kernel
theorem dX1_isBlack_6 : decode cX1_isBlack 6 = .ok (.ifCond .eq 20, 3) := by decide +kernel
theorem dX1_isBlack_9 : decode cX1_isBlack 9 = .ok (.aload_n 0, 1) := by decide +kernel
theorem dX1_isBlack_10 : decode cX1_isBlack 10 = .ok (.getfield 7, 3) := by decide +kernel
theorem dX1_isBlack_13 : decode cX1_isBlack 13 = .ok (.iload_n 2, 1) := by decide +kernel
theorem dX1_isBlack_14 : decode cX1_isBlack 14 = .ok (.iaload, 1) := by decide +kernel
theorem dX1_isBlack_15 : decode cX1_isBlack 15 = .ok (.iload_n 1, 1) := by decide +kernel
theorem dX1_isBlack_16 : decode cX1_isBlack 16 = .ok (.ishr, 1) := by decide +kernel
theorem dX1_isBlack_17 : decode cX1_isBlack 17 = .ok (.iconst 1, 1) := by decide +kernel
theorem dX1_isBlack_18 : decode cX1_isBlack 18 = .ok (.iand, 1) := by decide +kernel
theorem dX1_isBlack_19 : decode cX1_isBlack 19 = .ok (.ifCond .eq 7, 3) := by decide +kernel
theorem dX1_isBlack_22 : decode cX1_isBlack 22 = .ok (.iconst 1, 1) := by decide +kernel
theorem dX1_isBlack_23 : decode cX1_isBlack 23 = .ok (.goto 4, 3) := by decide +kernel
theorem dX1_isBlack_26 : decode cX1_isBlack 26 = .ok (.iconst 0, 1) := by decide +kernel
theorem dX1_isBlack_27 : decode cX1_isBlack 27 = .ok (.ireturn, 1) := by decide +kernel
theorem dX1_components_0 : decode cX1_components 0 = .ok (.aload_n 0, 1) := by decide +kernel
theorem dX1_components_1 : decode cX1_components 1 = .ok (.invokevirtual 67, 3) := by decide +kernel
theorem dX1_components_4 : decode cX1_components 4 = .ok (.aload_n 0, 1) := by decide +kernel
theorem dX1_components_5 : decode cX1_components 5 = .ok (.getfield 70, 3) := by decide +kernel
theorem dX1_components_8 : decode cX1_components 8 = .ok (.ireturn, 1) := by decide +kernel
theorem dX1_labelAll_0 : decode cX1_labelAll 0 = .ok (.aload_n 0, 1) := by decide +kernel
theorem dX1_labelAll_1 : decode cX1_labelAll 1 = .ok (.getfield 63, 3) := by decide +kernel
theorem dX1_labelAll_4 : decode cX1_labelAll 4 = .ok (.ifCond .eq 4, 3) := by decide +kernel
theorem dX1_labelAll_7 : decode cX1_labelAll 7 = .ok (.return_, 1) := by decide +kernel
theorem dX1_labelAll_8 : decode cX1_labelAll 8 = .ok (.aload_n 0, 1) := by decide +kernel
theorem dX1_labelAll_9 : decode cX1_labelAll 9 = .ok (.iconst 1, 1) := by decide +kernel
theorem dX1_labelAll_10 : decode cX1_labelAll 10 = .ok (.putfield 80, 3) := by decide +kernel
theorem dX1_labelAll_13 : decode cX1_labelAll 13 = .ok (.aload_n 0, 1) := by decide +kernel
theorem dX1_labelAll_14 : decode cX1_labelAll 14 = .ok (.getfield 20, 3) := by decide +kernel
theorem dX1_labelAll_17 : decode cX1_labelAll 17 = .ok (.iconst 0, 1) := by decide +kernel
theorem dX1_labelAll_18 : decode cX1_labelAll 18 = .ok (.iconst 0, 1) := by decide +kernel
theorem dX1_labelAll_19 : decode cX1_labelAll 19 = .ok (.bastore, 1) := by decide +kernel
theorem dX1_labelAll_20 : decode cX1_labelAll 20 = .ok (.aload_n 0, 1) := by decide +kernel
theorem dX1_labelAll_21 : decode cX1_labelAll 21 = .ok (.getfield 24, 3) := by decide +kernel
theorem dX1_labelAll_24 : decode cX1_labelAll 24 = .ok (.iconst 0, 1) := by decide +kernel
theorem dX1_labelAll_25 : decode cX1_labelAll 25 = .ok (.iconst 0, 1) := by decide +kernel
theorem dX1_labelAll_26 : decode cX1_labelAll 26 = .ok (.sastore, 1) := by decide +kernel
theorem dX1_labelAll_27 : decode cX1_labelAll 27 = .ok (.iconst 0, 1) := by decide +kernel
theorem dX1_labelAll_28 : decode cX1_labelAll 28 = .ok (.istore_n 1, 1) := by decide +kernel
theorem dX1_labelAll_29 : decode cX1_labelAll 29 = .ok (.iload_n 1, 1) := by decide +kernel
theorem dX1_labelAll_30 : decode cX1_labelAll 30 = .ok (.aload_n 0, 1) := by decide +kernel
theorem dX1_labelAll_31 : decode cX1_labelAll 31 = .ok (.getfield 56, 3) := by decide +kernel
theorem dX1_labelAll_34 : decode cX1_labelAll 34 = .ok (.if_icmp .ge 57, 3) := by decide +kernel
theorem dX1_labelAll_37 : decode cX1_labelAll 37 = .ok (.aload_n 0, 1) := by decide +kernel
theorem dX1_labelAll_38 : decode cX1_labelAll 38 = .ok (.getfield 28, 3) := by decide +kernel
theorem dX1_labelAll_41 : decode cX1_labelAll 41 = .ok (.iload_n 1, 1) := by decide +kernel
theorem dX1_labelAll_42 : decode cX1_labelAll 42 = .ok (.aload_n 0, 1) := by decide +kernel
theorem dX1_labelAll_43 : decode cX1_labelAll 43 = .ok (.getfield 80, 3) := by decide +kernel
theorem dX1_labelAll_46 : decode cX1_labelAll 46 = .ok (.i2s, 1) := by decide +kernel
theorem dX1_labelAll_47 : decode cX1_labelAll 47 = .ok (.sastore, 1) := by decide +kernel
theorem dX1_labelAll_48 : decode cX1_labelAll 48 = .ok (.aload_n 0, 1) := by decide +kernel
theorem dX1_labelAll_49 : decode cX1_labelAll 49 = .ok (.aload_n 0, 1) := by decide +kernel
theorem dX1_labelAll_50 : decode cX1_labelAll 50 = .ok (.getfield 7, 3) := by decide +kernel
theorem dX1_labelAll_53 : decode cX1_labelAll 53 = .ok (.iload_n 1, 1) := by decide +kernel
theorem dX1_labelAll_54 : decode cX1_labelAll 54 = .ok (.iaload, 1) := by decide +kernel
theorem dX1_labelAll_55 : decode cX1_labelAll 55 = .ok (.invokevirtual 83, 3) := by decide +kernel
theorem dX1_labelAll_58 : decode cX1_labelAll 58 = .ok (.aload_n 0, 1) := by decide +kernel
theorem dX1_labelAll_59 : decode cX1_labelAll 59 = .ok (.getfield 28, 3) := by decide +kernel
theorem dX1_labelAll_62 : decode cX1_labelAll 62 = .ok (.iload_n 1, 1) := by decide +kernel
theorem dX1_labelAll_63 : decode cX1_labelAll 63 = .ok (.iconst 1, 1) := by decide +kernel
theorem dX1_labelAll_64 : decode cX1_labelAll 64 = .ok (.iadd, 1) := by decide +kernel
theorem dX1_labelAll_65 : decode cX1_labelAll 65 = .ok (.aload_n 0, 1) := by decide +kernel
theorem dX1_labelAll_66 : decode cX1_labelAll 66 = .ok (.getfield 80, 3) := by decide +kernel
theorem dX1_labelAll_69 : decode cX1_labelAll 69 = .ok (.i2s, 1) := by decide +kernel
theorem dX1_labelAll_70 : decode cX1_labelAll 70 = .ok (.sastore, 1) := by decide +kernel
theorem dX1_labelAll_71 : decode cX1_labelAll 71 = .ok (.aload_n 0, 1) := by decide +kernel
theorem dX1_labelAll_72 : decode cX1_labelAll 72 = .ok (.iload_n 1, 1) := by decide +kernel
theorem dX1_labelAll_73 : decode cX1_labelAll 73 = .ok (.invokevirtual 87, 3) := by decide +kernel
theorem dX1_labelAll_76 : decode cX1_labelAll 76 = .ok (.iload_n 1, 1) := by decide +kernel
theorem dX1_labelAll_77 : decode cX1_labelAll 77 = .ok (.ifCond .le 8, 3) := by decide +kernel
theorem dX1_labelAll_80 : decode cX1_labelAll 80 = .ok (.aload_n 0, 1) := by decide +kernel
theorem dX1_labelAll_81 : decode cX1_labelAll 81 = .ok (.iload_n 1, 1) := by decide +kernel
theorem dX1_labelAll_82 : decode cX1_labelAll 82 = .ok (.invokevirtual 90, 3) := by decide +kernel
theorem dX1_labelAll_85 : decode cX1_labelAll 85 = .ok (.iinc 1 1, 3) := by decide +kernel
theorem dX1_labelAll_88 : decode cX1_labelAll 88 = .ok (.goto (-59), 3) := by decide +kernel
theorem dX1_labelAll_91 : decode cX1_labelAll 91 = .ok (.aload_n 0, 1) := by decide +kernel
theorem dX1_labelAll_92 : decode cX1_labelAll 92 = .ok (.invokevirtual 93, 3) := by decide +kernel
theorem dX1_labelAll_95 : decode cX1_labelAll 95 = .ok (.aload_n 0, 1) := by decide +kernel
theorem dX1_labelAll_96 : decode cX1_labelAll 96 = .ok (.invokevirtual 96, 3) := by decide +kernel
theorem dX1_labelAll_99 : decode cX1_labelAll 99 = .ok (.aload_n 0, 1) := by decide +kernel
theorem dX1_labelAll_100 : decode cX1_labelAll 100 = .ok (.iconst 1, 1) := by decide +kernel
theorem dX1_labelAll_101 : decode cX1_labelAll 101 = .ok (.putfield 63, 3) := by decide +kernel
theorem dX1_labelAll_104 : decode cX1_labelAll 104 = .ok (.return_, 1) := by decide +kernel
theorem dX1_cutRow_0 : decode cX1_cutRow 0 = .ok (.iconst 0, 1) := by decide +kernel
theorem dX1_cutRow_1 : decode cX1_cutRow 1 = .ok (.istore_n 2, 1) := by decide +kernel
theorem dX1_cutRow_2 : decode cX1_cutRow 2 = .ok (.iload_n 2, 1) := by decide +kernel
theorem dX1_cutRow_3 : decode cX1_cutRow 3 = .ok (.aload_n 0, 1) := by decide +kernel
theorem dX1_cutRow_4 : decode cX1_cutRow 4 = .ok (.getfield 52, 3) := by decide +kernel
theorem dX1_cutRow_7 : decode cX1_cutRow 7 = .ok (.if_icmp .ge 114, 3) := by decide +kernel
theorem dX1_cutRow_10 : decode cX1_cutRow 10 = .ok (.iload_n 1, 1) := by decide +kernel
theorem dX1_cutRow_11 : decode cX1_cutRow 11 = .ok (.iload_n 2, 1) := by decide +kernel
theorem dX1_cutRow_12 : decode cX1_cutRow 12 = .ok (.ishr, 1) := by decide +kernel
theorem dX1_cutRow_13 : decode cX1_cutRow 13 = .ok (.iconst 1, 1) := by decide +kernel
theorem dX1_cutRow_14 : decode cX1_cutRow 14 = .ok (.iand, 1) := by decide +kernel
theorem dX1_cutRow_15 : decode cX1_cutRow 15 = .ok (.istore_n 3, 1) := by decide +kernel
theorem dX1_cutRow_16 : decode cX1_cutRow 16 = .ok (.iload_n 2, 1) := by decide +kernel
theorem dX1_cutRow_17 : decode cX1_cutRow 17 = .ok (.istore 4, 2) := by decide +kernel
theorem dX1_cutRow_19 : decode cX1_cutRow 19 = .ok (.iload 4, 2) := by decide +kernel
theorem dX1_cutRow_21 : decode cX1_cutRow 21 = .ok (.iconst 1, 1) := by decide +kernel
theorem dX1_cutRow_22 : decode cX1_cutRow 22 = .ok (.iadd, 1) := by decide +kernel
theorem dX1_cutRow_23 : decode cX1_cutRow 23 = .ok (.aload_n 0, 1) := by decide +kernel
theorem dX1_cutRow_24 : decode cX1_cutRow 24 = .ok (.getfield 52, 3) := by decide +kernel
theorem dX1_cutRow_27 : decode cX1_cutRow 27 = .ok (.if_icmp .ge 21, 3) := by decide +kernel
theorem dX1_cutRow_30 : decode cX1_cutRow 30 = .ok (.iload_n 1, 1) := by decide +kernel
theorem dX1_cutRow_31 : decode cX1_cutRow 31 = .ok (.iload 4, 2) := by decide +kernel
theorem dX1_cutRow_33 : decode cX1_cutRow 33 = .ok (.iconst 1, 1) := by decide +kernel
theorem dX1_cutRow_34 : decode cX1_cutRow 34 = .ok (.iadd, 1) := by decide +kernel
theorem dX1_cutRow_35 : decode cX1_cutRow 35 = .ok (.ishr, 1) := by decide +kernel
theorem dX1_cutRow_36 : decode cX1_cutRow 36 = .ok (.iconst 1, 1) := by decide +kernel
theorem dX1_cutRow_37 : decode cX1_cutRow 37 = .ok (.iand, 1) := by decide +kernel
theorem dX1_cutRow_38 : decode cX1_cutRow 38 = .ok (.iload_n 3, 1) := by decide +kernel
theorem dX1_cutRow_39 : decode cX1_cutRow 39 = .ok (.if_icmp .ne 9, 3) := by decide +kernel
theorem dX1_cutRow_42 : decode cX1_cutRow 42 = .ok (.iinc 4 1, 3) := by decide +kernel
theorem dX1_cutRow_45 : decode cX1_cutRow 45 = .ok (.goto (-26), 3) := by decide +kernel
theorem dX1_cutRow_48 : decode cX1_cutRow 48 = .ok (.aload_n 0, 1) := by decide +kernel
theorem dX1_cutRow_49 : decode cX1_cutRow 49 = .ok (.getfield 13, 3) := by decide +kernel
theorem dX1_cutRow_52 : decode cX1_cutRow 52 = .ok (.aload_n 0, 1) := by decide +kernel
theorem dX1_cutRow_53 : decode cX1_cutRow 53 = .ok (.getfield 80, 3) := by decide +kernel
theorem dX1_cutRow_56 : decode cX1_cutRow 56 = .ok (.iload_n 2, 1) := by decide +kernel
theorem dX1_cutRow_57 : decode cX1_cutRow 57 = .ok (.i2b, 1) := by decide +kernel
theorem dX1_cutRow_58 : decode cX1_cutRow 58 = .ok (.bastore, 1) := by decide +kernel
theorem dX1_cutRow_59 : decode cX1_cutRow 59 = .ok (.aload_n 0, 1) := by decide +kernel
theorem dX1_cutRow_60 : decode cX1_cutRow 60 = .ok (.getfield 17, 3) := by decide +kernel
theorem dX1_cutRow_63 : decode cX1_cutRow 63 = .ok (.aload_n 0, 1) := by decide +kernel
theorem dX1_cutRow_64 : decode cX1_cutRow 64 = .ok (.getfield 80, 3) := by decide +kernel
theorem dX1_cutRow_67 : decode cX1_cutRow 67 = .ok (.iload 4, 2) := by decide +kernel
theorem dX1_cutRow_69 : decode cX1_cutRow 69 = .ok (.i2b, 1) := by decide +kernel
theorem dX1_cutRow_70 : decode cX1_cutRow 70 = .ok (.bastore, 1) := by decide +kernel
theorem dX1_cutRow_71 : decode cX1_cutRow 71 = .ok (.aload_n 0, 1) := by decide +kernel
theorem dX1_cutRow_72 : decode cX1_cutRow 72 = .ok (.getfield 20, 3) := by decide +kernel
theorem dX1_cutRow_75 : decode cX1_cutRow 75 = .ok (.aload_n 0, 1) := by decide +kernel
theorem dX1_cutRow_76 : decode cX1_cutRow 76 = .ok (.getfield 80, 3) := by decide +kernel
theorem dX1_cutRow_79 : decode cX1_cutRow 79 = .ok (.iload_n 3, 1) := by decide +kernel
theorem dX1_cutRow_80 : decode cX1_cutRow 80 = .ok (.ifCond .eq 7, 3) := by decide +kernel
theorem dX1_cutRow_83 : decode cX1_cutRow 83 = .ok (.iconst 1, 1) := by decide +kernel
theorem dX1_cutRow_84 : decode cX1_cutRow 84 = .ok (.goto 4, 3) := by decide +kernel
theorem dX1_cutRow_87 : decode cX1_cutRow 87 = .ok (.iconst 0, 1) := by decide +kernel
theorem dX1_cutRow_88 : decode cX1_cutRow 88 = .ok (.bastore, 1) := by decide +kernel
theorem dX1_cutRow_89 : decode cX1_cutRow 89 = .ok (.aload_n 0, 1) := by decide +kernel
theorem dX1_cutRow_90 : decode cX1_cutRow 90 = .ok (.getfield 24, 3) := by decide +kernel
theorem dX1_cutRow_93 : decode cX1_cutRow 93 = .ok (.aload_n 0, 1) := by decide +kernel
theorem dX1_cutRow_94 : decode cX1_cutRow 94 = .ok (.getfield 80, 3) := by decide +kernel
theorem dX1_cutRow_97 : decode cX1_cutRow 97 = .ok (.aload_n 0, 1) := by decide +kernel
theorem dX1_cutRow_98 : decode cX1_cutRow 98 = .ok (.getfield 80, 3) := by decide +kernel
theorem dX1_cutRow_101 : decode cX1_cutRow 101 = .ok (.i2s, 1) := by decide +kernel
theorem dX1_cutRow_102 : decode cX1_cutRow 102 = .ok (.sastore, 1) := by decide +kernel
theorem dX1_cutRow_103 : decode cX1_cutRow 103 = .ok (.aload_n 0, 1) := by decide +kernel
theorem dX1_cutRow_104 : decode cX1_cutRow 104 = .ok (.dup, 1) := by decide +kernel
theorem dX1_cutRow_105 : decode cX1_cutRow 105 = .ok (.getfield 80, 3) := by decide +kernel
theorem dX1_cutRow_108 : decode cX1_cutRow 108 = .ok (.iconst 1, 1) := by decide +kernel
theorem dX1_cutRow_109 : decode cX1_cutRow 109 = .ok (.iadd, 1) := by decide +kernel
theorem dX1_cutRow_110 : decode cX1_cutRow 110 = .ok (.putfield 80, 3) := by decide +kernel
theorem dX1_cutRow_113 : decode cX1_cutRow 113 = .ok (.iload 4, 2) := by decide +kernel
theorem dX1_cutRow_115 : decode cX1_cutRow 115 = .ok (.iconst 1, 1) := by decide +kernel
theorem dX1_cutRow_116 : decode cX1_cutRow 116 = .ok (.iadd, 1) := by decide +kernel
theorem dX1_cutRow_117 : decode cX1_cutRow 117 = .ok (.istore_n 2, 1) := by decide +kernel
theorem dX1_cutRow_118 : decode cX1_cutRow 118 = .ok (.goto (-116), 3) := by decide +kernel
theorem dX1_cutRow_121 : decode cX1_cutRow 121 = .ok (.return_, 1) := by decide +kernel
theorem dX1_openBorders_0 : decode cX1_openBorders 0 = .ok (.iload_n 1, 1) := by decide +kernel
theorem dX1_openBorders_1 : decode cX1_openBorders 1 = .ok (.ifCond .eq 13, 3) := by decide +kernel
theorem dX1_openBorders_4 : decode cX1_openBorders 4 = .ok (.iload_n 1, 1) := by decide +kernel
theorem dX1_openBorders_5 : decode cX1_openBorders 5 = .ok (.aload_n 0, 1) := by decide +kernel
theorem dX1_openBorders_6 : decode cX1_openBorders 6 = .ok (.getfield 56, 3) := by decide +kernel
theorem dX1_openBorders_9 : decode cX1_openBorders 9 = .ok (.iconst 1, 1) := by decide +kernel
theorem dX1_openBorders_10 : decode cX1_openBorders 10 = .ok (.isub, 1) := by decide +kernel
theorem dX1_openBorders_11 : decode cX1_openBorders 11 = .ok (.if_icmp .ne 7, 3) := by decide +kernel
theorem dX1_openBorders_14 : decode cX1_openBorders 14 = .ok (.iconst 1, 1) := by decide +kernel
theorem dX1_openBorders_15 : decode cX1_openBorders 15 = .ok (.goto 4, 3) := by decide +kernel
theorem dX1_openBorders_18 : decode cX1_openBorders 18 = .ok (.iconst 0, 1) := by decide +kernel
theorem dX1_openBorders_19 : decode cX1_openBorders 19 = .ok (.istore_n 2, 1) := by decide +kernel
theorem dX1_openBorders_20 : decode cX1_openBorders 20 = .ok (.aload_n 0, 1) := by decide +kernel
theorem dX1_openBorders_21 : decode cX1_openBorders 21 = .ok (.getfield 28, 3) := by decide +kernel
theorem dX1_openBorders_24 : decode cX1_openBorders 24 = .ok (.iload_n 1, 1) := by decide +kernel
theorem dX1_openBorders_25 : decode cX1_openBorders 25 = .ok (.saload, 1) := by decide +kernel
theorem dX1_openBorders_26 : decode cX1_openBorders 26 = .ok (.istore_n 3, 1) := by decide +kernel
theorem dX1_openBorders_27 : decode cX1_openBorders 27 = .ok (.iload_n 3, 1) := by decide +kernel
theorem dX1_openBorders_28 : decode cX1_openBorders 28 = .ok (.aload_n 0, 1) := by decide +kernel
theorem dX1_openBorders_29 : decode cX1_openBorders 29 = .ok (.getfield 28, 3) := by decide +kernel
theorem dX1_openBorders_32 : decode cX1_openBorders 32 = .ok (.iload_n 1, 1) := by decide +kernel
theorem dX1_openBorders_33 : decode cX1_openBorders 33 = .ok (.iconst 1, 1) := by decide +kernel
theorem dX1_openBorders_34 : decode cX1_openBorders 34 = .ok (.iadd, 1) := by decide +kernel
theorem dX1_openBorders_35 : decode cX1_openBorders 35 = .ok (.saload, 1) := by decide +kernel
theorem dX1_openBorders_36 : decode cX1_openBorders 36 = .ok (.if_icmp .ge 55, 3) := by decide +kernel
theorem dX1_openBorders_39 : decode cX1_openBorders 39 = .ok (.aload_n 0, 1) := by decide +kernel
theorem dX1_openBorders_40 : decode cX1_openBorders 40 = .ok (.getfield 20, 3) := by decide +kernel
theorem dX1_openBorders_43 : decode cX1_openBorders 43 = .ok (.iload_n 3, 1) := by decide +kernel
theorem dX1_openBorders_44 : decode cX1_openBorders 44 = .ok (.baload, 1) := by decide +kernel
theorem dX1_openBorders_45 : decode cX1_openBorders 45 = .ok (.ifCond .eq 6, 3) := by decide +kernel
theorem dX1_openBorders_48 : decode cX1_openBorders 48 = .ok (.goto 37, 3) := by decide +kernel
theorem dX1_openBorders_51 : decode cX1_openBorders 51 = .ok (.iload_n 2, 1) := by decide +kernel
theorem dX1_openBorders_52 : decode cX1_openBorders 52 = .ok (.ifCond .ne 27, 3) := by decide +kernel
theorem dX1_openBorders_55 : decode cX1_openBorders 55 = .ok (.aload_n 0, 1) := by decide +kernel
theorem dX1_openBorders_56 : decode cX1_openBorders 56 = .ok (.getfield 13, 3) := by decide +kernel
theorem dX1_openBorders_59 : decode cX1_openBorders 59 = .ok (.iload_n 3, 1) := by decide +kernel
theorem dX1_openBorders_60 : decode cX1_openBorders 60 = .ok (.baload, 1) := by decide +kernel
theorem dX1_openBorders_61 : decode cX1_openBorders 61 = .ok (.ifCond .eq 18, 3) := by decide +kernel
theorem dX1_openBorders_64 : decode cX1_openBorders 64 = .ok (.aload_n 0, 1) := by decide +kernel
theorem dX1_openBorders_65 : decode cX1_openBorders 65 = .ok (.getfield 17, 3) := by decide +kernel
theorem dX1_openBorders_68 : decode cX1_openBorders 68 = .ok (.iload_n 3, 1) := by decide +kernel
theorem dX1_openBorders_69 : decode cX1_openBorders 69 = .ok (.baload, 1) := by decide +kernel
theorem dX1_openBorders_70 : decode cX1_openBorders 70 = .ok (.aload_n 0, 1) := by decide +kernel
theorem dX1_openBorders_71 : decode cX1_openBorders 71 = .ok (.getfield 52, 3) := by decide +kernel
theorem dX1_openBorders_74 : decode cX1_openBorders 74 = .ok (.iconst 1, 1) := by decide +kernel
theorem dX1_openBorders_75 : decode cX1_openBorders 75 = .ok (.isub, 1) := by decide +kernel
theorem dX1_openBorders_76 : decode cX1_openBorders 76 = .ok (.if_icmp .ne 9, 3) := by decide +kernel
theorem dX1_openBorders_79 : decode cX1_openBorders 79 = .ok (.aload_n 0, 1) := by decide +kernel
theorem dX1_openBorders_80 : decode cX1_openBorders 80 = .ok (.iconst 0, 1) := by decide +kernel
theorem dX1_openBorders_81 : decode cX1_openBorders 81 = .ok (.iload_n 3, 1) := by decide +kernel
theorem dX1_openBorders_82 : decode cX1_openBorders 82 = .ok (.invokevirtual 99, 3) := by decide +kernel
theorem dX1_openBorders_85 : decode cX1_openBorders 85 = .ok (.iinc 3 1, 3) := by decide +kernel
theorem dX1_openBorders_88 : decode cX1_openBorders 88 = .ok (.goto (-61), 3) := by decide +kernel
theorem dX1_openBorders_91 : decode cX1_openBorders 91 = .ok (.return_, 1) := by decide +kernel
theorem dX1_unite_0 : decode cX1_unite 0 = .ok (.aload_n 0, 1) := by decide +kernel
theorem dX1_unite_1 : decode cX1_unite 1 = .ok (.iload_n 1, 1) := by decide +kernel
theorem dX1_unite_2 : decode cX1_unite 2 = .ok (.invokevirtual 107, 3) := by decide +kernel
theorem dX1_unite_5 : decode cX1_unite 5 = .ok (.istore_n 3, 1) := by decide +kernel
theorem dX1_unite_6 : decode cX1_unite 6 = .ok (.aload_n 0, 1) := by decide +kernel
theorem dX1_unite_7 : decode cX1_unite 7 = .ok (.iload_n 2, 1) := by decide +kernel
theorem dX1_unite_8 : decode cX1_unite 8 = .ok (.invokevirtual 107, 3) := by decide +kernel
theorem dX1_unite_11 : decode cX1_unite 11 = .ok (.istore 4, 2) := by decide +kernel
theorem dX1_unite_13 : decode cX1_unite 13 = .ok (.iload_n 3, 1) := by decide +kernel
theorem dX1_unite_14 : decode cX1_unite 14 = .ok (.iload 4, 2) := by decide +kernel
theorem dX1_unite_16 : decode cX1_unite 16 = .ok (.if_icmp .ge 15, 3) := by decide +kernel
theorem dX1_unite_19 : decode cX1_unite 19 = .ok (.aload_n 0, 1) := by decide +kernel
theorem dX1_unite_20 : decode cX1_unite 20 = .ok (.getfield 24, 3) := by decide +kernel
theorem dX1_unite_23 : decode cX1_unite 23 = .ok (.iload 4, 2) := by decide +kernel
theorem dX1_unite_25 : decode cX1_unite 25 = .ok (.iload_n 3, 1) := by decide +kernel
theorem dX1_unite_26 : decode cX1_unite 26 = .ok (.i2s, 1) := by decide +kernel
theorem dX1_unite_27 : decode cX1_unite 27 = .ok (.sastore, 1) := by decide +kernel
theorem dX1_unite_28 : decode cX1_unite 28 = .ok (.goto 12, 3) := by decide +kernel
theorem dX1_unite_31 : decode cX1_unite 31 = .ok (.aload_n 0, 1) := by decide +kernel
theorem dX1_unite_32 : decode cX1_unite 32 = .ok (.getfield 24, 3) := by decide +kernel
theorem dX1_unite_35 : decode cX1_unite 35 = .ok (.iload_n 3, 1) := by decide +kernel
theorem dX1_unite_36 : decode cX1_unite 36 = .ok (.iload 4, 2) := by decide +kernel
theorem dX1_unite_38 : decode cX1_unite 38 = .ok (.i2s, 1) := by decide +kernel
theorem dX1_unite_39 : decode cX1_unite 39 = .ok (.sastore, 1) := by decide +kernel
theorem dX1_unite_40 : decode cX1_unite 40 = .ok (.return_, 1) := by decide +kernel
theorem dX1_first_0 : decode cX1_first 0 = .ok (.iload_n 1, 1) := by decide +kernel
theorem dX1_first_1 : decode cX1_first 1 = .ok (.istore_n 2, 1) := by decide +kernel
theorem dX1_first_2 : decode cX1_first 2 = .ok (.aload_n 0, 1) := by decide +kernel
theorem dX1_first_3 : decode cX1_first 3 = .ok (.getfield 24, 3) := by decide +kernel
theorem dX1_first_6 : decode cX1_first 6 = .ok (.iload_n 2, 1) := by decide +kernel
theorem dX1_first_7 : decode cX1_first 7 = .ok (.saload, 1) := by decide +kernel
theorem dX1_first_8 : decode cX1_first 8 = .ok (.iload_n 2, 1) := by decide +kernel
theorem dX1_first_9 : decode cX1_first 9 = .ok (.if_icmp .eq 13, 3) := by decide +kernel
theorem dX1_first_12 : decode cX1_first 12 = .ok (.aload_n 0, 1) := by decide +kernel
theorem dX1_first_13 : decode cX1_first 13 = .ok (.getfield 24, 3) := by decide +kernel
theorem dX1_first_16 : decode cX1_first 16 = .ok (.iload_n 2, 1) := by decide +kernel
theorem dX1_first_17 : decode cX1_first 17 = .ok (.saload, 1) := by decide +kernel
theorem dX1_first_18 : decode cX1_first 18 = .ok (.istore_n 2, 1) := by decide +kernel
theorem dX1_first_19 : decode cX1_first 19 = .ok (.goto (-17), 3) := by decide +kernel
theorem dX1_first_22 : decode cX1_first 22 = .ok (.iload_n 2, 1) := by decide +kernel
theorem dX1_first_23 : decode cX1_first 23 = .ok (.ireturn, 1) := by decide +kernel
theorem dX1_touchAbove_0 : decode cX1_touchAbove 0 = .ok (.aload_n 0, 1) := by decide +kernel
theorem dX1_touchAbove_1 : decode cX1_touchAbove 1 = .ok (.getfield 28, 3) := by decide +kernel
theorem dX1_touchAbove_4 : decode cX1_touchAbove 4 = .ok (.iload_n 1, 1) := by decide +kernel
theorem dX1_touchAbove_5 : decode cX1_touchAbove 5 = .ok (.iconst 1, 1) := by decide +kernel
theorem dX1_touchAbove_6 : decode cX1_touchAbove 6 = .ok (.isub, 1) := by decide +kernel
theorem dX1_touchAbove_7 : decode cX1_touchAbove 7 = .ok (.saload, 1) := by decide +kernel
theorem dX1_touchAbove_8 : decode cX1_touchAbove 8 = .ok (.istore_n 2, 1) := by decide +kernel
theorem dX1_touchAbove_9 : decode cX1_touchAbove 9 = .ok (.aload_n 0, 1) := by decide +kernel
theorem dX1_touchAbove_10 : decode cX1_touchAbove 10 = .ok (.getfield 28, 3) := by decide +kernel
theorem dX1_touchAbove_13 : decode cX1_touchAbove 13 = .ok (.iload_n 1, 1) := by decide +kernel
theorem dX1_touchAbove_14 : decode cX1_touchAbove 14 = .ok (.saload, 1) := by decide +kernel
theorem dX1_touchAbove_15 : decode cX1_touchAbove 15 = .ok (.istore_n 3, 1) := by decide +kernel
theorem dX1_touchAbove_16 : decode cX1_touchAbove 16 = .ok (.iload_n 2, 1) := by decide +kernel
theorem dX1_touchAbove_17 : decode cX1_touchAbove 17 = .ok (.aload_n 0, 1) := by decide +kernel
theorem dX1_touchAbove_18 : decode cX1_touchAbove 18 = .ok (.getfield 28, 3) := by decide +kernel
theorem dX1_touchAbove_21 : decode cX1_touchAbove 21 = .ok (.iload_n 1, 1) := by decide +kernel
theorem dX1_touchAbove_22 : decode cX1_touchAbove 22 = .ok (.saload, 1) := by decide +kernel
theorem dX1_touchAbove_23 : decode cX1_touchAbove 23 = .ok (.if_icmp .ge 137, 3) := by decide +kernel
theorem dX1_touchAbove_26 : decode cX1_touchAbove 26 = .ok (.iload_n 3, 1) := by decide +kernel
theorem dX1_touchAbove_27 : decode cX1_touchAbove 27 = .ok (.aload_n 0, 1) := by decide +kernel
theorem dX1_touchAbove_28 : decode cX1_touchAbove 28 = .ok (.getfield 28, 3) := by decide +kernel
theorem dX1_touchAbove_31 : decode cX1_touchAbove 31 = .ok (.iload_n 1, 1) := by decide +kernel
theorem dX1_touchAbove_32 : decode cX1_touchAbove 32 = .ok (.iconst 1, 1) := by decide +kernel
theorem dX1_touchAbove_33 : decode cX1_touchAbove 33 = .ok (.iadd, 1) := by decide +kernel
theorem dX1_touchAbove_34 : decode cX1_touchAbove 34 = .ok (.saload, 1) := by decide +kernel
theorem dX1_touchAbove_35 : decode cX1_touchAbove 35 = .ok (.if_icmp .ge 125, 3) := by decide +kernel
theorem dX1_touchAbove_38 : decode cX1_touchAbove 38 = .ok (.aload_n 0, 1) := by decide +kernel
theorem dX1_touchAbove_39 : decode cX1_touchAbove 39 = .ok (.getfield 20, 3) := by decide +kernel
theorem dX1_touchAbove_42 : decode cX1_touchAbove 42 = .ok (.iload_n 2, 1) := by decide +kernel
theorem dX1_touchAbove_43 : decode cX1_touchAbove 43 = .ok (.baload, 1) := by decide +kernel
theorem dX1_touchAbove_44 : decode cX1_touchAbove 44 = .ok (.ifCond .eq 7, 3) := by decide +kernel
theorem dX1_touchAbove_47 : decode cX1_touchAbove 47 = .ok (.iconst 1, 1) := by decide +kernel
theorem dX1_touchAbove_48 : decode cX1_touchAbove 48 = .ok (.goto 4, 3) := by decide +kernel
theorem dX1_touchAbove_51 : decode cX1_touchAbove 51 = .ok (.iconst 0, 1) := by decide +kernel
theorem dX1_touchAbove_52 : decode cX1_touchAbove 52 = .ok (.istore 4, 2) := by decide +kernel
theorem dX1_touchAbove_54 : decode cX1_touchAbove 54 = .ok (.aload_n 0, 1) := by decide +kernel
theorem dX1_touchAbove_55 : decode cX1_touchAbove 55 = .ok (.getfield 20, 3) := by decide +kernel
theorem dX1_touchAbove_58 : decode cX1_touchAbove 58 = .ok (.iload_n 2, 1) := by decide +kernel
theorem dX1_touchAbove_59 : decode cX1_touchAbove 59 = .ok (.baload, 1) := by decide +kernel
theorem dX1_touchAbove_60 : decode cX1_touchAbove 60 = .ok (.aload_n 0, 1) := by decide +kernel
theorem dX1_touchAbove_61 : decode cX1_touchAbove 61 = .ok (.getfield 20, 3) := by decide +kernel
theorem dX1_touchAbove_64 : decode cX1_touchAbove 64 = .ok (.iload_n 3, 1) := by decide +kernel
theorem dX1_touchAbove_65 : decode cX1_touchAbove 65 = .ok (.baload, 1) := by decide +kernel
theorem dX1_touchAbove_66 : decode cX1_touchAbove 66 = .ok (.if_icmp .ne 45, 3) := by decide +kernel
theorem dX1_touchAbove_69 : decode cX1_touchAbove 69 = .ok (.aload_n 0, 1) := by decide +kernel
theorem dX1_touchAbove_70 : decode cX1_touchAbove 70 = .ok (.getfield 13, 3) := by decide +kernel
theorem dX1_touchAbove_73 : decode cX1_touchAbove 73 = .ok (.iload_n 2, 1) := by decide +kernel
theorem dX1_touchAbove_74 : decode cX1_touchAbove 74 = .ok (.baload, 1) := by decide +kernel
theorem dX1_touchAbove_75 : decode cX1_touchAbove 75 = .ok (.aload_n 0, 1) := by decide +kernel
