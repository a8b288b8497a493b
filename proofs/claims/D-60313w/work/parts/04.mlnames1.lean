/-! CompLabelModel -/
set_option maxRecDepth 100000
def RX2 : String := "CompLabelModel"
def TX2 : u_T := fun k => match k with
  | 0 => ("CompLabelModel", "wide", "I", false)
  | 1 => ("CompLabelModel", "high", "I", false)
  | 2 => ("CompLabelModel", "black", "[Z", false)
  | 3 => ("CompLabelModel", "root", "[I", false)
  | 4 => ("CompLabelModel", "change", "[I", false)
  | _ => ("CompLabelModel", "reached", "[Z", false)
def tyX2 : Nat → FieldType := fun k => match k with
  | 0 => .int
  | 1 => .int
  | 2 => .array .boolean
  | 3 => .array .int
  | 4 => .array .int
  | _ => .array .boolean
abbrev wsX20 : List Cond := u_ws RX2 TX2 6
theorem nmX2 : ∀ a, a < 6 → ∀ b, b < 6 → a ≠ b → (TX2 a).2.1 ≠ (TX2 b).2.1 := by decide +kernel
theorem tyX2_ok : ∀ k, k < 6 → parseFieldDescriptor (TX2 k).2.2.1 = some (tyX2 k) := by decide +kernel
abbrev cX2_init : ByteArray := prog_3_method_1_code
def yX2_init : MethodName := ⟨RX2, "<init>", "(II)V"⟩
abbrev cX2_set : ByteArray := prog_3_method_4_code
def yX2_set : MethodName := ⟨RX2, "set", "(IIZ)Z"⟩
abbrev cX2_inside : ByteArray := prog_3_method_2_code
def yX2_inside : MethodName := ⟨RX2, "inside", "(II)Z"⟩
abbrev cX2_place : ByteArray := prog_3_method_3_code
def yX2_place : MethodName := ⟨RX2, "place", "(II)I"⟩
abbrev cX2_invert : ByteArray := prog_3_method_5_code
def yX2_invert : MethodName := ⟨RX2, "invert", "(IIII)Z"⟩
abbrev cX2_isBlack : ByteArray := prog_3_method_6_code
def yX2_isBlack : MethodName := ⟨RX2, "isBlack", "(II)Z"⟩
abbrev cX2_components : ByteArray := prog_3_method_16_code
def yX2_components : MethodName := ⟨RX2, "components", "()I"⟩
abbrev cX2_findRoots : ByteArray := prog_3_method_11_code
def yX2_findRoots : MethodName := ⟨RX2, "findRoots", "()V"⟩
abbrev cX2_spreadRoots : ByteArray := prog_3_method_10_code
def yX2_spreadRoots : MethodName := ⟨RX2, "spreadRoots", "()Z"⟩
abbrev cX2_near : ByteArray := prog_3_method_7_code
def yX2_near : MethodName := ⟨RX2, "near", "(II)I"⟩
abbrev cX2_step : ByteArray := prog_3_method_9_code
def yX2_step : MethodName := ⟨RX2, "step", "(III)Z"⟩
abbrev cX2_besideWay : ByteArray := prog_3_method_8_code
def yX2_besideWay : MethodName := ⟨RX2, "besideWay", "(I)Z"⟩
abbrev cX2_count : ByteArray := prog_3_method_15_code
def yX2_count : MethodName := ⟨RX2, "count", "(ZI)I"⟩
abbrev cX2_isFirst : ByteArray := prog_3_method_14_code
def yX2_isFirst : MethodName := ⟨RX2, "isFirst", "(IZ)Z"⟩
abbrev cX2_euler : ByteArray := prog_3_method_17_code
def yX2_euler : MethodName := ⟨RX2, "euler", "()I"⟩
abbrev cX2_label : ByteArray := prog_3_method_18_code
def yX2_label : MethodName := ⟨RX2, "label", "(II)I"⟩
abbrev cX2_area : ByteArray := prog_3_method_20_code
def yX2_area : MethodName := ⟨RX2, "area", "(I)I"⟩
abbrev cX2_firstOf : ByteArray := prog_3_method_19_code
def yX2_firstOf : MethodName := ⟨RX2, "firstOf", "(I)I"⟩
abbrev cX2_holes : ByteArray := prog_3_method_22_code
def yX2_holes : MethodName := ⟨RX2, "holes", "(I)I"⟩
abbrev cX2_findChanges : ByteArray := prog_3_method_13_code
def yX2_findChanges : MethodName := ⟨RX2, "findChanges", "()V"⟩
abbrev cX2_spreadChanges : ByteArray := prog_3_method_12_code
def yX2_spreadChanges : MethodName := ⟨RX2, "spreadChanges", "()Z"⟩
abbrev cX2_isHole : ByteArray := prog_3_method_21_code
def yX2_isHole : MethodName := ⟨RX2, "isHole", "(II)Z"⟩
abbrev cX2_around : ByteArray := prog_3_method_25_code
def yX2_around : MethodName := ⟨RX2, "around", "(I)I"⟩
abbrev cX2_findReached : ByteArray := prog_3_method_24_code
def yX2_findReached : MethodName := ⟨RX2, "findReached", "(I)V"⟩
abbrev cX2_spreadReached : ByteArray := prog_3_method_23_code
def yX2_spreadReached : MethodName := ⟨RX2, "spreadReached", "(I)Z"⟩
abbrev cX2_depth : ByteArray := prog_3_method_26_code
def yX2_depth : MethodName := ⟨RX2, "depth", "(II)I"⟩
abbrev cX2_enclosed : ByteArray := prog_3_method_27_code
def yX2_enclosed : MethodName := ⟨RX2, "enclosed", "(I)I"⟩
theorem q28 : (Jvm.Cond.initialized "CompLabelModel") ∈ lw_all := lw_g (lw_at lw_m1 2 rfl) rfl
theorem q191 : (Jvm.Cond.instantiable "CompLabelModel" (6 : Nat)) ∈ lw_all := lw_g (lw_at lw_m1 165 rfl) rfl
theorem q193 : (Jvm.Cond.instanceMethod ({ cls := "CompLabelModel", name := "<init>", desc := "(II)V" } : Jvm.MethodName)) ∈ lw_all := lw_g (lw_at lw_m1 167 rfl) rfl
theorem q194 : (Jvm.Cond.code ({ cls := "CompLabelModel", name := "<init>", desc := "(II)V" } : Jvm.MethodName) prog_3_method_1_code (3 : Nat) (Option.none : Option Jvm.ClassFile.FieldType)) ∈ lw_all := lw_g (lw_at lw_m1 168 rfl) rfl
theorem q195 : (Jvm.Cond.methodLink "CompLabelModel" (1 : Nat) ({ cls := "java/lang/Object", name := "<init>", desc := "()V" } : Jvm.MethodName)) ∈ lw_all := lw_g (lw_at lw_m1 169 rfl) rfl
theorem q196 : (Jvm.Cond.fieldLink "CompLabelModel" (23 : Nat) "CompLabelModel" "wide" "I") ∈ lw_all := lw_g (lw_at lw_m1 170 rfl) rfl
theorem q197 : (Jvm.Cond.fieldLink "CompLabelModel" (27 : Nat) "CompLabelModel" "high" "I") ∈ lw_all := lw_g (lw_at lw_m1 171 rfl) rfl
theorem q198 : (Jvm.Cond.fieldLink "CompLabelModel" (7 : Nat) "CompLabelModel" "black" "[Z") ∈ lw_all := lw_g (lw_at lw_m1 172 rfl) rfl
theorem q199 : (Jvm.Cond.fieldLink "CompLabelModel" (13 : Nat) "CompLabelModel" "root" "[I") ∈ lw_all := lw_g (lw_at lw_m1 173 rfl) rfl
theorem q200 : (Jvm.Cond.fieldLink "CompLabelModel" (17 : Nat) "CompLabelModel" "change" "[I") ∈ lw_all := lw_g (lw_at lw_m1 174 rfl) rfl
theorem q201 : (Jvm.Cond.fieldLink "CompLabelModel" (20 : Nat) "CompLabelModel" "reached" "[Z") ∈ lw_all := lw_g (lw_at lw_m1 175 rfl) rfl
theorem q202 : (Jvm.Cond.lays "CompLabelModel" "CompLabelModel" "wide" "I") ∈ lw_all := lw_g (lw_at lw_m1 176 rfl) rfl
theorem q203 : (Jvm.Cond.soleField "CompLabelModel" "wide") ∈ lw_all := lw_g (lw_at lw_m1 177 rfl) rfl
theorem q204 : (Jvm.Cond.lays "CompLabelModel" "CompLabelModel" "high" "I") ∈ lw_all := lw_g (lw_at lw_m1 178 rfl) rfl
theorem q205 : (Jvm.Cond.soleField "CompLabelModel" "high") ∈ lw_all := lw_g (lw_at lw_m1 179 rfl) rfl
theorem q206 : (Jvm.Cond.lays "CompLabelModel" "CompLabelModel" "black" "[Z") ∈ lw_all := lw_g (lw_at lw_m1 180 rfl) rfl
theorem q207 : (Jvm.Cond.soleField "CompLabelModel" "black") ∈ lw_all := lw_g (lw_at lw_m1 181 rfl) rfl
theorem q208 : (Jvm.Cond.lays "CompLabelModel" "CompLabelModel" "root" "[I") ∈ lw_all := lw_g (lw_at lw_m1 182 rfl) rfl
theorem q209 : (Jvm.Cond.soleField "CompLabelModel" "root") ∈ lw_all := lw_g (lw_at lw_m1 183 rfl) rfl
theorem q210 : (Jvm.Cond.lays "CompLabelModel" "CompLabelModel" "change" "[I") ∈ lw_all := lw_g (lw_at lw_m1 184 rfl) rfl
theorem q211 : (Jvm.Cond.soleField "CompLabelModel" "change") ∈ lw_all := lw_g (lw_at lw_m1 185 rfl) rfl
theorem q212 : (Jvm.Cond.lays "CompLabelModel" "CompLabelModel" "reached" "[Z") ∈ lw_all := lw_g (lw_at lw_m1 186 rfl) rfl
theorem q213 : (Jvm.Cond.soleField "CompLabelModel" "reached") ∈ lw_all := lw_g (lw_at lw_m1 187 rfl) rfl
theorem q214 : (Jvm.Cond.superclass "CompLabelModel" "java/lang/Object") ∈ lw_all := lw_g (lw_at lw_m1 188 rfl) rfl
theorem q216 : (Jvm.Cond.instanceMethod ({ cls := "CompLabelModel", name := "set", desc := "(IIZ)Z" } : Jvm.MethodName)) ∈ lw_all := lw_g (lw_at lw_m1 190 rfl) rfl
theorem q217 : (Jvm.Cond.selects "CompLabelModel" ({ cls := "CompLabelModel", name := "set", desc := "(IIZ)Z" } : Jvm.MethodName) ({ cls := "CompLabelModel", name := "set", desc := "(IIZ)Z" } : Jvm.MethodName)) ∈ lw_all := lw_g (lw_at lw_m1 191 rfl) rfl
theorem q218 : (Jvm.Cond.code ({ cls := "CompLabelModel", name := "set", desc := "(IIZ)Z" } : Jvm.MethodName) prog_3_method_4_code (4 : Nat) (Option.some Jvm.ClassFile.FieldType.boolean)) ∈ lw_all := lw_g (lw_at lw_m1 192 rfl) rfl
theorem q219 : (Jvm.Cond.methodLink "CompLabelModel" (30 : Nat) ({ cls := "CompLabelModel", name := "inside", desc := "(II)Z" } : Jvm.MethodName)) ∈ lw_all := lw_g (lw_at lw_m1 193 rfl) rfl
theorem q220 : (Jvm.Cond.privateMethod ({ cls := "CompLabelModel", name := "inside", desc := "(II)Z" } : Jvm.MethodName)) ∈ lw_tbl := lw_at lw_m1 194 rfl
theorem q221 : (Jvm.Cond.instanceMethod ({ cls := "CompLabelModel", name := "inside", desc := "(II)Z" } : Jvm.MethodName)) ∈ lw_all := lw_g (lw_at lw_m1 195 rfl) rfl
theorem q222 : (Jvm.Cond.code ({ cls := "CompLabelModel", name := "inside", desc := "(II)Z" } : Jvm.MethodName) prog_3_method_2_code (3 : Nat) (Option.some Jvm.ClassFile.FieldType.boolean)) ∈ lw_all := lw_g (lw_at lw_m1 196 rfl) rfl
theorem q223 : (Jvm.Cond.methodLink "CompLabelModel" (34 : Nat) ({ cls := "CompLabelModel", name := "place", desc := "(II)I" } : Jvm.MethodName)) ∈ lw_all := lw_g (lw_at lw_m1 197 rfl) rfl
theorem q224 : (Jvm.Cond.privateMethod ({ cls := "CompLabelModel", name := "place", desc := "(II)I" } : Jvm.MethodName)) ∈ lw_tbl := lw_at lw_m1 198 rfl
theorem q225 : (Jvm.Cond.instanceMethod ({ cls := "CompLabelModel", name := "place", desc := "(II)I" } : Jvm.MethodName)) ∈ lw_all := lw_g (lw_at lw_m1 199 rfl) rfl
theorem q226 : (Jvm.Cond.code ({ cls := "CompLabelModel", name := "place", desc := "(II)I" } : Jvm.MethodName) prog_3_method_3_code (3 : Nat) (Option.some Jvm.ClassFile.FieldType.int)) ∈ lw_all := lw_g (lw_at lw_m1 200 rfl) rfl
theorem q228 : (Jvm.Cond.instanceMethod ({ cls := "CompLabelModel", name := "invert", desc := "(IIII)Z" } : Jvm.MethodName)) ∈ lw_all := lw_g (lw_at lw_m1 202 rfl) rfl
theorem q229 : (Jvm.Cond.selects "CompLabelModel" ({ cls := "CompLabelModel", name := "invert", desc := "(IIII)Z" } : Jvm.MethodName) ({ cls := "CompLabelModel", name := "invert", desc := "(IIII)Z" } : Jvm.MethodName)) ∈ lw_all := lw_g (lw_at lw_m1 203 rfl) rfl
theorem q230 : (Jvm.Cond.code ({ cls := "CompLabelModel", name := "invert", desc := "(IIII)Z" } : Jvm.MethodName) prog_3_method_5_code (7 : Nat) (Option.some Jvm.ClassFile.FieldType.boolean)) ∈ lw_all := lw_g (lw_at lw_m1 204 rfl) rfl
theorem q232 : (Jvm.Cond.instanceMethod ({ cls := "CompLabelModel", name := "isBlack", desc := "(II)Z" } : Jvm.MethodName)) ∈ lw_all := lw_g (lw_at lw_m1 206 rfl) rfl
theorem q233 : (Jvm.Cond.selects "CompLabelModel" ({ cls := "CompLabelModel", name := "isBlack", desc := "(II)Z" } : Jvm.MethodName) ({ cls := "CompLabelModel", name := "isBlack", desc := "(II)Z" } : Jvm.MethodName)) ∈ lw_all := lw_g (lw_at lw_m1 207 rfl) rfl
theorem q234 : (Jvm.Cond.code ({ cls := "CompLabelModel", name := "isBlack", desc := "(II)Z" } : Jvm.MethodName) prog_3_method_6_code (3 : Nat) (Option.some Jvm.ClassFile.FieldType.boolean)) ∈ lw_all := lw_g (lw_at lw_m1 208 rfl) rfl
theorem q236 : (Jvm.Cond.instanceMethod ({ cls := "CompLabelModel", name := "components", desc := "()I" } : Jvm.MethodName)) ∈ lw_all := lw_g (lw_at lw_m1 210 rfl) rfl
theorem q237 : (Jvm.Cond.selects "CompLabelModel" ({ cls := "CompLabelModel", name := "components", desc := "()I" } : Jvm.MethodName) ({ cls := "CompLabelModel", name := "components", desc := "()I" } : Jvm.MethodName)) ∈ lw_all := lw_g (lw_at lw_m1 211 rfl) rfl
theorem q238 : (Jvm.Cond.code ({ cls := "CompLabelModel", name := "components", desc := "()I" } : Jvm.MethodName) prog_3_method_16_code (1 : Nat) (Option.some Jvm.ClassFile.FieldType.int)) ∈ lw_all := lw_g (lw_at lw_m1 212 rfl) rfl
theorem q239 : (Jvm.Cond.methodLink "CompLabelModel" (60 : Nat) ({ cls := "CompLabelModel", name := "findRoots", desc := "()V" } : Jvm.MethodName)) ∈ lw_all := lw_g (lw_at lw_m1 213 rfl) rfl
theorem q240 : (Jvm.Cond.privateMethod ({ cls := "CompLabelModel", name := "findRoots", desc := "()V" } : Jvm.MethodName)) ∈ lw_tbl := lw_at lw_m1 214 rfl
theorem q241 : (Jvm.Cond.instanceMethod ({ cls := "CompLabelModel", name := "findRoots", desc := "()V" } : Jvm.MethodName)) ∈ lw_all := lw_g (lw_at lw_m1 215 rfl) rfl
theorem q242 : (Jvm.Cond.code ({ cls := "CompLabelModel", name := "findRoots", desc := "()V" } : Jvm.MethodName) prog_3_method_11_code (3 : Nat) (Option.none : Option Jvm.ClassFile.FieldType)) ∈ lw_all := lw_g (lw_at lw_m1 216 rfl) rfl
theorem q243 : (Jvm.Cond.methodLink "CompLabelModel" (49 : Nat) ({ cls := "CompLabelModel", name := "spreadRoots", desc := "()Z" } : Jvm.MethodName)) ∈ lw_all := lw_g (lw_at lw_m1 217 rfl) rfl
theorem q244 : (Jvm.Cond.privateMethod ({ cls := "CompLabelModel", name := "spreadRoots", desc := "()Z" } : Jvm.MethodName)) ∈ lw_tbl := lw_at lw_m1 218 rfl
theorem q245 : (Jvm.Cond.instanceMethod ({ cls := "CompLabelModel", name := "spreadRoots", desc := "()Z" } : Jvm.MethodName)) ∈ lw_all := lw_g (lw_at lw_m1 219 rfl) rfl
theorem q246 : (Jvm.Cond.code ({ cls := "CompLabelModel", name := "spreadRoots", desc := "()Z" } : Jvm.MethodName) prog_3_method_10_code (5 : Nat) (Option.some Jvm.ClassFile.FieldType.boolean)) ∈ lw_all := lw_g (lw_at lw_m1 220 rfl) rfl
theorem q247 : (Jvm.Cond.methodLink "CompLabelModel" (42 : Nat) ({ cls := "CompLabelModel", name := "near", desc := "(II)I" } : Jvm.MethodName)) ∈ lw_all := lw_g (lw_at lw_m1 221 rfl) rfl
theorem q248 : (Jvm.Cond.privateMethod ({ cls := "CompLabelModel", name := "near", desc := "(II)I" } : Jvm.MethodName)) ∈ lw_tbl := lw_at lw_m1 222 rfl
theorem q249 : (Jvm.Cond.instanceMethod ({ cls := "CompLabelModel", name := "near", desc := "(II)I" } : Jvm.MethodName)) ∈ lw_all := lw_g (lw_at lw_m1 223 rfl) rfl
theorem q250 : (Jvm.Cond.code ({ cls := "CompLabelModel", name := "near", desc := "(II)I" } : Jvm.MethodName) prog_3_method_7_code (5 : Nat) (Option.some Jvm.ClassFile.FieldType.int)) ∈ lw_all := lw_g (lw_at lw_m1 224 rfl) rfl
theorem q251 : (Jvm.Cond.methodLink "CompLabelModel" (45 : Nat) ({ cls := "CompLabelModel", name := "step", desc := "(III)Z" } : Jvm.MethodName)) ∈ lw_all := lw_g (lw_at lw_m1 225 rfl) rfl
theorem q252 : (Jvm.Cond.privateMethod ({ cls := "CompLabelModel", name := "step", desc := "(III)Z" } : Jvm.MethodName)) ∈ lw_tbl := lw_at lw_m1 226 rfl
theorem q253 : (Jvm.Cond.instanceMethod ({ cls := "CompLabelModel", name := "step", desc := "(III)Z" } : Jvm.MethodName)) ∈ lw_all := lw_g (lw_at lw_m1 227 rfl) rfl
theorem q254 : (Jvm.Cond.code ({ cls := "CompLabelModel", name := "step", desc := "(III)Z" } : Jvm.MethodName) prog_3_method_9_code (4 : Nat) (Option.some Jvm.ClassFile.FieldType.boolean)) ∈ lw_all := lw_g (lw_at lw_m1 228 rfl) rfl
theorem q255 : (Jvm.Cond.methodLink "CompLabelModel" (38 : Nat) ({ cls := "CompLabelModel", name := "besideWay", desc := "(I)Z" } : Jvm.MethodName)) ∈ lw_all := lw_g (lw_at lw_m1 229 rfl) rfl
theorem q256 : (Jvm.Cond.privateMethod ({ cls := "CompLabelModel", name := "besideWay", desc := "(I)Z" } : Jvm.MethodName)) ∈ lw_tbl := lw_at lw_m1 230 rfl
theorem q257 : (Jvm.Cond.instanceMethod ({ cls := "CompLabelModel", name := "besideWay", desc := "(I)Z" } : Jvm.MethodName)) ∈ lw_all := lw_g (lw_at lw_m1 231 rfl) rfl
theorem q258 : (Jvm.Cond.code ({ cls := "CompLabelModel", name := "besideWay", desc := "(I)Z" } : Jvm.MethodName) prog_3_method_8_code (2 : Nat) (Option.some Jvm.ClassFile.FieldType.boolean)) ∈ lw_all := lw_g (lw_at lw_m1 232 rfl) rfl
theorem q259 : (Jvm.Cond.methodLink "CompLabelModel" (63 : Nat) ({ cls := "CompLabelModel", name := "count", desc := "(ZI)I" } : Jvm.MethodName)) ∈ lw_all := lw_g (lw_at lw_m1 233 rfl) rfl
theorem q260 : (Jvm.Cond.privateMethod ({ cls := "CompLabelModel", name := "count", desc := "(ZI)I" } : Jvm.MethodName)) ∈ lw_tbl := lw_at lw_m1 234 rfl
theorem q261 : (Jvm.Cond.instanceMethod ({ cls := "CompLabelModel", name := "count", desc := "(ZI)I" } : Jvm.MethodName)) ∈ lw_all := lw_g (lw_at lw_m1 235 rfl) rfl
theorem q262 : (Jvm.Cond.code ({ cls := "CompLabelModel", name := "count", desc := "(ZI)I" } : Jvm.MethodName) prog_3_method_15_code (5 : Nat) (Option.some Jvm.ClassFile.FieldType.int)) ∈ lw_all := lw_g (lw_at lw_m1 236 rfl) rfl
theorem q263 : (Jvm.Cond.methodLink "CompLabelModel" (56 : Nat) ({ cls := "CompLabelModel", name := "isFirst", desc := "(IZ)Z" } : Jvm.MethodName)) ∈ lw_all := lw_g (lw_at lw_m1 237 rfl) rfl
theorem q264 : (Jvm.Cond.privateMethod ({ cls := "CompLabelModel", name := "isFirst", desc := "(IZ)Z" } : Jvm.MethodName)) ∈ lw_tbl := lw_at lw_m1 238 rfl
theorem q265 : (Jvm.Cond.instanceMethod ({ cls := "CompLabelModel", name := "isFirst", desc := "(IZ)Z" } : Jvm.MethodName)) ∈ lw_all := lw_g (lw_at lw_m1 239 rfl) rfl
theorem q266 : (Jvm.Cond.code ({ cls := "CompLabelModel", name := "isFirst", desc := "(IZ)Z" } : Jvm.MethodName) prog_3_method_14_code (3 : Nat) (Option.some Jvm.ClassFile.FieldType.boolean)) ∈ lw_all := lw_g (lw_at lw_m2 0 rfl) rfl
theorem q268 : (Jvm.Cond.instanceMethod ({ cls := "CompLabelModel", name := "euler", desc := "()I" } : Jvm.MethodName)) ∈ lw_all := lw_g (lw_at lw_m2 2 rfl) rfl
theorem q269 : (Jvm.Cond.selects "CompLabelModel" ({ cls := "CompLabelModel", name := "euler", desc := "()I" } : Jvm.MethodName) ({ cls := "CompLabelModel", name := "euler", desc := "()I" } : Jvm.MethodName)) ∈ lw_all := lw_g (lw_at lw_m2 3 rfl) rfl
theorem q270 : (Jvm.Cond.code ({ cls := "CompLabelModel", name := "euler", desc := "()I" } : Jvm.MethodName) prog_3_method_17_code (1 : Nat) (Option.some Jvm.ClassFile.FieldType.int)) ∈ lw_all := lw_g (lw_at lw_m2 4 rfl) rfl
theorem q272 : (Jvm.Cond.instanceMethod ({ cls := "CompLabelModel", name := "label", desc := "(II)I" } : Jvm.MethodName)) ∈ lw_all := lw_g (lw_at lw_m2 6 rfl) rfl
theorem q273 : (Jvm.Cond.selects "CompLabelModel" ({ cls := "CompLabelModel", name := "label", desc := "(II)I" } : Jvm.MethodName) ({ cls := "CompLabelModel", name := "label", desc := "(II)I" } : Jvm.MethodName)) ∈ lw_all := lw_g (lw_at lw_m2 7 rfl) rfl
theorem q274 : (Jvm.Cond.code ({ cls := "CompLabelModel", name := "label", desc := "(II)I" } : Jvm.MethodName) prog_3_method_18_code (4 : Nat) (Option.some Jvm.ClassFile.FieldType.int)) ∈ lw_all := lw_g (lw_at lw_m2 8 rfl) rfl
theorem q276 : (Jvm.Cond.instanceMethod ({ cls := "CompLabelModel", name := "area", desc := "(I)I" } : Jvm.MethodName)) ∈ lw_all := lw_g (lw_at lw_m2 10 rfl) rfl
theorem q277 : (Jvm.Cond.selects "CompLabelModel" ({ cls := "CompLabelModel", name := "area", desc := "(I)I" } : Jvm.MethodName) ({ cls := "CompLabelModel", name := "area", desc := "(I)I" } : Jvm.MethodName)) ∈ lw_all := lw_g (lw_at lw_m2 11 rfl) rfl
theorem q278 : (Jvm.Cond.code ({ cls := "CompLabelModel", name := "area", desc := "(I)I" } : Jvm.MethodName) prog_3_method_20_code (5 : Nat) (Option.some Jvm.ClassFile.FieldType.int)) ∈ lw_all := lw_g (lw_at lw_m2 12 rfl) rfl
theorem q279 : (Jvm.Cond.methodLink "CompLabelModel" (67 : Nat) ({ cls := "CompLabelModel", name := "firstOf", desc := "(I)I" } : Jvm.MethodName)) ∈ lw_all := lw_g (lw_at lw_m2 13 rfl) rfl
theorem q280 : (Jvm.Cond.privateMethod ({ cls := "CompLabelModel", name := "firstOf", desc := "(I)I" } : Jvm.MethodName)) ∈ lw_tbl := lw_at lw_m2 14 rfl
theorem q281 : (Jvm.Cond.instanceMethod ({ cls := "CompLabelModel", name := "firstOf", desc := "(I)I" } : Jvm.MethodName)) ∈ lw_all := lw_g (lw_at lw_m2 15 rfl) rfl
theorem q282 : (Jvm.Cond.code ({ cls := "CompLabelModel", name := "firstOf", desc := "(I)I" } : Jvm.MethodName) prog_3_method_19_code (4 : Nat) (Option.some Jvm.ClassFile.FieldType.int)) ∈ lw_all := lw_g (lw_at lw_m2 16 rfl) rfl
theorem q284 : (Jvm.Cond.instanceMethod ({ cls := "CompLabelModel", name := "holes", desc := "(I)I" } : Jvm.MethodName)) ∈ lw_all := lw_g (lw_at lw_m2 18 rfl) rfl
theorem q285 : (Jvm.Cond.selects "CompLabelModel" ({ cls := "CompLabelModel", name := "holes", desc := "(I)I" } : Jvm.MethodName) ({ cls := "CompLabelModel", name := "holes", desc := "(I)I" } : Jvm.MethodName)) ∈ lw_all := lw_g (lw_at lw_m2 19 rfl) rfl
theorem q286 : (Jvm.Cond.code ({ cls := "CompLabelModel", name := "holes", desc := "(I)I" } : Jvm.MethodName) prog_3_method_22_code (5 : Nat) (Option.some Jvm.ClassFile.FieldType.int)) ∈ lw_all := lw_g (lw_at lw_m2 20 rfl) rfl
theorem q287 : (Jvm.Cond.methodLink "CompLabelModel" (71 : Nat) ({ cls := "CompLabelModel", name := "findChanges", desc := "()V" } : Jvm.MethodName)) ∈ lw_all := lw_g (lw_at lw_m2 21 rfl) rfl
theorem q288 : (Jvm.Cond.privateMethod ({ cls := "CompLabelModel", name := "findChanges", desc := "()V" } : Jvm.MethodName)) ∈ lw_tbl := lw_at lw_m2 22 rfl
theorem q289 : (Jvm.Cond.instanceMethod ({ cls := "CompLabelModel", name := "findChanges", desc := "()V" } : Jvm.MethodName)) ∈ lw_all := lw_g (lw_at lw_m2 23 rfl) rfl
theorem q290 : (Jvm.Cond.code ({ cls := "CompLabelModel", name := "findChanges", desc := "()V" } : Jvm.MethodName) prog_3_method_13_code (3 : Nat) (Option.none : Option Jvm.ClassFile.FieldType)) ∈ lw_all := lw_g (lw_at lw_m2 24 rfl) rfl
theorem q291 : (Jvm.Cond.methodLink "CompLabelModel" (53 : Nat) ({ cls := "CompLabelModel", name := "spreadChanges", desc := "()Z" } : Jvm.MethodName)) ∈ lw_all := lw_g (lw_at lw_m2 25 rfl) rfl
theorem q292 : (Jvm.Cond.privateMethod ({ cls := "CompLabelModel", name := "spreadChanges", desc := "()Z" } : Jvm.MethodName)) ∈ lw_tbl := lw_at lw_m2 26 rfl
theorem q293 : (Jvm.Cond.instanceMethod ({ cls := "CompLabelModel", name := "spreadChanges", desc := "()Z" } : Jvm.MethodName)) ∈ lw_all := lw_g (lw_at lw_m2 27 rfl) rfl
theorem q294 : (Jvm.Cond.code ({ cls := "CompLabelModel", name := "spreadChanges", desc := "()Z" } : Jvm.MethodName) prog_3_method_12_code (6 : Nat) (Option.some Jvm.ClassFile.FieldType.boolean)) ∈ lw_all := lw_g (lw_at lw_m2 28 rfl) rfl
theorem q295 : (Jvm.Cond.methodLink "CompLabelModel" (74 : Nat) ({ cls := "CompLabelModel", name := "isHole", desc := "(II)Z" } : Jvm.MethodName)) ∈ lw_all := lw_g (lw_at lw_m2 29 rfl) rfl
theorem q296 : (Jvm.Cond.privateMethod ({ cls := "CompLabelModel", name := "isHole", desc := "(II)Z" } : Jvm.MethodName)) ∈ lw_tbl := lw_at lw_m2 30 rfl
theorem q297 : (Jvm.Cond.instanceMethod ({ cls := "CompLabelModel", name := "isHole", desc := "(II)Z" } : Jvm.MethodName)) ∈ lw_all := lw_g (lw_at lw_m2 31 rfl) rfl
theorem q298 : (Jvm.Cond.code ({ cls := "CompLabelModel", name := "isHole", desc := "(II)Z" } : Jvm.MethodName) prog_3_method_21_code (6 : Nat) (Option.some Jvm.ClassFile.FieldType.boolean)) ∈ lw_all := lw_g (lw_at lw_m2 32 rfl) rfl
theorem q300 : (Jvm.Cond.instanceMethod ({ cls := "CompLabelModel", name := "around", desc := "(I)I" } : Jvm.MethodName)) ∈ lw_all := lw_g (lw_at lw_m2 34 rfl) rfl
theorem q301 : (Jvm.Cond.selects "CompLabelModel" ({ cls := "CompLabelModel", name := "around", desc := "(I)I" } : Jvm.MethodName) ({ cls := "CompLabelModel", name := "around", desc := "(I)I" } : Jvm.MethodName)) ∈ lw_all := lw_g (lw_at lw_m2 35 rfl) rfl
theorem q302 : (Jvm.Cond.code ({ cls := "CompLabelModel", name := "around", desc := "(I)I" } : Jvm.MethodName) prog_3_method_25_code (4 : Nat) (Option.some Jvm.ClassFile.FieldType.int)) ∈ lw_all := lw_g (lw_at lw_m2 36 rfl) rfl
theorem q303 : (Jvm.Cond.methodLink "CompLabelModel" (80 : Nat) ({ cls := "CompLabelModel", name := "findReached", desc := "(I)V" } : Jvm.MethodName)) ∈ lw_all := lw_g (lw_at lw_m2 37 rfl) rfl
theorem q304 : (Jvm.Cond.privateMethod ({ cls := "CompLabelModel", name := "findReached", desc := "(I)V" } : Jvm.MethodName)) ∈ lw_tbl := lw_at lw_m2 38 rfl
theorem q305 : (Jvm.Cond.instanceMethod ({ cls := "CompLabelModel", name := "findReached", desc := "(I)V" } : Jvm.MethodName)) ∈ lw_all := lw_g (lw_at lw_m2 39 rfl) rfl
theorem q306 : (Jvm.Cond.code ({ cls := "CompLabelModel", name := "findReached", desc := "(I)V" } : Jvm.MethodName) prog_3_method_24_code (4 : Nat) (Option.none : Option Jvm.ClassFile.FieldType)) ∈ lw_all := lw_g (lw_at lw_m2 40 rfl) rfl
theorem q307 : (Jvm.Cond.methodLink "CompLabelModel" (77 : Nat) ({ cls := "CompLabelModel", name := "spreadReached", desc := "(I)Z" } : Jvm.MethodName)) ∈ lw_all := lw_g (lw_at lw_m2 41 rfl) rfl
theorem q308 : (Jvm.Cond.privateMethod ({ cls := "CompLabelModel", name := "spreadReached", desc := "(I)Z" } : Jvm.MethodName)) ∈ lw_tbl := lw_at lw_m2 42 rfl
theorem q309 : (Jvm.Cond.instanceMethod ({ cls := "CompLabelModel", name := "spreadReached", desc := "(I)Z" } : Jvm.MethodName)) ∈ lw_all := lw_g (lw_at lw_m2 43 rfl) rfl
theorem q310 : (Jvm.Cond.code ({ cls := "CompLabelModel", name := "spreadReached", desc := "(I)Z" } : Jvm.MethodName) prog_3_method_23_code (6 : Nat) (Option.some Jvm.ClassFile.FieldType.boolean)) ∈ lw_all := lw_g (lw_at lw_m2 44 rfl) rfl
theorem q312 : (Jvm.Cond.instanceMethod ({ cls := "CompLabelModel", name := "depth", desc := "(II)I" } : Jvm.MethodName)) ∈ lw_all := lw_g (lw_at lw_m2 46 rfl) rfl
theorem q313 : (Jvm.Cond.selects "CompLabelModel" ({ cls := "CompLabelModel", name := "depth", desc := "(II)I" } : Jvm.MethodName) ({ cls := "CompLabelModel", name := "depth", desc := "(II)I" } : Jvm.MethodName)) ∈ lw_all := lw_g (lw_at lw_m2 47 rfl) rfl
theorem q314 : (Jvm.Cond.code ({ cls := "CompLabelModel", name := "depth", desc := "(II)I" } : Jvm.MethodName) prog_3_method_26_code (3 : Nat) (Option.some Jvm.ClassFile.FieldType.int)) ∈ lw_all := lw_g (lw_at lw_m2 48 rfl) rfl
theorem q316 : (Jvm.Cond.instanceMethod ({ cls := "CompLabelModel", name := "enclosed", desc := "(I)I" } : Jvm.MethodName)) ∈ lw_all := lw_g (lw_at lw_m2 50 rfl) rfl
theorem q317 : (Jvm.Cond.selects "CompLabelModel" ({ cls := "CompLabelModel", name := "enclosed", desc := "(I)I" } : Jvm.MethodName) ({ cls := "CompLabelModel", name := "enclosed", desc := "(I)I" } : Jvm.MethodName)) ∈ lw_all := lw_g (lw_at lw_m2 51 rfl) rfl
theorem q318 : (Jvm.Cond.code ({ cls := "CompLabelModel", name := "enclosed", desc := "(I)I" } : Jvm.MethodName) prog_3_method_27_code (5 : Nat) (Option.some Jvm.ClassFile.FieldType.int)) ∈ lw_all := lw_g (lw_at lw_m2 52 rfl) rfl
theorem in_X2 : ∀ w ∈ wsX20, w ∈ lw_all := lw_in wsX20 [202, 204, 206, 208, 210, 212] (by decide +kernel) (by decide +kernel)
theorem dX2_init_0 : decode cX2_init 0 = .ok (.aload_n 0, 1) := by decide +kernel
theorem dX2_init_1 : decode cX2_init 1 = .ok (.invokespecial 1, 3) := by decide +kernel
theorem dX2_init_4 : decode cX2_init 4 = .ok (.aload_n 0, 1) := by decide +kernel
theorem dX2_init_5 : decode cX2_init 5 = .ok (.sipush 196, 3) := by decide +kernel
theorem dX2_init_8 : decode cX2_init 8 = .ok (.newarray .boolean, 2) := by decide +kernel
theorem dX2_init_10 : decode cX2_init 10 = .ok (.putfield 7, 3) := by decide +kernel
theorem dX2_init_13 : decode cX2_init 13 = .ok (.aload_n 0, 1) := by decide +kernel
theorem dX2_init_14 : decode cX2_init 14 = .ok (.sipush 196, 3) := by decide +kernel
theorem dX2_init_17 : decode cX2_init 17 = .ok (.newarray .int, 2) := by decide +kernel
theorem dX2_init_19 : decode cX2_init 19 = .ok (.putfield 13, 3) := by decide +kernel
theorem dX2_init_22 : decode cX2_init 22 = .ok (.aload_n 0, 1) := by decide +kernel
theorem dX2_init_23 : decode cX2_init 23 = .ok (.sipush 196, 3) := by decide +kernel
theorem dX2_init_26 : decode cX2_init 26 = .ok (.newarray .int, 2) := by decide +kernel
theorem dX2_init_28 : decode cX2_init 28 = .ok (.putfield 17, 3) := by decide +kernel
theorem dX2_init_31 : decode cX2_init 31 = .ok (.aload_n 0, 1) := by decide +kernel
theorem dX2_init_32 : decode cX2_init 32 = .ok (.sipush 196, 3) := by decide +kernel
theorem dX2_init_35 : decode cX2_init 35 = .ok (.newarray .boolean, 2) := by decide +kernel
theorem dX2_init_37 : decode cX2_init 37 = .ok (.putfield 20, 3) := by decide +kernel
theorem dX2_init_40 : decode cX2_init 40 = .ok (.aload_n 0, 1) := by decide +kernel
theorem dX2_init_41 : decode cX2_init 41 = .ok (.iload_n 1, 1) := by decide +kernel
theorem dX2_init_42 : decode cX2_init 42 = .ok (.iconst 2, 1) := by decide +kernel
theorem dX2_init_43 : decode cX2_init 43 = .ok (.if_icmp .ge 7, 3) := by decide +kernel
theorem dX2_init_46 : decode cX2_init 46 = .ok (.iconst 2, 1) := by decide +kernel
theorem dX2_init_47 : decode cX2_init 47 = .ok (.goto 15, 3) := by decide +kernel
theorem dX2_init_50 : decode cX2_init 50 = .ok (.iload_n 1, 1) := by decide +kernel
theorem dX2_init_51 : decode cX2_init 51 = .ok (.bipush 12, 2) := by decide +kernel
theorem dX2_init_53 : decode cX2_init 53 = .ok (.if_icmp .le 8, 3) := by decide +kernel
theorem dX2_init_56 : decode cX2_init 56 = .ok (.bipush 12, 2) := by decide +kernel
theorem dX2_init_58 : decode cX2_init 58 = .ok (.goto 4, 3) := by decide +kernel
theorem dX2_init_61 : decode cX2_init 61 = .ok (.iload_n 1, 1) := by decide +kernel
theorem dX2_init_62 : decode cX2_init 62 = .ok (.putfield 23, 3) := by decide +kernel
theorem dX2_init_65 : decode cX2_init 65 = .ok (.aload_n 0, 1) := by decide +kernel
theorem dX2_init_66 : decode cX2_init 66 = .ok (.iload_n 2, 1) := by decide +kernel
theorem dX2_init_67 : decode cX2_init 67 = .ok (.iconst 2, 1) := by decide +kernel
theorem dX2_init_68 : decode cX2_init 68 = .ok (.if_icmp .ge 7, 3) := by decide +kernel
theorem dX2_init_71 : decode cX2_init 71 = .ok (.iconst 2, 1) := by decide +kernel
theorem dX2_init_72 : decode cX2_init 72 = .ok (.goto 15, 3) := by decide +kernel
theorem dX2_init_75 : decode cX2_init 75 = .ok (.iload_n 2, 1) := by decide +kernel
theorem dX2_init_76 : decode cX2_init 76 = .ok (.bipush 12, 2) := by decide +kernel
theorem dX2_init_78 : decode cX2_init 78 = .ok (.if_icmp .le 8, 3) := by decide +kernel
theorem dX2_init_81 : decode cX2_init 81 = .ok (.bipush 12, 2) := by decide +kernel
theorem dX2_init_83 : decode cX2_init 83 = .ok (.goto 4, 3) := by decide +kernel
theorem dX2_init_86 : decode cX2_init 86 = .ok (.iload_n 2, 1) := by decide +kernel
theorem dX2_init_87 : decode cX2_init 87 = .ok (.putfield 27, 3) := by decide +kernel
theorem dX2_init_90 : decode cX2_init 90 = .ok (.return_, 1) := by decide +kernel
theorem dX2_set_0 : decode cX2_set 0 = .ok (.aload_n 0, 1) := by decide +kernel
theorem dX2_set_1 : decode cX2_set 1 = .ok (.iload_n 1, 1) := by decide +kernel
theorem dX2_set_2 : decode cX2_set 2 = .ok (.iload_n 2, 1) := by decide +kernel
theorem dX2_set_3 : decode cX2_set 3 = .ok (.invokevirtual 30, 3) := by decide +kernel
theorem dX2_set_6 : decode cX2_set 6 = .ok (.ifCond .ne 5, 3) := by decide +kernel
theorem dX2_set_9 : decode cX2_set 9 = .ok (.iconst 0, 1) := by decide +kernel
theorem dX2_set_10 : decode cX2_set 10 = .ok (.ireturn, 1) := by decide +kernel
theorem dX2_set_11 : decode cX2_set 11 = .ok (.aload_n 0, 1) := by decide +kernel
theorem dX2_set_12 : decode cX2_set 12 = .ok (.getfield 7, 3) := by decide +kernel
theorem dX2_set_15 : decode cX2_set 15 = .ok (.aload_n 0, 1) := by decide +kernel
theorem dX2_set_16 : decode cX2_set 16 = .ok (.iload_n 1, 1) := by decide +kernel
theorem dX2_set_17 : decode cX2_set 17 = .ok (.iload_n 2, 1) := by decide +kernel
theorem dX2_set_18 : decode cX2_set 18 = .ok (.invokevirtual 34, 3) := by decide +kernel
theorem dX2_set_21 : decode cX2_set 21 = .ok (.iload_n 3, 1) := by decide +kernel
theorem dX2_set_22 : decode cX2_set 22 = .ok (.bastore, 1) := by decide +kernel
theorem dX2_set_23 : decode cX2_set 23 = .ok (.iconst 1, 1) := by decide +kernel
theorem dX2_set_24 : decode cX2_set 24 = .ok (.ireturn, 1) := by decide +kernel
theorem dX2_inside_0 : decode cX2_inside 0 = .ok (.iload_n 1, 1) := by decide +kernel
theorem dX2_inside_1 : decode cX2_inside 1 = .ok (.ifCond .lt 27, 3) := by decide +kernel
theorem dX2_inside_4 : decode cX2_inside 4 = .ok (.iload_n 1, 1) := by decide +kernel
theorem dX2_inside_5 : decode cX2_inside 5 = .ok (.aload_n 0, 1) := by decide +kernel
theorem dX2_inside_6 : decode cX2_inside 6 = .ok (.getfield 23, 3) := by decide +kernel
theorem dX2_inside_9 : decode cX2_inside 9 = .ok (.if_icmp .ge 19, 3) := by decide +kernel
theorem dX2_inside_12 : decode cX2_inside 12 = .ok (.iload_n 2, 1) := by decide +kernel
theorem dX2_inside_13 : decode cX2_inside 13 = .ok (.ifCond .lt 15, 3) := by decide +kernel
theorem dX2_inside_16 : decode cX2_inside 16 = .ok (.iload_n 2, 1) := by decide +kernel
theorem dX2_inside_17 : decode cX2_inside 17 = .ok (.aload_n 0, 1) := by decide +kernel
theorem dX2_inside_18 : decode cX2_inside 18 = .ok (.getfield 27, 3) := by decide +kernel
theorem dX2_inside_21 : decode cX2_inside 21 = .ok (.if_icmp .ge 7, 3) := by decide +kernel
theorem dX2_inside_24 : decode cX2_inside 24 = .ok (.iconst 1, 1) := by decide +kernel
theorem dX2_inside_25 : decode cX2_inside 25 = .ok (.goto 4, 3) := by decide +kernel
theorem dX2_inside_28 : decode cX2_inside 28 = .ok (.iconst 0, 1) := by decide +kernel
theorem dX2_inside_29 : decode cX2_inside 29 = .ok (.ireturn, 1) := by decide +kernel
theorem dX2_place_0 : decode cX2_place 0 = .ok (.bipush 14, 2) := by decide +kernel
theorem dX2_place_2 : decode cX2_place 2 = .ok (.iload_n 2, 1) := by decide +kernel
theorem dX2_place_3 : decode cX2_place 3 = .ok (.iconst 1, 1) := by decide +kernel
theorem dX2_place_4 : decode cX2_place 4 = .ok (.iadd, 1) := by decide +kernel
theorem dX2_place_5 : decode cX2_place 5 = .ok (.imul, 1) := by decide +kernel
theorem dX2_place_6 : decode cX2_place 6 = .ok (.iload_n 1, 1) := by decide +kernel
theorem dX2_place_7 : decode cX2_place 7 = .ok (.iadd, 1) := by decide +kernel
theorem dX2_place_8 : decode cX2_place 8 = .ok (.iconst 1, 1) := by decide +kernel
theorem dX2_place_9 : decode cX2_place 9 = .ok (.iadd, 1) := by decide +kernel
theorem dX2_place_10 : decode cX2_place 10 = .ok (.ireturn, 1) := by decide +kernel
theorem dX2_invert_0 : decode cX2_invert 0 = .ok (.aload_n 0, 1) := by decide +kernel
theorem dX2_invert_1 : decode cX2_invert 1 = .ok (.iload_n 1, 1) := by decide +kernel
theorem dX2_invert_2 : decode cX2_invert 2 = .ok (.iload_n 2, 1) := by decide +kernel
theorem dX2_invert_3 : decode cX2_invert 3 = .ok (.invokevirtual 30, 3) := by decide +kernel
theorem dX2_invert_6 : decode cX2_invert 6 = .ok (.ifCond .eq 35, 3) := by decide +kernel
theorem dX2_invert_9 : decode cX2_invert 9 = .ok (.iload_n 3, 1) := by decide +kernel
theorem dX2_invert_10 : decode cX2_invert 10 = .ok (.iconst 1, 1) := by decide +kernel
theorem dX2_invert_11 : decode cX2_invert 11 = .ok (.if_icmp .lt 30, 3) := by decide +kernel
theorem dX2_invert_14 : decode cX2_invert 14 = .ok (.iload_n 3, 1) := by decide +kernel
theorem dX2_invert_15 : decode cX2_invert 15 = .ok (.aload_n 0, 1) := by decide +kernel
theorem dX2_invert_16 : decode cX2_invert 16 = .ok (.getfield 23, 3) := by decide +kernel
theorem dX2_invert_19 : decode cX2_invert 19 = .ok (.iload_n 1, 1) := by decide +kernel
theorem dX2_invert_20 : decode cX2_invert 20 = .ok (.isub, 1) := by decide +kernel
theorem dX2_invert_21 : decode cX2_invert 21 = .ok (.if_icmp .gt 20, 3) := by decide +kernel
theorem dX2_invert_24 : decode cX2_invert 24 = .ok (.iload 4, 2) := by decide +kernel
theorem dX2_invert_26 : decode cX2_invert 26 = .ok (.iconst 1, 1) := by decide +kernel
theorem dX2_invert_27 : decode cX2_invert 27 = .ok (.if_icmp .lt 14, 3) := by decide +kernel
theorem dX2_invert_30 : decode cX2_invert 30 = .ok (.iload 4, 2) := by decide +kernel
theorem dX2_invert_32 : decode cX2_invert 32 = .ok (.aload_n 0, 1) := by decide +kernel
theorem dX2_invert_33 : decode cX2_invert 33 = .ok (.getfield 27, 3) := by decide +kernel
theorem dX2_invert_36 : decode cX2_invert 36 = .ok (.iload_n 2, 1) := by decide +kernel
theorem dX2_invert_37 : decode cX2_invert 37 = .ok (.isub, 1) := by decide +kernel
theorem dX2_invert_38 : decode cX2_invert 38 = .ok (.if_icmp .le 5, 3) := by decide +kernel
theorem dX2_invert_41 : decode cX2_invert 41 = .ok (.iconst 0, 1) := by decide +kernel
theorem dX2_invert_42 : decode cX2_invert 42 = .ok (.ireturn, 1) := by decide +kernel
theorem dX2_invert_43 : decode cX2_invert 43 = .ok (.iload_n 2, 1) := by decide +kernel
theorem dX2_invert_44 : decode cX2_invert 44 = .ok (.istore 5, 2) := by decide +kernel
theorem dX2_invert_46 : decode cX2_invert 46 = .ok (.iload 5, 2) := by decide +kernel
theorem dX2_invert_48 : decode cX2_invert 48 = .ok (.iload_n 2, 1) := by decide +kernel
theorem dX2_invert_49 : decode cX2_invert 49 = .ok (.iload 4, 2) := by decide +kernel
theorem dX2_invert_51 : decode cX2_invert 51 = .ok (.iadd, 1) := by decide +kernel
theorem dX2_invert_52 : decode cX2_invert 52 = .ok (.if_icmp .ge 60, 3) := by decide +kernel
theorem dX2_invert_55 : decode cX2_invert 55 = .ok (.iload_n 1, 1) := by decide +kernel
theorem dX2_invert_56 : decode cX2_invert 56 = .ok (.istore 6, 2) := by decide +kernel
theorem dX2_invert_58 : decode cX2_invert 58 = .ok (.iload 6, 2) := by decide +kernel
theorem dX2_invert_60 : decode cX2_invert 60 = .ok (.iload_n 1, 1) := by decide +kernel
theorem dX2_invert_61 : decode cX2_invert 61 = .ok (.iload_n 3, 1) := by decide +kernel
theorem dX2_invert_62 : decode cX2_invert 62 = .ok (.iadd, 1) := by decide +kernel
theorem dX2_invert_63 : decode cX2_invert 63 = .ok (.if_icmp .ge 43, 3) := by decide +kernel
theorem dX2_invert_66 : decode cX2_invert 66 = .ok (.aload_n 0, 1) := by decide +kernel
theorem dX2_invert_67 : decode cX2_invert 67 = .ok (.getfield 7, 3) := by decide +kernel
theorem dX2_invert_70 : decode cX2_invert 70 = .ok (.aload_n 0, 1) := by decide +kernel
theorem dX2_invert_71 : decode cX2_invert 71 = .ok (.iload 6, 2) := by decide +kernel
theorem dX2_invert_73 : decode cX2_invert 73 = .ok (.iload 5, 2) := by decide +kernel
theorem dX2_invert_75 : decode cX2_invert 75 = .ok (.invokevirtual 34, 3) := by decide +kernel
theorem dX2_invert_78 : decode cX2_invert 78 = .ok (.aload_n 0, 1) := by decide +kernel
theorem dX2_invert_79 : decode cX2_invert 79 = .ok (.getfield 7, 3) := by decide +kernel
theorem dX2_invert_82 : decode cX2_invert 82 = .ok (.aload_n 0, 1) := by decide +kernel
theorem dX2_invert_83 : decode cX2_invert 83 = .ok (.iload 6, 2) := by decide +kernel
theorem dX2_invert_85 : decode cX2_invert 85 = .ok (.iload 5, 2) := by decide +kernel
theorem dX2_invert_87 : decode cX2_invert 87 = .ok (.invokevirtual 34, 3) := by decide +kernel
theorem dX2_invert_90 : decode cX2_invert 90 = .ok (.baload, 1) := by decide +kernel
theorem dX2_invert_91 : decode cX2_invert 91 = .ok (.ifCond .ne 7, 3) := by decide +kernel
theorem dX2_invert_94 : decode cX2_invert 94 = .ok (.iconst 1, 1) := by decide +kernel
theorem dX2_invert_95 : decode cX2_invert 95 = .ok (.goto 4, 3) := by decide +kernel
theorem dX2_invert_98 : decode cX2_invert 98 = .ok (.iconst 0, 1) := by decide +kernel
theorem dX2_invert_99 : decode cX2_invert 99 = .ok (.bastore, 1) := by decide +kernel
theorem dX2_invert_100 : decode cX2_invert 100 = .ok (.iinc 6 1, 3) := by decide +kernel
theorem dX2_invert_103 : decode cX2_invert 103 = .ok (.goto (-45), 3) := by decide +kernel
theorem dX2_invert_106 : decode cX2_invert 106 = .ok (.iinc 5 1, 3) := by decide +kernel
theorem dX2_invert_109 : decode cX2_invert 109 = .ok (.goto (-63), 3) := by decide +kernel
theorem dX2_invert_112 : decode cX2_invert 112 = .ok (.iconst 1, 1) := by decide +kernel
theorem dX2_invert_113 : decode cX2_invert 113 = .ok (.ireturn, 1) := by decide +kernel
theorem dX2_isBlack_0 : decode cX2_isBlack 0 = .ok (.aload_n 0, 1) := by decide +kernel
theorem dX2_isBlack_1 : decode cX2_isBlack 1 = .ok (.iload_n 1, 1) := by decide +kernel
theorem dX2_isBlack_2 : decode cX2_isBlack 2 = .ok (.iload_n 2, 1) := by decide +kernel
theorem dX2_isBlack_3 : decode cX2_isBlack 3 = .ok (.invokevirtual 30, 3) := by decide +kernel
theorem dX2_isBlack_6 : decode cX2_isBlack 6 = .ok (.ifCond .eq 21, 3) := by decide +kernel
theorem dX2_isBlack_9 : decode cX2_isBlack 9 = .ok (.aload_n 0, 1) := by decide +kernel
theorem dX2_isBlack_10 : decode cX2_isBlack 10 = .ok (.getfield 7, 3) := by decide +kernel
theorem dX2_isBlack_13 : decode cX2_isBlack 13 = .ok (.aload_n 0, 1) := by decide +kernel
theorem dX2_isBlack_14 : decode cX2_isBlack 14 = .ok (.iload_n 1, 1) := by decide +kernel
theorem dX2_isBlack_15 : decode cX2_isBlack 15 = .ok (.iload_n 2, 1) := by decide +kernel
theorem dX2_isBlack_16 : decode cX2_isBlack 16 = .ok (.invokevirtual 34, 3) := by decide +kernel
theorem dX2_isBlack_19 : decode cX2_isBlack 19 = .ok (.baload, 1) := by decide +kernel
theorem dX2_isBlack_20 : decode cX2_isBlack 20 = .ok (.ifCond .eq 7, 3) := by decide +kernel
theorem dX2_isBlack_23 : decode cX2_isBlack 23 = .ok (.iconst 1, 1) := by decide +kernel
theorem dX2_isBlack_24 : decode cX2_isBlack 24 = .ok (.goto 4, 3) := by decide +kernel
theorem dX2_isBlack_27 : decode cX2_isBlack 27 = .ok (.iconst 0, 1) := by decide +kernel
theorem dX2_isBlack_28 : decode cX2_isBlack 28 = .ok (.ireturn, 1) := by decide +kernel
theorem dX2_components_0 : decode cX2_components 0 = .ok (.aload_n 0, 1) := by decide +kernel
theorem dX2_components_1 : decode cX2_components 1 = .ok (.invokevirtual 60, 3) := by decide +kernel
theorem dX2_components_4 : decode cX2_components 4 = .ok (.aload_n 0, 1) := by decide +kernel
theorem dX2_components_5 : decode cX2_components 5 = .ok (.iconst 1, 1) := by decide +kernel
theorem dX2_components_6 : decode cX2_components 6 = .ok (.sipush 196, 3) := by decide +kernel
theorem dX2_components_9 : decode cX2_components 9 = .ok (.invokevirtual 63, 3) := by decide +kernel
theorem dX2_components_12 : decode cX2_components 12 = .ok (.ireturn, 1) := by decide +kernel
theorem dX2_findRoots_0 : decode cX2_findRoots 0 = .ok (.iconst 0, 1) := by decide +kernel
theorem dX2_findRoots_1 : decode cX2_findRoots 1 = .ok (.istore_n 1, 1) := by decide +kernel
theorem dX2_findRoots_2 : decode cX2_findRoots 2 = .ok (.iload_n 1, 1) := by decide +kernel
theorem dX2_findRoots_3 : decode cX2_findRoots 3 = .ok (.sipush 196, 3) := by decide +kernel
theorem dX2_findRoots_6 : decode cX2_findRoots 6 = .ok (.if_icmp .ge 16, 3) := by decide +kernel
theorem dX2_findRoots_9 : decode cX2_findRoots 9 = .ok (.aload_n 0, 1) := by decide +kernel
theorem dX2_findRoots_10 : decode cX2_findRoots 10 = .ok (.getfield 13, 3) := by decide +kernel
theorem dX2_findRoots_13 : decode cX2_findRoots 13 = .ok (.iload_n 1, 1) := by decide +kernel
theorem dX2_findRoots_14 : decode cX2_findRoots 14 = .ok (.iload_n 1, 1) := by decide +kernel
theorem dX2_findRoots_15 : decode cX2_findRoots 15 = .ok (.iastore, 1) := by decide +kernel
theorem dX2_findRoots_16 : decode cX2_findRoots 16 = .ok (.iinc 1 1, 3) := by decide +kernel
theorem dX2_findRoots_19 : decode cX2_findRoots 19 = .ok (.goto (-17), 3) := by decide +kernel
theorem dX2_findRoots_22 : decode cX2_findRoots 22 = .ok (.iconst 1, 1) := by decide +kernel
theorem dX2_findRoots_23 : decode cX2_findRoots 23 = .ok (.istore_n 1, 1) := by decide +kernel
theorem dX2_findRoots_24 : decode cX2_findRoots 24 = .ok (.iconst 0, 1) := by decide +kernel
theorem dX2_findRoots_25 : decode cX2_findRoots 25 = .ok (.istore_n 2, 1) := by decide +kernel
theorem dX2_findRoots_26 : decode cX2_findRoots 26 = .ok (.iload_n 2, 1) := by decide +kernel
theorem dX2_findRoots_27 : decode cX2_findRoots 27 = .ok (.sipush 197, 3) := by decide +kernel
theorem dX2_findRoots_30 : decode cX2_findRoots 30 = .ok (.if_icmp .ge 18, 3) := by decide +kernel
theorem dX2_findRoots_33 : decode cX2_findRoots 33 = .ok (.iload_n 1, 1) := by decide +kernel
theorem dX2_findRoots_34 : decode cX2_findRoots 34 = .ok (.ifCond .eq 14, 3) := by decide +kernel
theorem dX2_findRoots_37 : decode cX2_findRoots 37 = .ok (.aload_n 0, 1) := by decide +kernel
theorem dX2_findRoots_38 : decode cX2_findRoots 38 = .ok (.invokevirtual 49, 3) := by decide +kernel
theorem dX2_findRoots_41 : decode cX2_findRoots 41 = .ok (.istore_n 1, 1) := by decide +kernel
theorem dX2_findRoots_42 : decode cX2_findRoots 42 = .ok (.iinc 2 1, 3) := by decide +kernel
theorem dX2_findRoots_45 : decode cX2_findRoots 45 = .ok (.goto (-19), 3) := by decide +kernel
theorem dX2_findRoots_48 : decode cX2_findRoots 48 = .ok (.return_, 1) := by decide +kernel
theorem dX2_spreadRoots_0 : decode cX2_spreadRoots 0 = .ok (.iconst 0, 1) := by decide +kernel
theorem dX2_spreadRoots_1 : decode cX2_spreadRoots 1 = .ok (.istore_n 1, 1) := by decide +kernel
theorem dX2_spreadRoots_2 : decode cX2_spreadRoots 2 = .ok (.iconst 0, 1) := by decide +kernel
theorem dX2_spreadRoots_3 : decode cX2_spreadRoots 3 = .ok (.istore_n 2, 1) := by decide +kernel
theorem dX2_spreadRoots_4 : decode cX2_spreadRoots 4 = .ok (.iload_n 2, 1) := by decide +kernel
theorem dX2_spreadRoots_5 : decode cX2_spreadRoots 5 = .ok (.sipush 196, 3) := by decide +kernel
theorem dX2_spreadRoots_8 : decode cX2_spreadRoots 8 = .ok (.if_icmp .ge 78, 3) := by decide +kernel
theorem dX2_spreadRoots_11 : decode cX2_spreadRoots 11 = .ok (.iconst 0, 1) := by decide +kernel
theorem dX2_spreadRoots_12 : decode cX2_spreadRoots 12 = .ok (.istore_n 3, 1) := by decide +kernel
theorem dX2_spreadRoots_13 : decode cX2_spreadRoots 13 = .ok (.iload_n 3, 1) := by decide +kernel
theorem dX2_spreadRoots_14 : decode cX2_spreadRoots 14 = .ok (.bipush 9, 2) := by decide +kernel
theorem dX2_spreadRoots_16 : decode cX2_spreadRoots 16 = .ok (.if_icmp .ge 64, 3) := by decide +kernel
theorem dX2_spreadRoots_19 : decode cX2_spreadRoots 19 = .ok (.aload_n 0, 1) := by decide +kernel
theorem dX2_spreadRoots_20 : decode cX2_spreadRoots 20 = .ok (.iload_n 2, 1) := by decide +kernel
theorem dX2_spreadRoots_21 : decode cX2_spreadRoots 21 = .ok (.iload_n 3, 1) := by decide +kernel
theorem dX2_spreadRoots_22 : decode cX2_spreadRoots 22 = .ok (.invokevirtual 42, 3) := by decide +kernel
theorem dX2_spreadRoots_25 : decode cX2_spreadRoots 25 = .ok (.istore 4, 2) := by decide +kernel
theorem dX2_spreadRoots_27 : decode cX2_spreadRoots 27 = .ok (.iload 4, 2) := by decide +kernel
theorem dX2_spreadRoots_29 : decode cX2_spreadRoots 29 = .ok (.ifCond .lt 45, 3) := by decide +kernel
theorem dX2_spreadRoots_32 : decode cX2_spreadRoots 32 = .ok (.aload_n 0, 1) := by decide +kernel
theorem dX2_spreadRoots_33 : decode cX2_spreadRoots 33 = .ok (.iload_n 2, 1) := by decide +kernel
theorem dX2_spreadRoots_34 : decode cX2_spreadRoots 34 = .ok (.iload 4, 2) := by decide +kernel
theorem dX2_spreadRoots_36 : decode cX2_spreadRoots 36 = .ok (.iload_n 3, 1) := by decide +kernel
theorem dX2_spreadRoots_37 : decode cX2_spreadRoots 37 = .ok (.invokevirtual 45, 3) := by decide +kernel
theorem dX2_spreadRoots_40 : decode cX2_spreadRoots 40 = .ok (.ifCond .eq 34, 3) := by decide +kernel
theorem dX2_spreadRoots_43 : decode cX2_spreadRoots 43 = .ok (.aload_n 0, 1) := by decide +kernel
theorem dX2_spreadRoots_44 : decode cX2_spreadRoots 44 = .ok (.getfield 13, 3) := by decide +kernel
theorem dX2_spreadRoots_47 : decode cX2_spreadRoots 47 = .ok (.iload 4, 2) := by decide +kernel
theorem dX2_spreadRoots_49 : decode cX2_spreadRoots 49 = .ok (.iaload, 1) := by decide +kernel
theorem dX2_spreadRoots_50 : decode cX2_spreadRoots 50 = .ok (.aload_n 0, 1) := by decide +kernel
theorem dX2_spreadRoots_51 : decode cX2_spreadRoots 51 = .ok (.getfield 13, 3) := by decide +kernel
theorem dX2_spreadRoots_54 : decode cX2_spreadRoots 54 = .ok (.iload_n 2, 1) := by decide +kernel
theorem dX2_spreadRoots_55 : decode cX2_spreadRoots 55 = .ok (.iaload, 1) := by decide +kernel
theorem dX2_spreadRoots_56 : decode cX2_spreadRoots 56 = .ok (.if_icmp .ge 18, 3) := by decide +kernel
theorem dX2_spreadRoots_59 : decode cX2_spreadRoots 59 = .ok (.aload_n 0, 1) := by decide +kernel
theorem dX2_spreadRoots_60 : decode cX2_spreadRoots 60 = .ok (.getfield 13, 3) := by decide +kernel
theorem dX2_spreadRoots_63 : decode cX2_spreadRoots 63 = .ok (.iload_n 2, 1) := by decide +kernel
theorem dX2_spreadRoots_64 : decode cX2_spreadRoots 64 = .ok (.aload_n 0, 1) := by decide +kernel
theorem dX2_spreadRoots_65 : decode cX2_spreadRoots 65 = .ok (.getfield 13, 3) := by decide +kernel
theorem dX2_spreadRoots_68 : decode cX2_spreadRoots 68 = .ok (.iload 4, 2) := by decide +kernel
theorem dX2_spreadRoots_70 : decode cX2_spreadRoots 70 = .ok (.iaload, 1) := by decide +kernel
theorem dX2_spreadRoots_71 : decode cX2_spreadRoots 71 = .ok (.iastore, 1) := by decide +kernel
theorem dX2_spreadRoots_72 : decode cX2_spreadRoots 72 = .ok (.iconst 1, 1) := by decide +kernel
theorem dX2_spreadRoots_73 : decode cX2_spreadRoots 73 = .ok (.istore_n 1, 1) := by decide +kernel
theorem dX2_spreadRoots_74 : decode cX2_spreadRoots 74 = .ok (.iinc 3 1, 3) := by decide +kernel
theorem dX2_spreadRoots_77 : decode cX2_spreadRoots 77 = .ok (.goto (-64), 3) := by decide +kernel
theorem dX2_spreadRoots_80 : decode cX2_spreadRoots 80 = .ok (.iinc 2 1, 3) := by decide +kernel
theorem dX2_spreadRoots_83 : decode cX2_spreadRoots 83 = .ok (.goto (-79), 3) := by decide +kernel
theorem dX2_spreadRoots_86 : decode cX2_spreadRoots 86 = .ok (.iload_n 1, 1) := by decide +kernel
theorem dX2_spreadRoots_87 : decode cX2_spreadRoots 87 = .ok (.ireturn, 1) := by decide +kernel
theorem dX2_near_0 : decode cX2_near 0 = .ok (.iload_n 1, 1) := by decide +kernel
theorem dX2_near_1 : decode cX2_near 1 = .ok (.bipush 14, 2) := by decide +kernel
theorem dX2_near_3 : decode cX2_near 3 = .ok (.irem, 1) := by decide +kernel
theorem dX2_near_4 : decode cX2_near 4 = .ok (.iload_n 2, 1) := by decide +kernel
theorem dX2_near_5 : decode cX2_near 5 = .ok (.iconst 3, 1) := by decide +kernel
theorem dX2_near_6 : decode cX2_near 6 = .ok (.irem, 1) := by decide +kernel
theorem dX2_near_7 : decode cX2_near 7 = .ok (.iadd, 1) := by decide +kernel
theorem dX2_near_8 : decode cX2_near 8 = .ok (.iconst 1, 1) := by decide +kernel
theorem dX2_near_9 : decode cX2_near 9 = .ok (.isub, 1) := by decide +kernel
theorem dX2_near_10 : decode cX2_near 10 = .ok (.istore_n 3, 1) := by decide +kernel
theorem dX2_near_11 : decode cX2_near 11 = .ok (.iload_n 1, 1) := by decide +kernel
theorem dX2_near_12 : decode cX2_near 12 = .ok (.bipush 14, 2) := by decide +kernel
theorem dX2_near_14 : decode cX2_near 14 = .ok (.idiv, 1) := by decide +kernel
theorem dX2_near_15 : decode cX2_near 15 = .ok (.iload_n 2, 1) := by decide +kernel
theorem dX2_near_16 : decode cX2_near 16 = .ok (.iconst 3, 1) := by decide +kernel
theorem dX2_near_17 : decode cX2_near 17 = .ok (.idiv, 1) := by decide +kernel
theorem dX2_near_18 : decode cX2_near 18 = .ok (.iadd, 1) := by decide +kernel
theorem dX2_near_19 : decode cX2_near 19 = .ok (.iconst 1, 1) := by decide +kernel
theorem dX2_near_20 : decode cX2_near 20 = .ok (.isub, 1) := by decide +kernel
theorem dX2_near_21 : decode cX2_near 21 = .ok (.istore 4, 2) := by decide +kernel
theorem dX2_near_23 : decode cX2_near 23 = .ok (.iload_n 3, 1) := by decide +kernel
theorem dX2_near_24 : decode cX2_near 24 = .ok (.ifCond .lt 21, 3) := by decide +kernel
theorem dX2_near_27 : decode cX2_near 27 = .ok (.iload_n 3, 1) := by decide +kernel
theorem dX2_near_28 : decode cX2_near 28 = .ok (.bipush 13, 2) := by decide +kernel
theorem dX2_near_30 : decode cX2_near 30 = .ok (.if_icmp .gt 15, 3) := by decide +kernel
theorem dX2_near_33 : decode cX2_near 33 = .ok (.iload 4, 2) := by decide +kernel
theorem dX2_near_35 : decode cX2_near 35 = .ok (.ifCond .lt 10, 3) := by decide +kernel
theorem dX2_near_38 : decode cX2_near 38 = .ok (.iload 4, 2) := by decide +kernel
theorem dX2_near_40 : decode cX2_near 40 = .ok (.bipush 13, 2) := by decide +kernel
theorem dX2_near_42 : decode cX2_near 42 = .ok (.if_icmp .le 7, 3) := by decide +kernel
theorem dX2_near_45 : decode cX2_near 45 = .ok (.iconst (-1), 1) := by decide +kernel
theorem dX2_near_46 : decode cX2_near 46 = .ok (.goto 10, 3) := by decide +kernel
theorem dX2_near_49 : decode cX2_near 49 = .ok (.bipush 14, 2) := by decide +kernel
theorem dX2_near_51 : decode cX2_near 51 = .ok (.iload 4, 2) := by decide +kernel
theorem dX2_near_53 : decode cX2_near 53 = .ok (.imul, 1) := by decide +kernel
theorem dX2_near_54 : decode cX2_near 54 = .ok (.iload_n 3, 1) := by decide +kernel
theorem dX2_near_55 : decode cX2_near 55 = .ok (.iadd, 1) := by decide +kernel
theorem dX2_near_56 : decode cX2_near 56 = .ok (.ireturn, 1) := by decide +kernel
theorem dX2_step_0 : decode cX2_step 0 = .ok (.aload_n 0, 1) := by decide +kernel
theorem dX2_step_1 : decode cX2_step 1 = .ok (.getfield 7, 3) := by decide +kernel
theorem dX2_step_4 : decode cX2_step 4 = .ok (.iload_n 1, 1) := by decide +kernel
theorem dX2_step_5 : decode cX2_step 5 = .ok (.baload, 1) := by decide +kernel
theorem dX2_step_6 : decode cX2_step 6 = .ok (.aload_n 0, 1) := by decide +kernel
theorem dX2_step_7 : decode cX2_step 7 = .ok (.getfield 7, 3) := by decide +kernel
theorem dX2_step_10 : decode cX2_step 10 = .ok (.iload_n 2, 1) := by decide +kernel
theorem dX2_step_11 : decode cX2_step 11 = .ok (.baload, 1) := by decide +kernel
theorem dX2_step_12 : decode cX2_step 12 = .ok (.if_icmp .ne 24, 3) := by decide +kernel
theorem dX2_step_15 : decode cX2_step 15 = .ok (.aload_n 0, 1) := by decide +kernel
theorem dX2_step_16 : decode cX2_step 16 = .ok (.getfield 7, 3) := by decide +kernel
theorem dX2_step_19 : decode cX2_step 19 = .ok (.iload_n 1, 1) := by decide +kernel
theorem dX2_step_20 : decode cX2_step 20 = .ok (.baload, 1) := by decide +kernel
theorem dX2_step_21 : decode cX2_step 21 = .ok (.ifCond .ne 11, 3) := by decide +kernel
theorem dX2_step_24 : decode cX2_step 24 = .ok (.aload_n 0, 1) := by decide +kernel
theorem dX2_step_25 : decode cX2_step 25 = .ok (.iload_n 3, 1) := by decide +kernel
theorem dX2_step_26 : decode cX2_step 26 = .ok (.invokevirtual 38, 3) := by decide +kernel
theorem dX2_step_29 : decode cX2_step 29 = .ok (.ifCond .eq 7, 3) := by decide +kernel
theorem dX2_step_32 : decode cX2_step 32 = .ok (.iconst 1, 1) := by decide +kernel
theorem dX2_step_33 : decode cX2_step 33 = .ok (.goto 4, 3) := by decide +kernel
theorem dX2_step_36 : decode cX2_step 36 = .ok (.iconst 0, 1) := by decide +kernel
theorem dX2_step_37 : decode cX2_step 37 = .ok (.ireturn, 1) := by decide +kernel
theorem dX2_besideWay_0 : decode cX2_besideWay 0 = .ok (.iload_n 1, 1) := by decide +kernel
theorem dX2_besideWay_1 : decode cX2_besideWay 1 = .ok (.iconst 2, 1) := by decide +kernel
theorem dX2_besideWay_2 : decode cX2_besideWay 2 = .ok (.irem, 1) := by decide +kernel
theorem dX2_besideWay_3 : decode cX2_besideWay 3 = .ok (.iconst 1, 1) := by decide +kernel
theorem dX2_besideWay_4 : decode cX2_besideWay 4 = .ok (.if_icmp .ne 7, 3) := by decide +kernel
theorem dX2_besideWay_7 : decode cX2_besideWay 7 = .ok (.iconst 1, 1) := by decide +kernel
theorem dX2_besideWay_8 : decode cX2_besideWay 8 = .ok (.goto 4, 3) := by decide +kernel
theorem dX2_besideWay_11 : decode cX2_besideWay 11 = .ok (.iconst 0, 1) := by decide +kernel
theorem dX2_besideWay_12 : decode cX2_besideWay 12 = .ok (.ireturn, 1) := by decide +kernel
theorem dX2_count_0 : decode cX2_count 0 = .ok (.iconst 0, 1) := by decide +kernel
theorem dX2_count_1 : decode cX2_count 1 = .ok (.istore_n 3, 1) := by decide +kernel
theorem dX2_count_2 : decode cX2_count 2 = .ok (.iconst 0, 1) := by decide +kernel
theorem dX2_count_3 : decode cX2_count 3 = .ok (.istore 4, 2) := by decide +kernel
theorem dX2_count_5 : decode cX2_count 5 = .ok (.iload 4, 2) := by decide +kernel
theorem dX2_count_7 : decode cX2_count 7 = .ok (.iload_n 2, 1) := by decide +kernel
theorem dX2_count_8 : decode cX2_count 8 = .ok (.if_icmp .ge 22, 3) := by decide +kernel
theorem dX2_count_11 : decode cX2_count 11 = .ok (.aload_n 0, 1) := by decide +kernel
theorem dX2_count_12 : decode cX2_count 12 = .ok (.iload 4, 2) := by decide +kernel
theorem dX2_count_14 : decode cX2_count 14 = .ok (.iload_n 1, 1) := by decide +kernel
theorem dX2_count_15 : decode cX2_count 15 = .ok (.invokevirtual 56, 3) := by decide +kernel
theorem dX2_count_18 : decode cX2_count 18 = .ok (.ifCond .eq 6, 3) := by decide +kernel
theorem dX2_count_21 : decode cX2_count 21 = .ok (.iinc 3 1, 3) := by decide +kernel
theorem dX2_count_24 : decode cX2_count 24 = .ok (.iinc 4 1, 3) := by decide +kernel
theorem dX2_count_27 : decode cX2_count 27 = .ok (.goto (-22), 3) := by decide +kernel
theorem dX2_count_30 : decode cX2_count 30 = .ok (.iload_n 3, 1) := by decide +kernel
theorem dX2_count_31 : decode cX2_count 31 = .ok (.ireturn, 1) := by decide +kernel
theorem dX2_isFirst_0 : decode cX2_isFirst 0 = .ok (.aload_n 0, 1) := by decide +kernel
theorem dX2_isFirst_1 : decode cX2_isFirst 1 = .ok (.getfield 7, 3) := by decide +kernel
theorem dX2_isFirst_4 : decode cX2_isFirst 4 = .ok (.iload_n 1, 1) := by decide +kernel
theorem dX2_isFirst_5 : decode cX2_isFirst 5 = .ok (.baload, 1) := by decide +kernel
theorem dX2_isFirst_6 : decode cX2_isFirst 6 = .ok (.iload_n 2, 1) := by decide +kernel
theorem dX2_isFirst_7 : decode cX2_isFirst 7 = .ok (.if_icmp .ne 17, 3) := by decide +kernel
theorem dX2_isFirst_10 : decode cX2_isFirst 10 = .ok (.aload_n 0, 1) := by decide +kernel
theorem dX2_isFirst_11 : decode cX2_isFirst 11 = .ok (.getfield 13, 3) := by decide +kernel
theorem dX2_isFirst_14 : decode cX2_isFirst 14 = .ok (.iload_n 1, 1) := by decide +kernel
theorem dX2_isFirst_15 : decode cX2_isFirst 15 = .ok (.iaload, 1) := by decide +kernel
theorem dX2_isFirst_16 : decode cX2_isFirst 16 = .ok (.iload_n 1, 1) := by decide +kernel
theorem dX2_isFirst_17 : decode cX2_isFirst 17 = .ok (.if_icmp .ne 7, 3) := by decide +kernel
theorem dX2_isFirst_20 : decode cX2_isFirst 20 = .ok (.iconst 1, 1) := by decide +kernel
theorem dX2_isFirst_21 : decode cX2_isFirst 21 = .ok (.goto 4, 3) := by decide +kernel
theorem dX2_isFirst_24 : decode cX2_isFirst 24 = .ok (.iconst 0, 1) := by decide +kernel
theorem dX2_isFirst_25 : decode cX2_isFirst 25 = .ok (.ireturn, 1) := by decide +kernel
theorem dX2_euler_0 : decode cX2_euler 0 = .ok (.aload_n 0, 1) := by decide +kernel
theorem dX2_euler_1 : decode cX2_euler 1 = .ok (.invokevirtual 60, 3) := by decide +kernel
theorem dX2_euler_4 : decode cX2_euler 4 = .ok (.aload_n 0, 1) := by decide +kernel
theorem dX2_euler_5 : decode cX2_euler 5 = .ok (.iconst 1, 1) := by decide +kernel
theorem dX2_euler_6 : decode cX2_euler 6 = .ok (.sipush 196, 3) := by decide +kernel
theorem dX2_euler_9 : decode cX2_euler 9 = .ok (.invokevirtual 63, 3) := by decide +kernel
theorem dX2_euler_12 : decode cX2_euler 12 = .ok (.aload_n 0, 1) := by decide +kernel
theorem dX2_euler_13 : decode cX2_euler 13 = .ok (.iconst 0, 1) := by decide +kernel
theorem dX2_euler_14 : decode cX2_euler 14 = .ok (.sipush 196, 3) := by decide +kernel
theorem dX2_euler_17 : decode cX2_euler 17 = .ok (.invokevirtual 63, 3) := by decide +kernel
theorem dX2_euler_20 : decode cX2_euler 20 = .ok (.iconst 1, 1) := by decide +kernel
theorem dX2_euler_21 : decode cX2_euler 21 = .ok (.isub, 1) := by decide +kernel
theorem dX2_euler_22 : decode cX2_euler 22 = .ok (.isub, 1) := by decide +kernel
theorem dX2_euler_23 : decode cX2_euler 23 = .ok (.ireturn, 1) := by decide +kernel
theorem dX2_label_0 : decode cX2_label 0 = .ok (.aload_n 0, 1) := by decide +kernel
theorem dX2_label_1 : decode cX2_label 1 = .ok (.iload_n 1, 1) := by decide +kernel
theorem dX2_label_2 : decode cX2_label 2 = .ok (.iload_n 2, 1) := by decide +kernel
theorem dX2_label_3 : decode cX2_label 3 = .ok (.invokevirtual 30, 3) := by decide +kernel
theorem dX2_label_6 : decode cX2_label 6 = .ok (.ifCond .ne 5, 3) := by decide +kernel
theorem dX2_label_9 : decode cX2_label 9 = .ok (.iconst (-1), 1) := by decide +kernel
theorem dX2_label_10 : decode cX2_label 10 = .ok (.ireturn, 1) := by decide +kernel
theorem dX2_label_11 : decode cX2_label 11 = .ok (.aload_n 0, 1) := by decide +kernel
theorem dX2_label_12 : decode cX2_label 12 = .ok (.iload_n 1, 1) := by decide +kernel
theorem dX2_label_13 : decode cX2_label 13 = .ok (.iload_n 2, 1) := by decide +kernel
theorem dX2_label_14 : decode cX2_label 14 = .ok (.invokevirtual 34, 3) := by decide +kernel
theorem dX2_label_17 : decode cX2_label 17 = .ok (.istore_n 3, 1) := by decide +kernel
theorem dX2_label_18 : decode cX2_label 18 = .ok (.aload_n 0, 1) := by decide +kernel
theorem dX2_label_19 : decode cX2_label 19 = .ok (.getfield 7, 3) := by decide +kernel
theorem dX2_label_22 : decode cX2_label 22 = .ok (.iload_n 3, 1) := by decide +kernel
theorem dX2_label_23 : decode cX2_label 23 = .ok (.baload, 1) := by decide +kernel
theorem dX2_label_24 : decode cX2_label 24 = .ok (.ifCond .ne 6, 3) := by decide +kernel
theorem dX2_label_27 : decode cX2_label 27 = .ok (.bipush (-2), 2) := by decide +kernel
theorem dX2_label_29 : decode cX2_label 29 = .ok (.ireturn, 1) := by decide +kernel
theorem dX2_label_30 : decode cX2_label 30 = .ok (.aload_n 0, 1) := by decide +kernel
theorem dX2_label_31 : decode cX2_label 31 = .ok (.invokevirtual 60, 3) := by decide +kernel
theorem dX2_label_34 : decode cX2_label 34 = .ok (.aload_n 0, 1) := by decide +kernel
theorem dX2_label_35 : decode cX2_label 35 = .ok (.iconst 1, 1) := by decide +kernel
theorem dX2_label_36 : decode cX2_label 36 = .ok (.aload_n 0, 1) := by decide +kernel
theorem dX2_label_37 : decode cX2_label 37 = .ok (.getfield 13, 3) := by decide +kernel
theorem dX2_label_40 : decode cX2_label 40 = .ok (.iload_n 3, 1) := by decide +kernel
theorem dX2_label_41 : decode cX2_label 41 = .ok (.iaload, 1) := by decide +kernel
theorem dX2_label_42 : decode cX2_label 42 = .ok (.invokevirtual 63, 3) := by decide +kernel
theorem dX2_label_45 : decode cX2_label 45 = .ok (.ireturn, 1) := by decide +kernel
theorem dX2_area_0 : decode cX2_area 0 = .ok (.aload_n 0, 1) := by decide +kernel
theorem dX2_area_1 : decode cX2_area 1 = .ok (.iload_n 1, 1) := by decide +kernel
theorem dX2_area_2 : decode cX2_area 2 = .ok (.invokevirtual 67, 3) := by decide +kernel
theorem dX2_area_5 : decode cX2_area 5 = .ok (.istore_n 2, 1) := by decide +kernel
theorem dX2_area_6 : decode cX2_area 6 = .ok (.iload_n 2, 1) := by decide +kernel
theorem dX2_area_7 : decode cX2_area 7 = .ok (.ifCond .ge 5, 3) := by decide +kernel
theorem dX2_area_10 : decode cX2_area 10 = .ok (.iconst (-1), 1) := by decide +kernel
theorem dX2_area_11 : decode cX2_area 11 = .ok (.ireturn, 1) := by decide +kernel
theorem dX2_area_12 : decode cX2_area 12 = .ok (.iconst 0, 1) := by decide +kernel
theorem dX2_area_13 : decode cX2_area 13 = .ok (.istore_n 3, 1) := by decide +kernel
