section
/-- a private method of a class that the tables say can be made, by its rows of tables_1 -/
def lw_okq (q : MethodName × Nat) : Prop := (q.1.cls ≠ "java/lang/invoke/MethodHandle" ∧ q.1.cls ≠ "java/lang/invoke/VarHandle") ∧ Cond.instantiable q.1.cls q.2 ∈ tables_1 ∧ Cond.privateMethod q.1 ∈ tables_1 ∧ Cond.instanceMethod q.1 ∈ tables_1
set_option maxRecDepth 100000
theorem lw_t1 {w : Cond} (h : w ∈ tables_1_1) : w ∈ tables_1 := List.mem_append_left _ h
theorem lw_t2 {w : Cond} (h : w ∈ tables_1_2) : w ∈ tables_1 := List.mem_append_right _ h
theorem lw_p0 : lw_okq (⟨"CompLabel", "inPicture", "(II)Z"⟩, 19) := ⟨⟨by decide +kernel, by decide +kernel⟩, lw_t1 (List.mem_of_getElem? (i := 4) rfl), lw_t1 (List.mem_of_getElem? (i := 78) rfl), lw_t1 (List.mem_of_getElem? (i := 79) rfl)⟩
theorem lw_p1 : lw_okq (⟨"CompLabel", "labelAll", "()V"⟩, 19) := ⟨⟨by decide +kernel, by decide +kernel⟩, lw_t1 (List.mem_of_getElem? (i := 4) rfl), lw_t1 (List.mem_of_getElem? (i := 94) rfl), lw_t1 (List.mem_of_getElem? (i := 95) rfl)⟩
theorem lw_p2 : lw_okq (⟨"CompLabel", "cutRow", "(I)V"⟩, 19) := ⟨⟨by decide +kernel, by decide +kernel⟩, lw_t1 (List.mem_of_getElem? (i := 4) rfl), lw_t1 (List.mem_of_getElem? (i := 98) rfl), lw_t1 (List.mem_of_getElem? (i := 99) rfl)⟩
theorem lw_p3 : lw_okq (⟨"CompLabel", "openBorders", "(I)V"⟩, 19) := ⟨⟨by decide +kernel, by decide +kernel⟩, lw_t1 (List.mem_of_getElem? (i := 4) rfl), lw_t1 (List.mem_of_getElem? (i := 102) rfl), lw_t1 (List.mem_of_getElem? (i := 103) rfl)⟩
theorem lw_p4 : lw_okq (⟨"CompLabel", "unite", "(II)V"⟩, 19) := ⟨⟨by decide +kernel, by decide +kernel⟩, lw_t1 (List.mem_of_getElem? (i := 4) rfl), lw_t1 (List.mem_of_getElem? (i := 106) rfl), lw_t1 (List.mem_of_getElem? (i := 107) rfl)⟩
theorem lw_p5 : lw_okq (⟨"CompLabel", "first", "(I)I"⟩, 19) := ⟨⟨by decide +kernel, by decide +kernel⟩, lw_t1 (List.mem_of_getElem? (i := 4) rfl), lw_t1 (List.mem_of_getElem? (i := 110) rfl), lw_t1 (List.mem_of_getElem? (i := 111) rfl)⟩
theorem lw_p6 : lw_okq (⟨"CompLabel", "touchAbove", "(I)V"⟩, 19) := ⟨⟨by decide +kernel, by decide +kernel⟩, lw_t1 (List.mem_of_getElem? (i := 4) rfl), lw_t1 (List.mem_of_getElem? (i := 114) rfl), lw_t1 (List.mem_of_getElem? (i := 115) rfl)⟩
theorem lw_p7 : lw_okq (⟨"CompLabel", "cornerAbove", "(III)V"⟩, 19) := ⟨⟨by decide +kernel, by decide +kernel⟩, lw_t1 (List.mem_of_getElem? (i := 4) rfl), lw_t1 (List.mem_of_getElem? (i := 118) rfl), lw_t1 (List.mem_of_getElem? (i := 119) rfl)⟩
theorem lw_p8 : lw_okq (⟨"CompLabel", "settleRuns", "()V"⟩, 19) := ⟨⟨by decide +kernel, by decide +kernel⟩, lw_t1 (List.mem_of_getElem? (i := 4) rfl), lw_t1 (List.mem_of_getElem? (i := 122) rfl), lw_t1 (List.mem_of_getElem? (i := 123) rfl)⟩
theorem lw_p9 : lw_okq (⟨"CompLabel", "sumUp", "()V"⟩, 19) := ⟨⟨by decide +kernel, by decide +kernel⟩, lw_t1 (List.mem_of_getElem? (i := 4) rfl), lw_t1 (List.mem_of_getElem? (i := 126) rfl), lw_t1 (List.mem_of_getElem? (i := 127) rfl)⟩
theorem lw_p10 : lw_okq (⟨"CompLabel", "runAt", "(II)I"⟩, 19) := ⟨⟨by decide +kernel, by decide +kernel⟩, lw_t1 (List.mem_of_getElem? (i := 4) rfl), lw_t1 (List.mem_of_getElem? (i := 138) rfl), lw_t1 (List.mem_of_getElem? (i := 139) rfl)⟩
theorem lw_p11 : lw_okq (⟨"CompLabelModel", "inside", "(II)Z"⟩, 6) := ⟨⟨by decide +kernel, by decide +kernel⟩, lw_t1 (List.mem_of_getElem? (i := 165) rfl), lw_t1 (List.mem_of_getElem? (i := 194) rfl), lw_t1 (List.mem_of_getElem? (i := 195) rfl)⟩
theorem lw_p12 : lw_okq (⟨"CompLabelModel", "place", "(II)I"⟩, 6) := ⟨⟨by decide +kernel, by decide +kernel⟩, lw_t1 (List.mem_of_getElem? (i := 165) rfl), lw_t1 (List.mem_of_getElem? (i := 198) rfl), lw_t1 (List.mem_of_getElem? (i := 199) rfl)⟩
theorem lw_p13 : lw_okq (⟨"CompLabelModel", "findRoots", "()V"⟩, 6) := ⟨⟨by decide +kernel, by decide +kernel⟩, lw_t1 (List.mem_of_getElem? (i := 165) rfl), lw_t1 (List.mem_of_getElem? (i := 214) rfl), lw_t1 (List.mem_of_getElem? (i := 215) rfl)⟩
theorem lw_p14 : lw_okq (⟨"CompLabelModel", "spreadRoots", "()Z"⟩, 6) := ⟨⟨by decide +kernel, by decide +kernel⟩, lw_t1 (List.mem_of_getElem? (i := 165) rfl), lw_t1 (List.mem_of_getElem? (i := 218) rfl), lw_t1 (List.mem_of_getElem? (i := 219) rfl)⟩
theorem lw_p15 : lw_okq (⟨"CompLabelModel", "near", "(II)I"⟩, 6) := ⟨⟨by decide +kernel, by decide +kernel⟩, lw_t1 (List.mem_of_getElem? (i := 165) rfl), lw_t1 (List.mem_of_getElem? (i := 222) rfl), lw_t1 (List.mem_of_getElem? (i := 223) rfl)⟩
def lw_privs_1 : List (MethodName × Nat) := [(⟨"CompLabel", "inPicture", "(II)Z"⟩, 19), (⟨"CompLabel", "labelAll", "()V"⟩, 19), (⟨"CompLabel", "cutRow", "(I)V"⟩, 19), (⟨"CompLabel", "openBorders", "(I)V"⟩, 19), (⟨"CompLabel", "unite", "(II)V"⟩, 19), (⟨"CompLabel", "first", "(I)I"⟩, 19), (⟨"CompLabel", "touchAbove", "(I)V"⟩, 19), (⟨"CompLabel", "cornerAbove", "(III)V"⟩, 19), (⟨"CompLabel", "settleRuns", "()V"⟩, 19), (⟨"CompLabel", "sumUp", "()V"⟩, 19), (⟨"CompLabel", "runAt", "(II)I"⟩, 19), (⟨"CompLabelModel", "inside", "(II)Z"⟩, 6), (⟨"CompLabelModel", "place", "(II)I"⟩, 6), (⟨"CompLabelModel", "findRoots", "()V"⟩, 6), (⟨"CompLabelModel", "spreadRoots", "()Z"⟩, 6), (⟨"CompLabelModel", "near", "(II)I"⟩, 6)]
theorem lw_r1 : ∀ q ∈ lw_privs_1, lw_okq q := List.forall_mem_cons.mpr ⟨lw_p0, List.forall_mem_cons.mpr ⟨lw_p1, List.forall_mem_cons.mpr ⟨lw_p2, List.forall_mem_cons.mpr ⟨lw_p3, List.forall_mem_cons.mpr ⟨lw_p4, List.forall_mem_cons.mpr ⟨lw_p5, List.forall_mem_cons.mpr ⟨lw_p6, List.forall_mem_cons.mpr ⟨lw_p7, List.forall_mem_cons.mpr ⟨lw_p8, List.forall_mem_cons.mpr ⟨lw_p9, List.forall_mem_cons.mpr ⟨lw_p10, List.forall_mem_cons.mpr ⟨lw_p11, List.forall_mem_cons.mpr ⟨lw_p12, List.forall_mem_cons.mpr ⟨lw_p13, List.forall_mem_cons.mpr ⟨lw_p14, List.forall_mem_cons.mpr ⟨lw_p15, fun _ h => absurd h List.not_mem_nil⟩⟩⟩⟩⟩⟩⟩⟩⟩⟩⟩⟩⟩⟩⟩⟩
theorem lw_p16 : lw_okq (⟨"CompLabelModel", "step", "(III)Z"⟩, 6) := ⟨⟨by decide +kernel, by decide +kernel⟩, lw_t1 (List.mem_of_getElem? (i := 165) rfl), lw_t1 (List.mem_of_getElem? (i := 226) rfl), lw_t1 (List.mem_of_getElem? (i := 227) rfl)⟩
theorem lw_p17 : lw_okq (⟨"CompLabelModel", "besideWay", "(I)Z"⟩, 6) := ⟨⟨by decide +kernel, by decide +kernel⟩, lw_t1 (List.mem_of_getElem? (i := 165) rfl), lw_t1 (List.mem_of_getElem? (i := 230) rfl), lw_t1 (List.mem_of_getElem? (i := 231) rfl)⟩
theorem lw_p18 : lw_okq (⟨"CompLabelModel", "count", "(ZI)I"⟩, 6) := ⟨⟨by decide +kernel, by decide +kernel⟩, lw_t1 (List.mem_of_getElem? (i := 165) rfl), lw_t1 (List.mem_of_getElem? (i := 234) rfl), lw_t1 (List.mem_of_getElem? (i := 235) rfl)⟩
theorem lw_p19 : lw_okq (⟨"CompLabelModel", "isFirst", "(IZ)Z"⟩, 6) := ⟨⟨by decide +kernel, by decide +kernel⟩, lw_t1 (List.mem_of_getElem? (i := 165) rfl), lw_t1 (List.mem_of_getElem? (i := 238) rfl), lw_t1 (List.mem_of_getElem? (i := 239) rfl)⟩
theorem lw_p20 : lw_okq (⟨"CompLabelModel", "firstOf", "(I)I"⟩, 6) := ⟨⟨by decide +kernel, by decide +kernel⟩, lw_t1 (List.mem_of_getElem? (i := 165) rfl), lw_t2 (List.mem_of_getElem? (i := 14) rfl), lw_t2 (List.mem_of_getElem? (i := 15) rfl)⟩
theorem lw_p21 : lw_okq (⟨"CompLabelModel", "findChanges", "()V"⟩, 6) := ⟨⟨by decide +kernel, by decide +kernel⟩, lw_t1 (List.mem_of_getElem? (i := 165) rfl), lw_t2 (List.mem_of_getElem? (i := 22) rfl), lw_t2 (List.mem_of_getElem? (i := 23) rfl)⟩
theorem lw_p22 : lw_okq (⟨"CompLabelModel", "spreadChanges", "()Z"⟩, 6) := ⟨⟨by decide +kernel, by decide +kernel⟩, lw_t1 (List.mem_of_getElem? (i := 165) rfl), lw_t2 (List.mem_of_getElem? (i := 26) rfl), lw_t2 (List.mem_of_getElem? (i := 27) rfl)⟩
theorem lw_p23 : lw_okq (⟨"CompLabelModel", "isHole", "(II)Z"⟩, 6) := ⟨⟨by decide +kernel, by decide +kernel⟩, lw_t1 (List.mem_of_getElem? (i := 165) rfl), lw_t2 (List.mem_of_getElem? (i := 30) rfl), lw_t2 (List.mem_of_getElem? (i := 31) rfl)⟩
theorem lw_p24 : lw_okq (⟨"CompLabelModel", "findReached", "(I)V"⟩, 6) := ⟨⟨by decide +kernel, by decide +kernel⟩, lw_t1 (List.mem_of_getElem? (i := 165) rfl), lw_t2 (List.mem_of_getElem? (i := 38) rfl), lw_t2 (List.mem_of_getElem? (i := 39) rfl)⟩
theorem lw_p25 : lw_okq (⟨"CompLabelModel", "spreadReached", "(I)Z"⟩, 6) := ⟨⟨by decide +kernel, by decide +kernel⟩, lw_t1 (List.mem_of_getElem? (i := 165) rfl), lw_t2 (List.mem_of_getElem? (i := 42) rfl), lw_t2 (List.mem_of_getElem? (i := 43) rfl)⟩
def lw_privs_2 : List (MethodName × Nat) := [(⟨"CompLabelModel", "step", "(III)Z"⟩, 6), (⟨"CompLabelModel", "besideWay", "(I)Z"⟩, 6), (⟨"CompLabelModel", "count", "(ZI)I"⟩, 6), (⟨"CompLabelModel", "isFirst", "(IZ)Z"⟩, 6), (⟨"CompLabelModel", "firstOf", "(I)I"⟩, 6), (⟨"CompLabelModel", "findChanges", "()V"⟩, 6), (⟨"CompLabelModel", "spreadChanges", "()Z"⟩, 6), (⟨"CompLabelModel", "isHole", "(II)Z"⟩, 6), (⟨"CompLabelModel", "findReached", "(I)V"⟩, 6), (⟨"CompLabelModel", "spreadReached", "(I)Z"⟩, 6)]
theorem lw_r2 : ∀ q ∈ lw_privs_2, lw_okq q := List.forall_mem_cons.mpr ⟨lw_p16, List.forall_mem_cons.mpr ⟨lw_p17, List.forall_mem_cons.mpr ⟨lw_p18, List.forall_mem_cons.mpr ⟨lw_p19, List.forall_mem_cons.mpr ⟨lw_p20, List.forall_mem_cons.mpr ⟨lw_p21, List.forall_mem_cons.mpr ⟨lw_p22, List.forall_mem_cons.mpr ⟨lw_p23, List.forall_mem_cons.mpr ⟨lw_p24, List.forall_mem_cons.mpr ⟨lw_p25, fun _ h => absurd h List.not_mem_nil⟩⟩⟩⟩⟩⟩⟩⟩⟩⟩
def lw_privs : List (MethodName × Nat) := lw_privs_1 ++ (lw_privs_2)
def lw_tbl : List Cond := k2_sels lw_privs ++ tables_1
theorem lw_privs_ok : ∀ q ∈ lw_privs, lw_okq q := by
  show ∀ q ∈ lw_privs_1 ++ (lw_privs_2), lw_okq q
  exact List.forall_mem_append.mpr ⟨lw_r1, lw_r2⟩
-- ===== ONE list of words for every method: the tables' words that hold all through a run =====
def lw_all : List Cond := lw_tbl.filter goodWord
/-- a word of the tables by its place: claim/WORDS.tsv -/
theorem lw_w {w : Cond} (i : Nat) (h : lw_tbl[i]? = some w) (g : goodWord w = true) : w ∈ lw_all := List.mem_filter.mpr ⟨List.mem_of_getElem? h, g⟩
theorem lw_all_tbl {w : Cond} (h : w ∈ lw_all) : w ∈ lw_tbl := (List.mem_filter.mp h).1
theorem lw_self : GoodIn lw_all lw_all := fun w h => ⟨h, good_of_word (List.mem_filter.mp h).2⟩
/-- a class's field words, by their places -/
theorem lw_in (ws : List Cond) (ps : List Nat) (hp : ws = ps.filterMap (fun i => lw_tbl[i]?)) (hg : ws.all goodWord = true) : ∀ w ∈ ws, w ∈ lw_all := by
  intro w h
  have h1 := List.all_eq_true.mp hg w h
  rw [hp] at h
  obtain ⟨i, -, hi⟩ := List.mem_filterMap.mp h
  exact lw_w i hi h1
/-- the words of a contract for the method y with code b, L locals, answer r -/
abbrev ws_ (y : MethodName) (b : ByteArray) (L : Nat) (r : Option FieldType) : List Cond := Cond.code y b L r :: lw_all
theorem lw_meth {y : MethodName} {b : ByteArray} {L : Nat} {r : Option FieldType} (h : Cond.code y b L r ∈ lw_all) : GoodIn lw_all (ws_ y b L r) := by
  intro w hw
  rcases List.mem_cons.mp hw with e | e
  · rw [e]
    exact lw_self _ h
  · exact lw_self _ e
theorem lw_app {a c : List Cond} (ha : ∀ w ∈ a, w ∈ lw_all) (hc : GoodIn lw_all c) : GoodIn lw_all (a ++ c) := by
  intro w hw
  rcases List.mem_append.mp hw with e | e
  · exact lw_self w (ha w e)
  · exact hc w e
/-- what a call through an object asks: cwV n hts (lw_V ..) -/
theorem lw_V {own : String} {idx : Nat} {C : String} {y : MethodName} {b : ByteArray} {L : Nat} {r : Option FieldType} (h1 : Cond.methodLink own idx y ∈ lw_all) (h2 : Cond.instanceMethod y ∈ lw_all) (h3 : Cond.selects C y y ∈ lw_all) (h4 : Cond.initialized C ∈ lw_all) (h5 : Cond.code y b L r ∈ lw_all) : GoodIn lw_all (wsV own idx C y (ws_ y b L r)) := by
  refine lw_app ?_ (lw_meth h5)
  intro w hw
  simp only [List.mem_cons, List.not_mem_nil, or_false] at hw
  rcases hw with e | e | e | e
  · rw [e]; exact h1
  · rw [e]; exact h2
  · rw [e]; exact h3
  · rw [e]; exact h4
/-- what a static call asks: va_cwS n hts (lw_S ..) -/
theorem lw_S {own : String} {idx : Nat} {y : MethodName} {b : ByteArray} {L : Nat} {r : Option FieldType} (h1 : Cond.methodLink own idx y ∈ lw_all) (h2 : Cond.static y ∈ lw_all) (h3 : Cond.initialized y.cls ∈ lw_all) (h4 : Cond.code y b L r ∈ lw_all) : GoodIn lw_all (va_wsS own idx y (ws_ y b L r)) := by
  refine lw_app ?_ (lw_meth h4)
  intro w hw
  simp only [List.mem_cons, List.not_mem_nil, or_false] at hw
  rcases hw with e | e | e
  · rw [e]; exact h1
  · rw [e]; exact h2
  · rw [e]; exact h3
/-- the words of a contract for a method WITH HANDLERS (hh: its table) -/
abbrev wsW_ (y : MethodName) (b : ByteArray) (L : Nat) (r : Option FieldType) (hh : List (Nat × Nat × Nat × Nat)) : List Cond := Cond.codeWith y b L r hh :: lw_all
theorem lw_methW {y : MethodName} {b : ByteArray} {L : Nat} {r : Option FieldType} {hh : List (Nat × Nat × Nat × Nat)} (h : Cond.codeWith y b L r hh ∈ lw_all) : GoodIn lw_all (wsW_ y b L r hh) := by
  intro w hw
  rcases List.mem_cons.mp hw with e | e
  · rw [e]
    exact lw_self _ h
  · exact lw_self _ e
/-- any list of words by their places (lw_in), good -/
theorem lw_good {ws : List Cond} (h : ∀ w ∈ ws, w ∈ lw_all) : GoodIn lw_all ws := fun w hw => lw_self w (h w hw)
/-- what a call of a method with handlers asks: vx_cwVW n hts (lw_VW ..), vx_cwSW n hts (lw_SW ..) -/
theorem lw_VW {own : String} {idx : Nat} {C : String} {y : MethodName} {b : ByteArray} {L : Nat} {r : Option FieldType} {hh : List (Nat × Nat × Nat × Nat)} (h1 : Cond.methodLink own idx y ∈ lw_all) (h2 : Cond.instanceMethod y ∈ lw_all) (h3 : Cond.selects C y y ∈ lw_all) (h4 : Cond.initialized C ∈ lw_all) (h5 : Cond.codeWith y b L r hh ∈ lw_all) : GoodIn lw_all (wsV own idx C y (wsW_ y b L r hh)) := by
  refine lw_app ?_ (lw_methW h5)
  intro w hw
  simp only [List.mem_cons, List.not_mem_nil, or_false] at hw
  rcases hw with e | e | e | e
  · rw [e]; exact h1
  · rw [e]; exact h2
  · rw [e]; exact h3
  · rw [e]; exact h4
theorem lw_SW {own : String} {idx : Nat} {y : MethodName} {b : ByteArray} {L : Nat} {r : Option FieldType} {hh : List (Nat × Nat × Nat × Nat)} (h1 : Cond.methodLink own idx y ∈ lw_all) (h2 : Cond.static y ∈ lw_all) (h3 : Cond.initialized y.cls ∈ lw_all) (h4 : Cond.codeWith y b L r hh ∈ lw_all) : GoodIn lw_all (va_wsS own idx y (wsW_ y b L r hh)) := by
  refine lw_app ?_ (lw_methW h4)
  intro w hw
  simp only [List.mem_cons, List.not_mem_nil, or_false] at hw
  rcases hw with e | e | e
  · rw [e]; exact h1
  · rw [e]; exact h2
  · rw [e]; exact h3
/-- a word by its place in its run of the tables -/
theorem lw_at {r : List Cond} (hr : ∀ w ∈ r, w ∈ lw_tbl) {w : Cond} (i : Nat) (h : r[i]? = some w) : w ∈ lw_tbl := hr w (List.mem_of_getElem? h)
theorem lw_g {w : Cond} (h : w ∈ lw_tbl) (g : goodWord w = true) : w ∈ lw_all := List.mem_filter.mpr ⟨h, g⟩
theorem lw_ms : ∀ w ∈ k2_sels lw_privs, w ∈ lw_tbl := fun w h => show w ∈ k2_sels lw_privs ++ tables_1 from List.mem_append_left _ h
theorem lw_m1 : ∀ w ∈ tables_1_1, w ∈ lw_tbl := fun w h => show w ∈ k2_sels lw_privs ++ tables_1 from List.mem_append_right (k2_sels lw_privs) (show w ∈ tables_1 from List.mem_append_left _ h)
theorem lw_m2 : ∀ w ∈ tables_1_2, w ∈ lw_tbl := fun w h => show w ∈ k2_sels lw_privs ++ tables_1 from List.mem_append_right (k2_sels lw_privs) (show w ∈ tables_1 from List.mem_append_right _ h)
theorem qs0 : (Cond.selects "CompLabel" ⟨"CompLabel", "inPicture", "(II)Z"⟩ ⟨"CompLabel", "inPicture", "(II)Z"⟩) ∈ lw_all := lw_g (lw_at lw_ms 0 rfl) rfl
theorem qs1 : (Cond.selects "CompLabel" ⟨"CompLabel", "labelAll", "()V"⟩ ⟨"CompLabel", "labelAll", "()V"⟩) ∈ lw_all := lw_g (lw_at lw_ms 1 rfl) rfl
theorem qs2 : (Cond.selects "CompLabel" ⟨"CompLabel", "cutRow", "(I)V"⟩ ⟨"CompLabel", "cutRow", "(I)V"⟩) ∈ lw_all := lw_g (lw_at lw_ms 2 rfl) rfl
theorem qs3 : (Cond.selects "CompLabel" ⟨"CompLabel", "openBorders", "(I)V"⟩ ⟨"CompLabel", "openBorders", "(I)V"⟩) ∈ lw_all := lw_g (lw_at lw_ms 3 rfl) rfl
theorem qs4 : (Cond.selects "CompLabel" ⟨"CompLabel", "unite", "(II)V"⟩ ⟨"CompLabel", "unite", "(II)V"⟩) ∈ lw_all := lw_g (lw_at lw_ms 4 rfl) rfl
theorem qs5 : (Cond.selects "CompLabel" ⟨"CompLabel", "first", "(I)I"⟩ ⟨"CompLabel", "first", "(I)I"⟩) ∈ lw_all := lw_g (lw_at lw_ms 5 rfl) rfl
theorem qs6 : (Cond.selects "CompLabel" ⟨"CompLabel", "touchAbove", "(I)V"⟩ ⟨"CompLabel", "touchAbove", "(I)V"⟩) ∈ lw_all := lw_g (lw_at lw_ms 6 rfl) rfl
theorem qs7 : (Cond.selects "CompLabel" ⟨"CompLabel", "cornerAbove", "(III)V"⟩ ⟨"CompLabel", "cornerAbove", "(III)V"⟩) ∈ lw_all := lw_g (lw_at lw_ms 7 rfl) rfl
theorem qs8 : (Cond.selects "CompLabel" ⟨"CompLabel", "settleRuns", "()V"⟩ ⟨"CompLabel", "settleRuns", "()V"⟩) ∈ lw_all := lw_g (lw_at lw_ms 8 rfl) rfl
theorem qs9 : (Cond.selects "CompLabel" ⟨"CompLabel", "sumUp", "()V"⟩ ⟨"CompLabel", "sumUp", "()V"⟩) ∈ lw_all := lw_g (lw_at lw_ms 9 rfl) rfl
theorem qs10 : (Cond.selects "CompLabel" ⟨"CompLabel", "runAt", "(II)I"⟩ ⟨"CompLabel", "runAt", "(II)I"⟩) ∈ lw_all := lw_g (lw_at lw_ms 10 rfl) rfl
theorem qs11 : (Cond.selects "CompLabelModel" ⟨"CompLabelModel", "inside", "(II)Z"⟩ ⟨"CompLabelModel", "inside", "(II)Z"⟩) ∈ lw_all := lw_g (lw_at lw_ms 11 rfl) rfl
theorem qs12 : (Cond.selects "CompLabelModel" ⟨"CompLabelModel", "place", "(II)I"⟩ ⟨"CompLabelModel", "place", "(II)I"⟩) ∈ lw_all := lw_g (lw_at lw_ms 12 rfl) rfl
theorem qs13 : (Cond.selects "CompLabelModel" ⟨"CompLabelModel", "findRoots", "()V"⟩ ⟨"CompLabelModel", "findRoots", "()V"⟩) ∈ lw_all := lw_g (lw_at lw_ms 13 rfl) rfl
theorem qs14 : (Cond.selects "CompLabelModel" ⟨"CompLabelModel", "spreadRoots", "()Z"⟩ ⟨"CompLabelModel", "spreadRoots", "()Z"⟩) ∈ lw_all := lw_g (lw_at lw_ms 14 rfl) rfl
theorem qs15 : (Cond.selects "CompLabelModel" ⟨"CompLabelModel", "near", "(II)I"⟩ ⟨"CompLabelModel", "near", "(II)I"⟩) ∈ lw_all := lw_g (lw_at lw_ms 15 rfl) rfl
theorem qs16 : (Cond.selects "CompLabelModel" ⟨"CompLabelModel", "step", "(III)Z"⟩ ⟨"CompLabelModel", "step", "(III)Z"⟩) ∈ lw_all := lw_g (lw_at lw_ms 16 rfl) rfl
theorem qs17 : (Cond.selects "CompLabelModel" ⟨"CompLabelModel", "besideWay", "(I)Z"⟩ ⟨"CompLabelModel", "besideWay", "(I)Z"⟩) ∈ lw_all := lw_g (lw_at lw_ms 17 rfl) rfl
theorem qs18 : (Cond.selects "CompLabelModel" ⟨"CompLabelModel", "count", "(ZI)I"⟩ ⟨"CompLabelModel", "count", "(ZI)I"⟩) ∈ lw_all := lw_g (lw_at lw_ms 18 rfl) rfl
theorem qs19 : (Cond.selects "CompLabelModel" ⟨"CompLabelModel", "isFirst", "(IZ)Z"⟩ ⟨"CompLabelModel", "isFirst", "(IZ)Z"⟩) ∈ lw_all := lw_g (lw_at lw_ms 19 rfl) rfl
theorem qs20 : (Cond.selects "CompLabelModel" ⟨"CompLabelModel", "firstOf", "(I)I"⟩ ⟨"CompLabelModel", "firstOf", "(I)I"⟩) ∈ lw_all := lw_g (lw_at lw_ms 20 rfl) rfl
theorem qs21 : (Cond.selects "CompLabelModel" ⟨"CompLabelModel", "findChanges", "()V"⟩ ⟨"CompLabelModel", "findChanges", "()V"⟩) ∈ lw_all := lw_g (lw_at lw_ms 21 rfl) rfl
theorem qs22 : (Cond.selects "CompLabelModel" ⟨"CompLabelModel", "spreadChanges", "()Z"⟩ ⟨"CompLabelModel", "spreadChanges", "()Z"⟩) ∈ lw_all := lw_g (lw_at lw_ms 22 rfl) rfl
theorem qs23 : (Cond.selects "CompLabelModel" ⟨"CompLabelModel", "isHole", "(II)Z"⟩ ⟨"CompLabelModel", "isHole", "(II)Z"⟩) ∈ lw_all := lw_g (lw_at lw_ms 23 rfl) rfl
theorem qs24 : (Cond.selects "CompLabelModel" ⟨"CompLabelModel", "findReached", "(I)V"⟩ ⟨"CompLabelModel", "findReached", "(I)V"⟩) ∈ lw_all := lw_g (lw_at lw_ms 24 rfl) rfl
theorem qs25 : (Cond.selects "CompLabelModel" ⟨"CompLabelModel", "spreadReached", "(I)Z"⟩ ⟨"CompLabelModel", "spreadReached", "(I)Z"⟩) ∈ lw_all := lw_g (lw_at lw_ms 25 rfl) rfl
end
section
/-! CompLabel -/
set_option maxRecDepth 100000
def RX1 : String := "CompLabel"
def TX1 : u_T := fun k => match k with
  | 0 => ("CompLabel", "width", "I", false)
  | 1 => ("CompLabel", "height", "I", false)
  | 2 => ("CompLabel", "rowBits", "[I", true)
  | 3 => ("CompLabel", "labelled", "Z", false)
  | 4 => ("CompLabel", "runCount", "I", false)
  | 5 => ("CompLabel", "runFrom", "[B", true)
  | 6 => ("CompLabel", "runTo", "[B", true)
  | 7 => ("CompLabel", "runBlack", "[Z", true)
  | 8 => ("CompLabel", "leadsTo", "[S", true)
  | 9 => ("CompLabel", "rowStart", "[S", true)
  | 10 => ("CompLabel", "surround", "[S", true)
  | 11 => ("CompLabel", "level", "[B", true)
  | 12 => ("CompLabel", "places", "[S", true)
  | 13 => ("CompLabel", "within", "[S", true)
  | 14 => ("CompLabel", "holeCount", "[S", true)
  | 15 => ("CompLabel", "number", "[S", true)
  | 16 => ("CompLabel", "firstRun", "[S", true)
  | 17 => ("CompLabel", "componentCount", "I", false)
  | _ => ("CompLabel", "regionCount", "I", false)
def tyX1 : Nat → FieldType := fun k => match k with
  | 0 => .int
  | 1 => .int
  | 2 => .array .int
  | 3 => .boolean
  | 4 => .int
  | 5 => .array .byte
  | 6 => .array .byte
  | 7 => .array .boolean
  | 8 => .array .short
  | 9 => .array .short
  | 10 => .array .short
  | 11 => .array .byte
  | 12 => .array .short
  | 13 => .array .short
  | 14 => .array .short
  | 15 => .array .short
  | 16 => .array .short
  | 17 => .int
  | _ => .int
abbrev wsX10 : List Cond := u_ws RX1 TX1 19
set_option maxRecDepth 100000 in
theorem nmX1 : ∀ a, a < 19 → ∀ b, b < 19 → a ≠ b → (TX1 a).2.1 ≠ (TX1 b).2.1 := by decide +kernel
set_option maxRecDepth 100000 in
theorem tyX1_ok : ∀ k, k < 19 → parseFieldDescriptor (TX1 k).2.2.1 = some (tyX1 k) := by decide +kernel
abbrev cX1_init : ByteArray := prog_1_method_1_code
def yX1_init : MethodName := ⟨RX1, "<init>", "(II)V"⟩
abbrev cX1_set : ByteArray := prog_1_method_2_code
def yX1_set : MethodName := ⟨RX1, "set", "(IIZ)Z"⟩
abbrev cX1_inPicture : ByteArray := prog_1_method_13_code
def yX1_inPicture : MethodName := ⟨RX1, "inPicture", "(II)Z"⟩
abbrev cX1_invert : ByteArray := prog_1_method_3_code
def yX1_invert : MethodName := ⟨RX1, "invert", "(IIII)Z"⟩
abbrev cX1_isBlack : ByteArray := prog_1_method_4_code
def yX1_isBlack : MethodName := ⟨RX1, "isBlack", "(II)Z"⟩
abbrev cX1_components : ByteArray := prog_1_method_5_code
def yX1_components : MethodName := ⟨RX1, "components", "()I"⟩
abbrev cX1_labelAll : ByteArray := prog_1_method_15_code
def yX1_labelAll : MethodName := ⟨RX1, "labelAll", "()V"⟩
abbrev cX1_cutRow : ByteArray := prog_1_method_16_code
def yX1_cutRow : MethodName := ⟨RX1, "cutRow", "(I)V"⟩
abbrev cX1_openBorders : ByteArray := prog_1_method_17_code
def yX1_openBorders : MethodName := ⟨RX1, "openBorders", "(I)V"⟩
abbrev cX1_unite : ByteArray := prog_1_method_21_code
def yX1_unite : MethodName := ⟨RX1, "unite", "(II)V"⟩
abbrev cX1_first : ByteArray := prog_1_method_20_code
def yX1_first : MethodName := ⟨RX1, "first", "(I)I"⟩
abbrev cX1_touchAbove : ByteArray := prog_1_method_18_code
def yX1_touchAbove : MethodName := ⟨RX1, "touchAbove", "(I)V"⟩
abbrev cX1_cornerAbove : ByteArray := prog_1_method_19_code
def yX1_cornerAbove : MethodName := ⟨RX1, "cornerAbove", "(III)V"⟩
abbrev cX1_settleRuns : ByteArray := prog_1_method_22_code
def yX1_settleRuns : MethodName := ⟨RX1, "settleRuns", "()V"⟩
abbrev cX1_sumUp : ByteArray := prog_1_method_23_code
def yX1_sumUp : MethodName := ⟨RX1, "sumUp", "()V"⟩
abbrev cX1_euler : ByteArray := prog_1_method_6_code
def yX1_euler : MethodName := ⟨RX1, "euler", "()I"⟩
abbrev cX1_label : ByteArray := prog_1_method_7_code
def yX1_label : MethodName := ⟨RX1, "label", "(II)I"⟩
abbrev cX1_runAt : ByteArray := prog_1_method_14_code
def yX1_runAt : MethodName := ⟨RX1, "runAt", "(II)I"⟩
abbrev cX1_area : ByteArray := prog_1_method_8_code
def yX1_area : MethodName := ⟨RX1, "area", "(I)I"⟩
abbrev cX1_holes : ByteArray := prog_1_method_9_code
def yX1_holes : MethodName := ⟨RX1, "holes", "(I)I"⟩
abbrev cX1_around : ByteArray := prog_1_method_10_code
def yX1_around : MethodName := ⟨RX1, "around", "(I)I"⟩
abbrev cX1_depth : ByteArray := prog_1_method_11_code
def yX1_depth : MethodName := ⟨RX1, "depth", "(II)I"⟩
abbrev cX1_enclosed : ByteArray := prog_1_method_12_code
def yX1_enclosed : MethodName := ⟨RX1, "enclosed", "(I)I"⟩
theorem q27 : (Jvm.Cond.initialized "CompLabel") ∈ lw_all := lw_g (lw_at lw_m1 1 rfl) rfl
theorem q30 : (Jvm.Cond.instantiable "CompLabel" (19 : Nat)) ∈ lw_all := lw_g (lw_at lw_m1 4 rfl) rfl
theorem q32 : (Jvm.Cond.instanceMethod ({ cls := "CompLabel", name := "<init>", desc := "(II)V" } : Jvm.MethodName)) ∈ lw_all := lw_g (lw_at lw_m1 6 rfl) rfl
theorem q33 : (Jvm.Cond.code ({ cls := "CompLabel", name := "<init>", desc := "(II)V" } : Jvm.MethodName) prog_1_method_1_code (3 : Nat) (Option.none : Option Jvm.ClassFile.FieldType)) ∈ lw_all := lw_g (lw_at lw_m1 7 rfl) rfl
theorem q34 : (Jvm.Cond.methodLink "CompLabel" (1 : Nat) ({ cls := "java/lang/Object", name := "<init>", desc := "()V" } : Jvm.MethodName)) ∈ lw_all := lw_g (lw_at lw_m1 8 rfl) rfl
theorem q37 : (Jvm.Cond.fieldLink "CompLabel" (52 : Nat) "CompLabel" "width" "I") ∈ lw_all := lw_g (lw_at lw_m1 11 rfl) rfl
theorem q38 : (Jvm.Cond.fieldLink "CompLabel" (56 : Nat) "CompLabel" "height" "I") ∈ lw_all := lw_g (lw_at lw_m1 12 rfl) rfl
theorem q39 : (Jvm.Cond.fieldLink "CompLabel" (7 : Nat) "CompLabel" "rowBits" "[I") ∈ lw_all := lw_g (lw_at lw_m1 13 rfl) rfl
theorem q40 : (Jvm.Cond.fieldLink "CompLabel" (63 : Nat) "CompLabel" "labelled" "Z") ∈ lw_all := lw_g (lw_at lw_m1 14 rfl) rfl
theorem q41 : (Jvm.Cond.fieldLink "CompLabel" (80 : Nat) "CompLabel" "runCount" "I") ∈ lw_all := lw_g (lw_at lw_m1 15 rfl) rfl
theorem q42 : (Jvm.Cond.fieldLink "CompLabel" (13 : Nat) "CompLabel" "runFrom" "[B") ∈ lw_all := lw_g (lw_at lw_m1 16 rfl) rfl
theorem q43 : (Jvm.Cond.fieldLink "CompLabel" (17 : Nat) "CompLabel" "runTo" "[B") ∈ lw_all := lw_g (lw_at lw_m1 17 rfl) rfl
theorem q44 : (Jvm.Cond.fieldLink "CompLabel" (20 : Nat) "CompLabel" "runBlack" "[Z") ∈ lw_all := lw_g (lw_at lw_m1 18 rfl) rfl
theorem q45 : (Jvm.Cond.fieldLink "CompLabel" (24 : Nat) "CompLabel" "leadsTo" "[S") ∈ lw_all := lw_g (lw_at lw_m1 19 rfl) rfl
theorem q46 : (Jvm.Cond.fieldLink "CompLabel" (28 : Nat) "CompLabel" "rowStart" "[S") ∈ lw_all := lw_g (lw_at lw_m1 20 rfl) rfl
theorem q47 : (Jvm.Cond.fieldLink "CompLabel" (31 : Nat) "CompLabel" "surround" "[S") ∈ lw_all := lw_g (lw_at lw_m1 21 rfl) rfl
theorem q48 : (Jvm.Cond.fieldLink "CompLabel" (34 : Nat) "CompLabel" "level" "[B") ∈ lw_all := lw_g (lw_at lw_m1 22 rfl) rfl
theorem q49 : (Jvm.Cond.fieldLink "CompLabel" (37 : Nat) "CompLabel" "places" "[S") ∈ lw_all := lw_g (lw_at lw_m1 23 rfl) rfl
theorem q50 : (Jvm.Cond.fieldLink "CompLabel" (40 : Nat) "CompLabel" "within" "[S") ∈ lw_all := lw_g (lw_at lw_m1 24 rfl) rfl
theorem q51 : (Jvm.Cond.fieldLink "CompLabel" (43 : Nat) "CompLabel" "holeCount" "[S") ∈ lw_all := lw_g (lw_at lw_m1 25 rfl) rfl
theorem q52 : (Jvm.Cond.fieldLink "CompLabel" (46 : Nat) "CompLabel" "number" "[S") ∈ lw_all := lw_g (lw_at lw_m1 26 rfl) rfl
theorem q53 : (Jvm.Cond.fieldLink "CompLabel" (49 : Nat) "CompLabel" "firstRun" "[S") ∈ lw_all := lw_g (lw_at lw_m1 27 rfl) rfl
theorem q54 : (Jvm.Cond.fieldLink "CompLabel" (70 : Nat) "CompLabel" "componentCount" "I") ∈ lw_all := lw_g (lw_at lw_m1 28 rfl) rfl
theorem q55 : (Jvm.Cond.fieldLink "CompLabel" (73 : Nat) "CompLabel" "regionCount" "I") ∈ lw_all := lw_g (lw_at lw_m1 29 rfl) rfl
theorem q56 : (Jvm.Cond.lays "CompLabel" "CompLabel" "width" "I") ∈ lw_all := lw_g (lw_at lw_m1 30 rfl) rfl
theorem q57 : (Jvm.Cond.soleField "CompLabel" "width") ∈ lw_all := lw_g (lw_at lw_m1 31 rfl) rfl
theorem q58 : (Jvm.Cond.lays "CompLabel" "CompLabel" "height" "I") ∈ lw_all := lw_g (lw_at lw_m1 32 rfl) rfl
theorem q59 : (Jvm.Cond.soleField "CompLabel" "height") ∈ lw_all := lw_g (lw_at lw_m1 33 rfl) rfl
theorem q60 : (Jvm.Cond.laysFinal "CompLabel" "CompLabel" "rowBits" "[I") ∈ lw_all := lw_g (lw_at lw_m1 34 rfl) rfl
theorem q61 : (Jvm.Cond.soleField "CompLabel" "rowBits") ∈ lw_all := lw_g (lw_at lw_m1 35 rfl) rfl
theorem q62 : (Jvm.Cond.lays "CompLabel" "CompLabel" "labelled" "Z") ∈ lw_all := lw_g (lw_at lw_m1 36 rfl) rfl
theorem q63 : (Jvm.Cond.soleField "CompLabel" "labelled") ∈ lw_all := lw_g (lw_at lw_m1 37 rfl) rfl
theorem q64 : (Jvm.Cond.lays "CompLabel" "CompLabel" "runCount" "I") ∈ lw_all := lw_g (lw_at lw_m1 38 rfl) rfl
theorem q65 : (Jvm.Cond.soleField "CompLabel" "runCount") ∈ lw_all := lw_g (lw_at lw_m1 39 rfl) rfl
theorem q66 : (Jvm.Cond.laysFinal "CompLabel" "CompLabel" "runFrom" "[B") ∈ lw_all := lw_g (lw_at lw_m1 40 rfl) rfl
theorem q67 : (Jvm.Cond.soleField "CompLabel" "runFrom") ∈ lw_all := lw_g (lw_at lw_m1 41 rfl) rfl
theorem q68 : (Jvm.Cond.laysFinal "CompLabel" "CompLabel" "runTo" "[B") ∈ lw_all := lw_g (lw_at lw_m1 42 rfl) rfl
theorem q69 : (Jvm.Cond.soleField "CompLabel" "runTo") ∈ lw_all := lw_g (lw_at lw_m1 43 rfl) rfl
theorem q70 : (Jvm.Cond.laysFinal "CompLabel" "CompLabel" "runBlack" "[Z") ∈ lw_all := lw_g (lw_at lw_m1 44 rfl) rfl
theorem q71 : (Jvm.Cond.soleField "CompLabel" "runBlack") ∈ lw_all := lw_g (lw_at lw_m1 45 rfl) rfl
theorem q72 : (Jvm.Cond.laysFinal "CompLabel" "CompLabel" "leadsTo" "[S") ∈ lw_all := lw_g (lw_at lw_m1 46 rfl) rfl
theorem q73 : (Jvm.Cond.soleField "CompLabel" "leadsTo") ∈ lw_all := lw_g (lw_at lw_m1 47 rfl) rfl
theorem q74 : (Jvm.Cond.laysFinal "CompLabel" "CompLabel" "rowStart" "[S") ∈ lw_all := lw_g (lw_at lw_m1 48 rfl) rfl
theorem q75 : (Jvm.Cond.soleField "CompLabel" "rowStart") ∈ lw_all := lw_g (lw_at lw_m1 49 rfl) rfl
theorem q76 : (Jvm.Cond.laysFinal "CompLabel" "CompLabel" "surround" "[S") ∈ lw_all := lw_g (lw_at lw_m1 50 rfl) rfl
theorem q77 : (Jvm.Cond.soleField "CompLabel" "surround") ∈ lw_all := lw_g (lw_at lw_m1 51 rfl) rfl
theorem q78 : (Jvm.Cond.laysFinal "CompLabel" "CompLabel" "level" "[B") ∈ lw_all := lw_g (lw_at lw_m1 52 rfl) rfl
theorem q79 : (Jvm.Cond.soleField "CompLabel" "level") ∈ lw_all := lw_g (lw_at lw_m1 53 rfl) rfl
theorem q80 : (Jvm.Cond.laysFinal "CompLabel" "CompLabel" "places" "[S") ∈ lw_all := lw_g (lw_at lw_m1 54 rfl) rfl
theorem q81 : (Jvm.Cond.soleField "CompLabel" "places") ∈ lw_all := lw_g (lw_at lw_m1 55 rfl) rfl
theorem q82 : (Jvm.Cond.laysFinal "CompLabel" "CompLabel" "within" "[S") ∈ lw_all := lw_g (lw_at lw_m1 56 rfl) rfl
theorem q83 : (Jvm.Cond.soleField "CompLabel" "within") ∈ lw_all := lw_g (lw_at lw_m1 57 rfl) rfl
theorem q84 : (Jvm.Cond.laysFinal "CompLabel" "CompLabel" "holeCount" "[S") ∈ lw_all := lw_g (lw_at lw_m1 58 rfl) rfl
theorem q85 : (Jvm.Cond.soleField "CompLabel" "holeCount") ∈ lw_all := lw_g (lw_at lw_m1 59 rfl) rfl
theorem q86 : (Jvm.Cond.laysFinal "CompLabel" "CompLabel" "number" "[S") ∈ lw_all := lw_g (lw_at lw_m1 60 rfl) rfl
theorem q87 : (Jvm.Cond.soleField "CompLabel" "number") ∈ lw_all := lw_g (lw_at lw_m1 61 rfl) rfl
theorem q88 : (Jvm.Cond.laysFinal "CompLabel" "CompLabel" "firstRun" "[S") ∈ lw_all := lw_g (lw_at lw_m1 62 rfl) rfl
theorem q89 : (Jvm.Cond.soleField "CompLabel" "firstRun") ∈ lw_all := lw_g (lw_at lw_m1 63 rfl) rfl
theorem q90 : (Jvm.Cond.lays "CompLabel" "CompLabel" "componentCount" "I") ∈ lw_all := lw_g (lw_at lw_m1 64 rfl) rfl
theorem q91 : (Jvm.Cond.soleField "CompLabel" "componentCount") ∈ lw_all := lw_g (lw_at lw_m1 65 rfl) rfl
theorem q92 : (Jvm.Cond.lays "CompLabel" "CompLabel" "regionCount" "I") ∈ lw_all := lw_g (lw_at lw_m1 66 rfl) rfl
theorem q93 : (Jvm.Cond.soleField "CompLabel" "regionCount") ∈ lw_all := lw_g (lw_at lw_m1 67 rfl) rfl
theorem q94 : (Jvm.Cond.superclass "CompLabel" "java/lang/Object") ∈ lw_all := lw_g (lw_at lw_m1 68 rfl) rfl
theorem q100 : (Jvm.Cond.instanceMethod ({ cls := "CompLabel", name := "set", desc := "(IIZ)Z" } : Jvm.MethodName)) ∈ lw_all := lw_g (lw_at lw_m1 74 rfl) rfl
theorem q101 : (Jvm.Cond.selects "CompLabel" ({ cls := "CompLabel", name := "set", desc := "(IIZ)Z" } : Jvm.MethodName) ({ cls := "CompLabel", name := "set", desc := "(IIZ)Z" } : Jvm.MethodName)) ∈ lw_all := lw_g (lw_at lw_m1 75 rfl) rfl
theorem q102 : (Jvm.Cond.code ({ cls := "CompLabel", name := "set", desc := "(IIZ)Z" } : Jvm.MethodName) prog_1_method_2_code (4 : Nat) (Option.some Jvm.ClassFile.FieldType.boolean)) ∈ lw_all := lw_g (lw_at lw_m1 76 rfl) rfl
theorem q103 : (Jvm.Cond.methodLink "CompLabel" (59 : Nat) ({ cls := "CompLabel", name := "inPicture", desc := "(II)Z" } : Jvm.MethodName)) ∈ lw_all := lw_g (lw_at lw_m1 77 rfl) rfl
theorem q104 : (Jvm.Cond.privateMethod ({ cls := "CompLabel", name := "inPicture", desc := "(II)Z" } : Jvm.MethodName)) ∈ lw_tbl := lw_at lw_m1 78 rfl
theorem q105 : (Jvm.Cond.instanceMethod ({ cls := "CompLabel", name := "inPicture", desc := "(II)Z" } : Jvm.MethodName)) ∈ lw_all := lw_g (lw_at lw_m1 79 rfl) rfl
theorem q106 : (Jvm.Cond.code ({ cls := "CompLabel", name := "inPicture", desc := "(II)Z" } : Jvm.MethodName) prog_1_method_13_code (3 : Nat) (Option.some Jvm.ClassFile.FieldType.boolean)) ∈ lw_all := lw_g (lw_at lw_m1 80 rfl) rfl
theorem q108 : (Jvm.Cond.instanceMethod ({ cls := "CompLabel", name := "invert", desc := "(IIII)Z" } : Jvm.MethodName)) ∈ lw_all := lw_g (lw_at lw_m1 82 rfl) rfl
theorem q109 : (Jvm.Cond.selects "CompLabel" ({ cls := "CompLabel", name := "invert", desc := "(IIII)Z" } : Jvm.MethodName) ({ cls := "CompLabel", name := "invert", desc := "(IIII)Z" } : Jvm.MethodName)) ∈ lw_all := lw_g (lw_at lw_m1 83 rfl) rfl
theorem q110 : (Jvm.Cond.code ({ cls := "CompLabel", name := "invert", desc := "(IIII)Z" } : Jvm.MethodName) prog_1_method_3_code (7 : Nat) (Option.some Jvm.ClassFile.FieldType.boolean)) ∈ lw_all := lw_g (lw_at lw_m1 84 rfl) rfl
theorem q112 : (Jvm.Cond.instanceMethod ({ cls := "CompLabel", name := "isBlack", desc := "(II)Z" } : Jvm.MethodName)) ∈ lw_all := lw_g (lw_at lw_m1 86 rfl) rfl
theorem q113 : (Jvm.Cond.selects "CompLabel" ({ cls := "CompLabel", name := "isBlack", desc := "(II)Z" } : Jvm.MethodName) ({ cls := "CompLabel", name := "isBlack", desc := "(II)Z" } : Jvm.MethodName)) ∈ lw_all := lw_g (lw_at lw_m1 87 rfl) rfl
theorem q114 : (Jvm.Cond.code ({ cls := "CompLabel", name := "isBlack", desc := "(II)Z" } : Jvm.MethodName) prog_1_method_4_code (3 : Nat) (Option.some Jvm.ClassFile.FieldType.boolean)) ∈ lw_all := lw_g (lw_at lw_m1 88 rfl) rfl
theorem q116 : (Jvm.Cond.instanceMethod ({ cls := "CompLabel", name := "components", desc := "()I" } : Jvm.MethodName)) ∈ lw_all := lw_g (lw_at lw_m1 90 rfl) rfl
theorem q117 : (Jvm.Cond.selects "CompLabel" ({ cls := "CompLabel", name := "components", desc := "()I" } : Jvm.MethodName) ({ cls := "CompLabel", name := "components", desc := "()I" } : Jvm.MethodName)) ∈ lw_all := lw_g (lw_at lw_m1 91 rfl) rfl
theorem q118 : (Jvm.Cond.code ({ cls := "CompLabel", name := "components", desc := "()I" } : Jvm.MethodName) prog_1_method_5_code (1 : Nat) (Option.some Jvm.ClassFile.FieldType.int)) ∈ lw_all := lw_g (lw_at lw_m1 92 rfl) rfl
theorem q119 : (Jvm.Cond.methodLink "CompLabel" (67 : Nat) ({ cls := "CompLabel", name := "labelAll", desc := "()V" } : Jvm.MethodName)) ∈ lw_all := lw_g (lw_at lw_m1 93 rfl) rfl
theorem q120 : (Jvm.Cond.privateMethod ({ cls := "CompLabel", name := "labelAll", desc := "()V" } : Jvm.MethodName)) ∈ lw_tbl := lw_at lw_m1 94 rfl
theorem q121 : (Jvm.Cond.instanceMethod ({ cls := "CompLabel", name := "labelAll", desc := "()V" } : Jvm.MethodName)) ∈ lw_all := lw_g (lw_at lw_m1 95 rfl) rfl
theorem q122 : (Jvm.Cond.code ({ cls := "CompLabel", name := "labelAll", desc := "()V" } : Jvm.MethodName) prog_1_method_15_code (2 : Nat) (Option.none : Option Jvm.ClassFile.FieldType)) ∈ lw_all := lw_g (lw_at lw_m1 96 rfl) rfl
theorem q123 : (Jvm.Cond.methodLink "CompLabel" (83 : Nat) ({ cls := "CompLabel", name := "cutRow", desc := "(I)V" } : Jvm.MethodName)) ∈ lw_all := lw_g (lw_at lw_m1 97 rfl) rfl
theorem q124 : (Jvm.Cond.privateMethod ({ cls := "CompLabel", name := "cutRow", desc := "(I)V" } : Jvm.MethodName)) ∈ lw_tbl := lw_at lw_m1 98 rfl
theorem q125 : (Jvm.Cond.instanceMethod ({ cls := "CompLabel", name := "cutRow", desc := "(I)V" } : Jvm.MethodName)) ∈ lw_all := lw_g (lw_at lw_m1 99 rfl) rfl
theorem q126 : (Jvm.Cond.code ({ cls := "CompLabel", name := "cutRow", desc := "(I)V" } : Jvm.MethodName) prog_1_method_16_code (5 : Nat) (Option.none : Option Jvm.ClassFile.FieldType)) ∈ lw_all := lw_g (lw_at lw_m1 100 rfl) rfl
theorem q127 : (Jvm.Cond.methodLink "CompLabel" (87 : Nat) ({ cls := "CompLabel", name := "openBorders", desc := "(I)V" } : Jvm.MethodName)) ∈ lw_all := lw_g (lw_at lw_m1 101 rfl) rfl
theorem q128 : (Jvm.Cond.privateMethod ({ cls := "CompLabel", name := "openBorders", desc := "(I)V" } : Jvm.MethodName)) ∈ lw_tbl := lw_at lw_m1 102 rfl
theorem q129 : (Jvm.Cond.instanceMethod ({ cls := "CompLabel", name := "openBorders", desc := "(I)V" } : Jvm.MethodName)) ∈ lw_all := lw_g (lw_at lw_m1 103 rfl) rfl
theorem q130 : (Jvm.Cond.code ({ cls := "CompLabel", name := "openBorders", desc := "(I)V" } : Jvm.MethodName) prog_1_method_17_code (4 : Nat) (Option.none : Option Jvm.ClassFile.FieldType)) ∈ lw_all := lw_g (lw_at lw_m1 104 rfl) rfl
theorem q131 : (Jvm.Cond.methodLink "CompLabel" (99 : Nat) ({ cls := "CompLabel", name := "unite", desc := "(II)V" } : Jvm.MethodName)) ∈ lw_all := lw_g (lw_at lw_m1 105 rfl) rfl
theorem q132 : (Jvm.Cond.privateMethod ({ cls := "CompLabel", name := "unite", desc := "(II)V" } : Jvm.MethodName)) ∈ lw_tbl := lw_at lw_m1 106 rfl
theorem q133 : (Jvm.Cond.instanceMethod ({ cls := "CompLabel", name := "unite", desc := "(II)V" } : Jvm.MethodName)) ∈ lw_all := lw_g (lw_at lw_m1 107 rfl) rfl
theorem q134 : (Jvm.Cond.code ({ cls := "CompLabel", name := "unite", desc := "(II)V" } : Jvm.MethodName) prog_1_method_21_code (5 : Nat) (Option.none : Option Jvm.ClassFile.FieldType)) ∈ lw_all := lw_g (lw_at lw_m1 108 rfl) rfl
theorem q135 : (Jvm.Cond.methodLink "CompLabel" (107 : Nat) ({ cls := "CompLabel", name := "first", desc := "(I)I" } : Jvm.MethodName)) ∈ lw_all := lw_g (lw_at lw_m1 109 rfl) rfl
theorem q136 : (Jvm.Cond.privateMethod ({ cls := "CompLabel", name := "first", desc := "(I)I" } : Jvm.MethodName)) ∈ lw_tbl := lw_at lw_m1 110 rfl
theorem q137 : (Jvm.Cond.instanceMethod ({ cls := "CompLabel", name := "first", desc := "(I)I" } : Jvm.MethodName)) ∈ lw_all := lw_g (lw_at lw_m1 111 rfl) rfl
theorem q138 : (Jvm.Cond.code ({ cls := "CompLabel", name := "first", desc := "(I)I" } : Jvm.MethodName) prog_1_method_20_code (3 : Nat) (Option.some Jvm.ClassFile.FieldType.int)) ∈ lw_all := lw_g (lw_at lw_m1 112 rfl) rfl
theorem q139 : (Jvm.Cond.methodLink "CompLabel" (90 : Nat) ({ cls := "CompLabel", name := "touchAbove", desc := "(I)V" } : Jvm.MethodName)) ∈ lw_all := lw_g (lw_at lw_m1 113 rfl) rfl
theorem q140 : (Jvm.Cond.privateMethod ({ cls := "CompLabel", name := "touchAbove", desc := "(I)V" } : Jvm.MethodName)) ∈ lw_tbl := lw_at lw_m1 114 rfl
theorem q141 : (Jvm.Cond.instanceMethod ({ cls := "CompLabel", name := "touchAbove", desc := "(I)V" } : Jvm.MethodName)) ∈ lw_all := lw_g (lw_at lw_m1 115 rfl) rfl
theorem q142 : (Jvm.Cond.code ({ cls := "CompLabel", name := "touchAbove", desc := "(I)V" } : Jvm.MethodName) prog_1_method_18_code (5 : Nat) (Option.none : Option Jvm.ClassFile.FieldType)) ∈ lw_all := lw_g (lw_at lw_m1 116 rfl) rfl
theorem q143 : (Jvm.Cond.methodLink "CompLabel" (103 : Nat) ({ cls := "CompLabel", name := "cornerAbove", desc := "(III)V" } : Jvm.MethodName)) ∈ lw_all := lw_g (lw_at lw_m1 117 rfl) rfl
theorem q144 : (Jvm.Cond.privateMethod ({ cls := "CompLabel", name := "cornerAbove", desc := "(III)V" } : Jvm.MethodName)) ∈ lw_tbl := lw_at lw_m1 118 rfl
theorem q145 : (Jvm.Cond.instanceMethod ({ cls := "CompLabel", name := "cornerAbove", desc := "(III)V" } : Jvm.MethodName)) ∈ lw_all := lw_g (lw_at lw_m1 119 rfl) rfl
theorem q146 : (Jvm.Cond.code ({ cls := "CompLabel", name := "cornerAbove", desc := "(III)V" } : Jvm.MethodName) prog_1_method_19_code (4 : Nat) (Option.none : Option Jvm.ClassFile.FieldType)) ∈ lw_all := lw_g (lw_at lw_m1 120 rfl) rfl
theorem q147 : (Jvm.Cond.methodLink "CompLabel" (93 : Nat) ({ cls := "CompLabel", name := "settleRuns", desc := "()V" } : Jvm.MethodName)) ∈ lw_all := lw_g (lw_at lw_m1 121 rfl) rfl
theorem q148 : (Jvm.Cond.privateMethod ({ cls := "CompLabel", name := "settleRuns", desc := "()V" } : Jvm.MethodName)) ∈ lw_tbl := lw_at lw_m1 122 rfl
theorem q149 : (Jvm.Cond.instanceMethod ({ cls := "CompLabel", name := "settleRuns", desc := "()V" } : Jvm.MethodName)) ∈ lw_all := lw_g (lw_at lw_m1 123 rfl) rfl
theorem q150 : (Jvm.Cond.code ({ cls := "CompLabel", name := "settleRuns", desc := "()V" } : Jvm.MethodName) prog_1_method_22_code (5 : Nat) (Option.none : Option Jvm.ClassFile.FieldType)) ∈ lw_all := lw_g (lw_at lw_m1 124 rfl) rfl
theorem q151 : (Jvm.Cond.methodLink "CompLabel" (96 : Nat) ({ cls := "CompLabel", name := "sumUp", desc := "()V" } : Jvm.MethodName)) ∈ lw_all := lw_g (lw_at lw_m1 125 rfl) rfl
theorem q152 : (Jvm.Cond.privateMethod ({ cls := "CompLabel", name := "sumUp", desc := "()V" } : Jvm.MethodName)) ∈ lw_tbl := lw_at lw_m1 126 rfl
theorem q153 : (Jvm.Cond.instanceMethod ({ cls := "CompLabel", name := "sumUp", desc := "()V" } : Jvm.MethodName)) ∈ lw_all := lw_g (lw_at lw_m1 127 rfl) rfl
theorem q154 : (Jvm.Cond.code ({ cls := "CompLabel", name := "sumUp", desc := "()V" } : Jvm.MethodName) prog_1_method_23_code (3 : Nat) (Option.none : Option Jvm.ClassFile.FieldType)) ∈ lw_all := lw_g (lw_at lw_m1 128 rfl) rfl
theorem q156 : (Jvm.Cond.instanceMethod ({ cls := "CompLabel", name := "euler", desc := "()I" } : Jvm.MethodName)) ∈ lw_all := lw_g (lw_at lw_m1 130 rfl) rfl
theorem q157 : (Jvm.Cond.selects "CompLabel" ({ cls := "CompLabel", name := "euler", desc := "()I" } : Jvm.MethodName) ({ cls := "CompLabel", name := "euler", desc := "()I" } : Jvm.MethodName)) ∈ lw_all := lw_g (lw_at lw_m1 131 rfl) rfl
theorem q158 : (Jvm.Cond.code ({ cls := "CompLabel", name := "euler", desc := "()I" } : Jvm.MethodName) prog_1_method_6_code (1 : Nat) (Option.some Jvm.ClassFile.FieldType.int)) ∈ lw_all := lw_g (lw_at lw_m1 132 rfl) rfl
theorem q160 : (Jvm.Cond.instanceMethod ({ cls := "CompLabel", name := "label", desc := "(II)I" } : Jvm.MethodName)) ∈ lw_all := lw_g (lw_at lw_m1 134 rfl) rfl
theorem q161 : (Jvm.Cond.selects "CompLabel" ({ cls := "CompLabel", name := "label", desc := "(II)I" } : Jvm.MethodName) ({ cls := "CompLabel", name := "label", desc := "(II)I" } : Jvm.MethodName)) ∈ lw_all := lw_g (lw_at lw_m1 135 rfl) rfl
theorem q162 : (Jvm.Cond.code ({ cls := "CompLabel", name := "label", desc := "(II)I" } : Jvm.MethodName) prog_1_method_7_code (4 : Nat) (Option.some Jvm.ClassFile.FieldType.int)) ∈ lw_all := lw_g (lw_at lw_m1 136 rfl) rfl
theorem q163 : (Jvm.Cond.methodLink "CompLabel" (76 : Nat) ({ cls := "CompLabel", name := "runAt", desc := "(II)I" } : Jvm.MethodName)) ∈ lw_all := lw_g (lw_at lw_m1 137 rfl) rfl
theorem q164 : (Jvm.Cond.privateMethod ({ cls := "CompLabel", name := "runAt", desc := "(II)I" } : Jvm.MethodName)) ∈ lw_tbl := lw_at lw_m1 138 rfl
theorem q165 : (Jvm.Cond.instanceMethod ({ cls := "CompLabel", name := "runAt", desc := "(II)I" } : Jvm.MethodName)) ∈ lw_all := lw_g (lw_at lw_m1 139 rfl) rfl
theorem q166 : (Jvm.Cond.code ({ cls := "CompLabel", name := "runAt", desc := "(II)I" } : Jvm.MethodName) prog_1_method_14_code (4 : Nat) (Option.some Jvm.ClassFile.FieldType.int)) ∈ lw_all := lw_g (lw_at lw_m1 140 rfl) rfl
theorem q168 : (Jvm.Cond.instanceMethod ({ cls := "CompLabel", name := "area", desc := "(I)I" } : Jvm.MethodName)) ∈ lw_all := lw_g (lw_at lw_m1 142 rfl) rfl
theorem q169 : (Jvm.Cond.selects "CompLabel" ({ cls := "CompLabel", name := "area", desc := "(I)I" } : Jvm.MethodName) ({ cls := "CompLabel", name := "area", desc := "(I)I" } : Jvm.MethodName)) ∈ lw_all := lw_g (lw_at lw_m1 143 rfl) rfl
theorem q170 : (Jvm.Cond.code ({ cls := "CompLabel", name := "area", desc := "(I)I" } : Jvm.MethodName) prog_1_method_8_code (2 : Nat) (Option.some Jvm.ClassFile.FieldType.int)) ∈ lw_all := lw_g (lw_at lw_m1 144 rfl) rfl
theorem q172 : (Jvm.Cond.instanceMethod ({ cls := "CompLabel", name := "holes", desc := "(I)I" } : Jvm.MethodName)) ∈ lw_all := lw_g (lw_at lw_m1 146 rfl) rfl
theorem q173 : (Jvm.Cond.selects "CompLabel" ({ cls := "CompLabel", name := "holes", desc := "(I)I" } : Jvm.MethodName) ({ cls := "CompLabel", name := "holes", desc := "(I)I" } : Jvm.MethodName)) ∈ lw_all := lw_g (lw_at lw_m1 147 rfl) rfl
theorem q174 : (Jvm.Cond.code ({ cls := "CompLabel", name := "holes", desc := "(I)I" } : Jvm.MethodName) prog_1_method_9_code (2 : Nat) (Option.some Jvm.ClassFile.FieldType.int)) ∈ lw_all := lw_g (lw_at lw_m1 148 rfl) rfl
theorem q176 : (Jvm.Cond.instanceMethod ({ cls := "CompLabel", name := "around", desc := "(I)I" } : Jvm.MethodName)) ∈ lw_all := lw_g (lw_at lw_m1 150 rfl) rfl
theorem q177 : (Jvm.Cond.selects "CompLabel" ({ cls := "CompLabel", name := "around", desc := "(I)I" } : Jvm.MethodName) ({ cls := "CompLabel", name := "around", desc := "(I)I" } : Jvm.MethodName)) ∈ lw_all := lw_g (lw_at lw_m1 151 rfl) rfl
theorem q178 : (Jvm.Cond.code ({ cls := "CompLabel", name := "around", desc := "(I)I" } : Jvm.MethodName) prog_1_method_10_code (3 : Nat) (Option.some Jvm.ClassFile.FieldType.int)) ∈ lw_all := lw_g (lw_at lw_m1 152 rfl) rfl
theorem q180 : (Jvm.Cond.instanceMethod ({ cls := "CompLabel", name := "depth", desc := "(II)I" } : Jvm.MethodName)) ∈ lw_all := lw_g (lw_at lw_m1 154 rfl) rfl
theorem q181 : (Jvm.Cond.selects "CompLabel" ({ cls := "CompLabel", name := "depth", desc := "(II)I" } : Jvm.MethodName) ({ cls := "CompLabel", name := "depth", desc := "(II)I" } : Jvm.MethodName)) ∈ lw_all := lw_g (lw_at lw_m1 155 rfl) rfl
theorem q182 : (Jvm.Cond.code ({ cls := "CompLabel", name := "depth", desc := "(II)I" } : Jvm.MethodName) prog_1_method_11_code (4 : Nat) (Option.some Jvm.ClassFile.FieldType.int)) ∈ lw_all := lw_g (lw_at lw_m1 156 rfl) rfl
theorem q184 : (Jvm.Cond.instanceMethod ({ cls := "CompLabel", name := "enclosed", desc := "(I)I" } : Jvm.MethodName)) ∈ lw_all := lw_g (lw_at lw_m1 158 rfl) rfl
theorem q185 : (Jvm.Cond.selects "CompLabel" ({ cls := "CompLabel", name := "enclosed", desc := "(I)I" } : Jvm.MethodName) ({ cls := "CompLabel", name := "enclosed", desc := "(I)I" } : Jvm.MethodName)) ∈ lw_all := lw_g (lw_at lw_m1 159 rfl) rfl
theorem q186 : (Jvm.Cond.code ({ cls := "CompLabel", name := "enclosed", desc := "(I)I" } : Jvm.MethodName) prog_1_method_12_code (2 : Nat) (Option.some Jvm.ClassFile.FieldType.int)) ∈ lw_all := lw_g (lw_at lw_m1 160 rfl) rfl
theorem in_X1 : ∀ w ∈ wsX10, w ∈ lw_all := lw_in wsX10 [56, 58, 60, 62, 64, 66, 68, 70, 72, 74, 76, 78, 80, 82, 84, 86, 88, 90, 92] (by decide +kernel) (by decide +kernel)
theorem dX1_init_0 : decode cX1_init 0 = .ok (.aload_n 0, 1) := by decide +kernel
theorem dX1_init_1 : decode cX1_init 1 = .ok (.invokespecial 1, 3) := by decide +kernel
theorem dX1_init_4 : decode cX1_init 4 = .ok (.aload_n 0, 1) := by decide +kernel
theorem dX1_init_5 : decode cX1_init 5 = .ok (.bipush 12, 2) := by decide +kernel
theorem dX1_init_7 : decode cX1_init 7 = .ok (.newarray .int, 2) := by decide +kernel
theorem dX1_init_9 : decode cX1_init 9 = .ok (.putfield 7, 3) := by decide +kernel
theorem dX1_init_12 : decode cX1_init 12 = .ok (.aload_n 0, 1) := by decide +kernel
theorem dX1_init_13 : decode cX1_init 13 = .ok (.sipush 145, 3) := by decide +kernel
theorem dX1_init_16 : decode cX1_init 16 = .ok (.newarray .byte, 2) := by decide +kernel
theorem dX1_init_18 : decode cX1_init 18 = .ok (.putfield 13, 3) := by decide +kernel
theorem dX1_init_21 : decode cX1_init 21 = .ok (.aload_n 0, 1) := by decide +kernel
theorem dX1_init_22 : decode cX1_init 22 = .ok (.sipush 145, 3) := by decide +kernel
theorem dX1_init_25 : decode cX1_init 25 = .ok (.newarray .byte, 2) := by decide +kernel
theorem dX1_init_27 : decode cX1_init 27 = .ok (.putfield 17, 3) := by decide +kernel
theorem dX1_init_30 : decode cX1_init 30 = .ok (.aload_n 0, 1) := by decide +kernel
theorem dX1_init_31 : decode cX1_init 31 = .ok (.sipush 145, 3) := by decide +kernel
theorem dX1_init_34 : decode cX1_init 34 = .ok (.newarray .boolean, 2) := by decide +kernel
theorem dX1_init_36 : decode cX1_init 36 = .ok (.putfield 20, 3) := by decide +kernel
theorem dX1_init_39 : decode cX1_init 39 = .ok (.aload_n 0, 1) := by decide +kernel
theorem dX1_init_40 : decode cX1_init 40 = .ok (.sipush 145, 3) := by decide +kernel
theorem dX1_init_43 : decode cX1_init 43 = .ok (.newarray .short, 2) := by decide +kernel
theorem dX1_init_45 : decode cX1_init 45 = .ok (.putfield 24, 3) := by decide +kernel
theorem dX1_init_48 : decode cX1_init 48 = .ok (.aload_n 0, 1) := by decide +kernel
theorem dX1_init_49 : decode cX1_init 49 = .ok (.bipush 13, 2) := by decide +kernel
theorem dX1_init_51 : decode cX1_init 51 = .ok (.newarray .short, 2) := by decide +kernel
theorem dX1_init_53 : decode cX1_init 53 = .ok (.putfield 28, 3) := by decide +kernel
theorem dX1_init_56 : decode cX1_init 56 = .ok (.aload_n 0, 1) := by decide +kernel
theorem dX1_init_57 : decode cX1_init 57 = .ok (.sipush 145, 3) := by decide +kernel
theorem dX1_init_60 : decode cX1_init 60 = .ok (.newarray .short, 2) := by decide +kernel
theorem dX1_init_62 : decode cX1_init 62 = .ok (.putfield 31, 3) := by decide +kernel
theorem dX1_init_65 : decode cX1_init 65 = .ok (.aload_n 0, 1) := by decide +kernel
theorem dX1_init_66 : decode cX1_init 66 = .ok (.sipush 145, 3) := by decide +kernel
theorem dX1_init_69 : decode cX1_init 69 = .ok (.newarray .byte, 2) := by decide +kernel
theorem dX1_init_71 : decode cX1_init 71 = .ok (.putfield 34, 3) := by decide +kernel
theorem dX1_init_74 : decode cX1_init 74 = .ok (.aload_n 0, 1) := by decide +kernel
theorem dX1_init_75 : decode cX1_init 75 = .ok (.sipush 145, 3) := by decide +kernel
theorem dX1_init_78 : decode cX1_init 78 = .ok (.newarray .short, 2) := by decide +kernel
theorem dX1_init_80 : decode cX1_init 80 = .ok (.putfield 37, 3) := by decide +kernel
theorem dX1_init_83 : decode cX1_init 83 = .ok (.aload_n 0, 1) := by decide +kernel
theorem dX1_init_84 : decode cX1_init 84 = .ok (.sipush 145, 3) := by decide +kernel
theorem dX1_init_87 : decode cX1_init 87 = .ok (.newarray .short, 2) := by decide +kernel
theorem dX1_init_89 : decode cX1_init 89 = .ok (.putfield 40, 3) := by decide +kernel
theorem dX1_init_92 : decode cX1_init 92 = .ok (.aload_n 0, 1) := by decide +kernel
theorem dX1_init_93 : decode cX1_init 93 = .ok (.sipush 145, 3) := by decide +kernel
theorem dX1_init_96 : decode cX1_init 96 = .ok (.newarray .short, 2) := by decide +kernel
theorem dX1_init_98 : decode cX1_init 98 = .ok (.putfield 43, 3) := by decide +kernel
theorem dX1_init_101 : decode cX1_init 101 = .ok (.aload_n 0, 1) := by decide +kernel
theorem dX1_init_102 : decode cX1_init 102 = .ok (.sipush 145, 3) := by decide +kernel
theorem dX1_init_105 : decode cX1_init 105 = .ok (.newarray .short, 2) := by decide +kernel
theorem dX1_init_107 : decode cX1_init 107 = .ok (.putfield 46, 3) := by decide +kernel
theorem dX1_init_110 : decode cX1_init 110 = .ok (.aload_n 0, 1) := by decide +kernel
theorem dX1_init_111 : decode cX1_init 111 = .ok (.sipush 145, 3) := by decide +kernel
theorem dX1_init_114 : decode cX1_init 114 = .ok (.newarray .short, 2) := by decide +kernel
theorem dX1_init_116 : decode cX1_init 116 = .ok (.putfield 49, 3) := by decide +kernel
theorem dX1_init_119 : decode cX1_init 119 = .ok (.aload_n 0, 1) := by decide +kernel
theorem dX1_init_120 : decode cX1_init 120 = .ok (.iload_n 1, 1) := by decide +kernel
theorem dX1_init_121 : decode cX1_init 121 = .ok (.iconst 2, 1) := by decide +kernel
theorem dX1_init_122 : decode cX1_init 122 = .ok (.if_icmp .ge 7, 3) := by decide +kernel
theorem dX1_init_125 : decode cX1_init 125 = .ok (.iconst 2, 1) := by decide +kernel
theorem dX1_init_126 : decode cX1_init 126 = .ok (.goto 15, 3) := by decide +kernel
theorem dX1_init_129 : decode cX1_init 129 = .ok (.iload_n 1, 1) := by decide +kernel
theorem dX1_init_130 : decode cX1_init 130 = .ok (.bipush 12, 2) := by decide +kernel
theorem dX1_init_132 : decode cX1_init 132 = .ok (.if_icmp .le 8, 3) := by decide +kernel
theorem dX1_init_135 : decode cX1_init 135 = .ok (.bipush 12, 2) := by decide +kernel
theorem dX1_init_137 : decode cX1_init 137 = .ok (.goto 4, 3) := by decide +kernel
theorem dX1_init_140 : decode cX1_init 140 = .ok (.iload_n 1, 1) := by decide +kernel
theorem dX1_init_141 : decode cX1_init 141 = .ok (.putfield 52, 3) := by decide +kernel
theorem dX1_init_144 : decode cX1_init 144 = .ok (.aload_n 0, 1) := by decide +kernel
theorem dX1_init_145 : decode cX1_init 145 = .ok (.iload_n 2, 1) := by decide +kernel
theorem dX1_init_146 : decode cX1_init 146 = .ok (.iconst 2, 1) := by decide +kernel
theorem dX1_init_147 : decode cX1_init 147 = .ok (.if_icmp .ge 7, 3) := by decide +kernel
theorem dX1_init_150 : decode cX1_init 150 = .ok (.iconst 2, 1) := by decide +kernel
theorem dX1_init_151 : decode cX1_init 151 = .ok (.goto 15, 3) := by decide +kernel
theorem dX1_init_154 : decode cX1_init 154 = .ok (.iload_n 2, 1) := by decide +kernel
theorem dX1_init_155 : decode cX1_init 155 = .ok (.bipush 12, 2) := by decide +kernel
theorem dX1_init_157 : decode cX1_init 157 = .ok (.if_icmp .le 8, 3) := by decide +kernel
theorem dX1_init_160 : decode cX1_init 160 = .ok (.bipush 12, 2) := by decide +kernel
theorem dX1_init_162 : decode cX1_init 162 = .ok (.goto 4, 3) := by decide +kernel
theorem dX1_init_165 : decode cX1_init 165 = .ok (.iload_n 2, 1) := by decide +kernel
theorem dX1_init_166 : decode cX1_init 166 = .ok (.putfield 56, 3) := by decide +kernel
theorem dX1_init_169 : decode cX1_init 169 = .ok (.return_, 1) := by decide +kernel
theorem dX1_set_0 : decode cX1_set 0 = .ok (.aload_n 0, 1) := by decide +kernel
theorem dX1_set_1 : decode cX1_set 1 = .ok (.iload_n 1, 1) := by decide +kernel
theorem dX1_set_2 : decode cX1_set 2 = .ok (.iload_n 2, 1) := by decide +kernel
theorem dX1_set_3 : decode cX1_set 3 = .ok (.invokevirtual 59, 3) := by decide +kernel
theorem dX1_set_6 : decode cX1_set 6 = .ok (.ifCond .ne 5, 3) := by decide +kernel
theorem dX1_set_9 : decode cX1_set 9 = .ok (.iconst 0, 1) := by decide +kernel
theorem dX1_set_10 : decode cX1_set 10 = .ok (.ireturn, 1) := by decide +kernel
theorem dX1_set_11 : decode cX1_set 11 = .ok (.iload_n 3, 1) := by decide +kernel
theorem dX1_set_12 : decode cX1_set 12 = .ok (.ifCond .eq 18, 3) := by decide +kernel
theorem dX1_set_15 : decode cX1_set 15 = .ok (.aload_n 0, 1) := by decide +kernel
theorem dX1_set_16 : decode cX1_set 16 = .ok (.getfield 7, 3) := by decide +kernel
theorem dX1_set_19 : decode cX1_set 19 = .ok (.iload_n 2, 1) := by decide +kernel
theorem dX1_set_20 : decode cX1_set 20 = .ok (.dup2, 1) := by decide +kernel
theorem dX1_set_21 : decode cX1_set 21 = .ok (.iaload, 1) := by decide +kernel
theorem dX1_set_22 : decode cX1_set 22 = .ok (.iconst 1, 1) := by decide +kernel
theorem dX1_set_23 : decode cX1_set 23 = .ok (.iload_n 1, 1) := by decide +kernel
theorem dX1_set_24 : decode cX1_set 24 = .ok (.ishl, 1) := by decide +kernel
theorem dX1_set_25 : decode cX1_set 25 = .ok (.ior, 1) := by decide +kernel
theorem dX1_set_26 : decode cX1_set 26 = .ok (.iastore, 1) := by decide +kernel
theorem dX1_set_27 : decode cX1_set 27 = .ok (.goto 17, 3) := by decide +kernel
theorem dX1_set_30 : decode cX1_set 30 = .ok (.aload_n 0, 1) := by decide +kernel
theorem dX1_set_31 : decode cX1_set 31 = .ok (.getfield 7, 3) := by decide +kernel
theorem dX1_set_34 : decode cX1_set 34 = .ok (.iload_n 2, 1) := by decide +kernel
theorem dX1_set_35 : decode cX1_set 35 = .ok (.dup2, 1) := by decide +kernel
theorem dX1_set_36 : decode cX1_set 36 = .ok (.iaload, 1) := by decide +kernel
theorem dX1_set_37 : decode cX1_set 37 = .ok (.iconst 1, 1) := by decide +kernel
theorem dX1_set_38 : decode cX1_set 38 = .ok (.iload_n 1, 1) := by decide +kernel
theorem dX1_set_39 : decode cX1_set 39 = .ok (.ishl, 1) := by decide +kernel
theorem dX1_set_40 : decode cX1_set 40 = .ok (.iconst (-1), 1) := by decide +kernel
theorem dX1_set_41 : decode cX1_set 41 = .ok (.ixor, 1) := by decide +kernel
theorem dX1_set_42 : decode cX1_set 42 = .ok (.iand, 1) := by decide +kernel
theorem dX1_set_43 : decode cX1_set 43 = .ok (.iastore, 1) := by decide +kernel
theorem dX1_set_44 : decode cX1_set 44 = .ok (.aload_n 0, 1) := by decide +kernel
theorem dX1_set_45 : decode cX1_set 45 = .ok (.iconst 0, 1) := by decide +kernel
theorem dX1_set_46 : decode cX1_set 46 = .ok (.putfield 63, 3) := by decide +kernel
theorem dX1_set_49 : decode cX1_set 49 = .ok (.iconst 1, 1) := by decide +kernel
theorem dX1_set_50 : decode cX1_set 50 = .ok (.ireturn, 1) := by decide +kernel
theorem dX1_inPicture_0 : decode cX1_inPicture 0 = .ok (.iload_n 1, 1) := by decide +kernel
theorem dX1_inPicture_1 : decode cX1_inPicture 1 = .ok (.ifCond .lt 27, 3) := by decide +kernel
theorem dX1_inPicture_4 : decode cX1_inPicture 4 = .ok (.iload_n 1, 1) := by decide +kernel
theorem dX1_inPicture_5 : decode cX1_inPicture 5 = .ok (.aload_n 0, 1) := by decide +kernel
theorem dX1_inPicture_6 : decode cX1_inPicture 6 = .ok (.getfield 52, 3) := by decide +kernel
theorem dX1_inPicture_9 : decode cX1_inPicture 9 = .ok (.if_icmp .ge 19, 3) := by decide +kernel
theorem dX1_inPicture_12 : decode cX1_inPicture 12 = .ok (.iload_n 2, 1) := by decide +kernel
theorem dX1_inPicture_13 : decode cX1_inPicture 13 = .ok (.ifCond .lt 15, 3) := by decide +kernel
theorem dX1_inPicture_16 : decode cX1_inPicture 16 = .ok (.iload_n 2, 1) := by decide +kernel
theorem dX1_inPicture_17 : decode cX1_inPicture 17 = .ok (.aload_n 0, 1) := by decide +kernel
theorem dX1_inPicture_18 : decode cX1_inPicture 18 = .ok (.getfield 56, 3) := by decide +kernel
theorem dX1_inPicture_21 : decode cX1_inPicture 21 = .ok (.if_icmp .ge 7, 3) := by decide +kernel
theorem dX1_inPicture_24 : decode cX1_inPicture 24 = .ok (.iconst 1, 1) := by decide +kernel
theorem dX1_inPicture_25 : decode cX1_inPicture 25 = .ok (.goto 4, 3) := by decide +kernel
theorem dX1_inPicture_28 : decode cX1_inPicture 28 = .ok (.iconst 0, 1) := by decide +kernel
theorem dX1_inPicture_29 : decode cX1_inPicture 29 = .ok (.ireturn, 1) := by decide +kernel
theorem dX1_invert_0 : decode cX1_invert 0 = .ok (.aload_n 0, 1) := by decide +kernel
theorem dX1_invert_1 : decode cX1_invert 1 = .ok (.iload_n 1, 1) := by decide +kernel
theorem dX1_invert_2 : decode cX1_invert 2 = .ok (.iload_n 2, 1) := by decide +kernel
theorem dX1_invert_3 : decode cX1_invert 3 = .ok (.invokevirtual 59, 3) := by decide +kernel
theorem dX1_invert_6 : decode cX1_invert 6 = .ok (.ifCond .ne 5, 3) := by decide +kernel
theorem dX1_invert_9 : decode cX1_invert 9 = .ok (.iconst 0, 1) := by decide +kernel
theorem dX1_invert_10 : decode cX1_invert 10 = .ok (.ireturn, 1) := by decide +kernel
theorem dX1_invert_11 : decode cX1_invert 11 = .ok (.iload_n 3, 1) := by decide +kernel
theorem dX1_invert_12 : decode cX1_invert 12 = .ok (.iconst 1, 1) := by decide +kernel
theorem dX1_invert_13 : decode cX1_invert 13 = .ok (.if_icmp .lt 30, 3) := by decide +kernel
theorem dX1_invert_16 : decode cX1_invert 16 = .ok (.iload_n 3, 1) := by decide +kernel
theorem dX1_invert_17 : decode cX1_invert 17 = .ok (.aload_n 0, 1) := by decide +kernel
theorem dX1_invert_18 : decode cX1_invert 18 = .ok (.getfield 52, 3) := by decide +kernel
theorem dX1_invert_21 : decode cX1_invert 21 = .ok (.iload_n 1, 1) := by decide +kernel
theorem dX1_invert_22 : decode cX1_invert 22 = .ok (.isub, 1) := by decide +kernel
theorem dX1_invert_23 : decode cX1_invert 23 = .ok (.if_icmp .gt 20, 3) := by decide +kernel
theorem dX1_invert_26 : decode cX1_invert 26 = .ok (.iload 4, 2) := by decide +kernel
theorem dX1_invert_28 : decode cX1_invert 28 = .ok (.iconst 1, 1) := by decide +kernel
theorem dX1_invert_29 : decode cX1_invert 29 = .ok (.if_icmp .lt 14, 3) := by decide +kernel
theorem dX1_invert_32 : decode cX1_invert 32 = .ok (.iload 4, 2) := by decide +kernel
theorem dX1_invert_34 : decode cX1_invert 34 = .ok (.aload_n 0, 1) := by decide +kernel
theorem dX1_invert_35 : decode cX1_invert 35 = .ok (.getfield 56, 3) := by decide +kernel
theorem dX1_invert_38 : decode cX1_invert 38 = .ok (.iload_n 2, 1) := by decide +kernel
theorem dX1_invert_39 : decode cX1_invert 39 = .ok (.isub, 1) := by decide +kernel
theorem dX1_invert_40 : decode cX1_invert 40 = .ok (.if_icmp .le 5, 3) := by decide +kernel
theorem dX1_invert_43 : decode cX1_invert 43 = .ok (.iconst 0, 1) := by decide +kernel
theorem dX1_invert_44 : decode cX1_invert 44 = .ok (.ireturn, 1) := by decide +kernel
theorem dX1_invert_45 : decode cX1_invert 45 = .ok (.iconst 1, 1) := by decide +kernel
theorem dX1_invert_46 : decode cX1_invert 46 = .ok (.iload_n 3, 1) := by decide +kernel
theorem dX1_invert_47 : decode cX1_invert 47 = .ok (.ishl, 1) := by decide +kernel
theorem dX1_invert_48 : decode cX1_invert 48 = .ok (.iconst 1, 1) := by decide +kernel
theorem dX1_invert_49 : decode cX1_invert 49 = .ok (.isub, 1) := by decide +kernel
theorem dX1_invert_50 : decode cX1_invert 50 = .ok (.iload_n 1, 1) := by decide +kernel
theorem dX1_invert_51 : decode cX1_invert 51 = .ok (.ishl, 1) := by decide +kernel
theorem dX1_invert_52 : decode cX1_invert 52 = .ok (.istore 5, 2) := by decide +kernel
theorem dX1_invert_54 : decode cX1_invert 54 = .ok (.iload_n 2, 1) := by decide +kernel
theorem dX1_invert_55 : decode cX1_invert 55 = .ok (.istore 6, 2) := by decide +kernel
theorem dX1_invert_57 : decode cX1_invert 57 = .ok (.iload 6, 2) := by decide +kernel
theorem dX1_invert_59 : decode cX1_invert 59 = .ok (.iload_n 2, 1) := by decide +kernel
theorem dX1_invert_60 : decode cX1_invert 60 = .ok (.iload 4, 2) := by decide +kernel
theorem dX1_invert_62 : decode cX1_invert 62 = .ok (.iadd, 1) := by decide +kernel
theorem dX1_invert_63 : decode cX1_invert 63 = .ok (.if_icmp .ge 21, 3) := by decide +kernel
theorem dX1_invert_66 : decode cX1_invert 66 = .ok (.aload_n 0, 1) := by decide +kernel
theorem dX1_invert_67 : decode cX1_invert 67 = .ok (.getfield 7, 3) := by decide +kernel
theorem dX1_invert_70 : decode cX1_invert 70 = .ok (.iload 6, 2) := by decide +kernel
theorem dX1_invert_72 : decode cX1_invert 72 = .ok (.dup2, 1) := by decide +kernel
theorem dX1_invert_73 : decode cX1_invert 73 = .ok (.iaload, 1) := by decide +kernel
theorem dX1_invert_74 : decode cX1_invert 74 = .ok (.iload 5, 2) := by decide +kernel
theorem dX1_invert_76 : decode cX1_invert 76 = .ok (.ixor, 1) := by decide +kernel
theorem dX1_invert_77 : decode cX1_invert 77 = .ok (.iastore, 1) := by decide +kernel
theorem dX1_invert_78 : decode cX1_invert 78 = .ok (.iinc 6 1, 3) := by decide +kernel
theorem dX1_invert_81 : decode cX1_invert 81 = .ok (.goto (-24), 3) := by decide +kernel
theorem dX1_invert_84 : decode cX1_invert 84 = .ok (.aload_n 0, 1) := by decide +kernel
theorem dX1_invert_85 : decode cX1_invert 85 = .ok (.iconst 0, 1) := by decide +kernel
theorem dX1_invert_86 : decode cX1_invert 86 = .ok (.putfield 63, 3) := by decide +kernel
theorem dX1_invert_89 : decode cX1_invert 89 = .ok (.iconst 1, 1) := by decide +kernel
theorem dX1_invert_90 : decode cX1_invert 90 = .ok (.ireturn, 1) := by decide +kernel
theorem dX1_isBlack_0 : decode cX1_isBlack 0 = .ok (.aload_n 0, 1) := by decide +kernel
theorem dX1_isBlack_1 : decode cX1_isBlack 1 = .ok (.iload_n 1, 1) := by decide +kernel
theorem dX1_isBlack_2 : decode cX1_isBlack 2 = .ok (.iload_n 2, 1) := by decide +kernel
theorem dX1_isBlack_3 : decode cX1_isBlack 3 = .ok (.invokevirtual 59, 3) := by decide +kernel
theorem dX1_isBlack_6 : decode cX1_isBlack 6 = .ok (.ifCond .eq 20, 3) := by decide +kernel
theorem dX1_isBlack_9 : decode cX1_isBlack 9 = .ok (.aload_n 0, 1) := by decide +kernel
theorem dX1_isBlack_10 : decode cX1_isBlack 10 = .ok (.getfield 7, 3) := by decide +kernel
theorem dX1_isBlack_13 : decode cX1_isBlack 13 = .ok (.iload_n 2, 1) := by decide +kernel
theorem dX1_isBlack_14 : decode cX1_isBlack 14 = .ok (.iaload, 1) := by decide +kernel
theorem dX1_isBlack_15 : decode cX1_isBlack 15 = .ok (.iload_n 1, 1) := by decide +kernel
theorem dX1_isBlack_16 : decode cX1_isBlack 16 = .ok (.ishr, 1) := by decide +kernel
theorem dX1_isBlack_17 : decode cX1_isBlack 17 = .ok (.iconst 1, 1) := by decide +kernel
theorem dX1_isBlack_18 : decode cX1_isBlack 18 = .ok (.iand, 1) := by decide +kernel
theorem dX1_isBlack_19 : decode cX1_isBlack 19 = .ok (.ifCond .eq 7, 3) := by decide +kernel
theorem dX1_isBlack_22 : decode cX1_isBlack 22 = .ok (.iconst 1, 1) := by decide +kernel
theorem dX1_isBlack_23 : decode cX1_isBlack 23 = .ok (.goto 4, 3) := by decide +kernel
theorem dX1_isBlack_26 : decode cX1_isBlack 26 = .ok (.iconst 0, 1) := by decide +kernel
theorem dX1_isBlack_27 : decode cX1_isBlack 27 = .ok (.ireturn, 1) := by decide +kernel
theorem dX1_components_0 : decode cX1_components 0 = .ok (.aload_n 0, 1) := by decide +kernel
theorem dX1_components_1 : decode cX1_components 1 = .ok (.invokevirtual 67, 3) := by decide +kernel
theorem dX1_components_4 : decode cX1_components 4 = .ok (.aload_n 0, 1) := by decide +kernel
theorem dX1_components_5 : decode cX1_components 5 = .ok (.getfield 70, 3) := by decide +kernel
theorem dX1_components_8 : decode cX1_components 8 = .ok (.ireturn, 1) := by decide +kernel
theorem dX1_labelAll_0 : decode cX1_labelAll 0 = .ok (.aload_n 0, 1) := by decide +kernel
theorem dX1_labelAll_1 : decode cX1_labelAll 1 = .ok (.getfield 63, 3) := by decide +kernel
theorem dX1_labelAll_4 : decode cX1_labelAll 4 = .ok (.ifCond .eq 4, 3) := by decide +kernel
theorem dX1_labelAll_7 : decode cX1_labelAll 7 = .ok (.return_, 1) := by decide +kernel
theorem dX1_labelAll_8 : decode cX1_labelAll 8 = .ok (.aload_n 0, 1) := by decide +kernel
theorem dX1_labelAll_9 : decode cX1_labelAll 9 = .ok (.iconst 1, 1) := by decide +kernel
theorem dX1_labelAll_10 : decode cX1_labelAll 10 = .ok (.putfield 80, 3) := by decide +kernel
theorem dX1_labelAll_13 : decode cX1_labelAll 13 = .ok (.aload_n 0, 1) := by decide +kernel
theorem dX1_labelAll_14 : decode cX1_labelAll 14 = .ok (.getfield 20, 3) := by decide +kernel
theorem dX1_labelAll_17 : decode cX1_labelAll 17 = .ok (.iconst 0, 1) := by decide +kernel
theorem dX1_labelAll_18 : decode cX1_labelAll 18 = .ok (.iconst 0, 1) := by decide +kernel
theorem dX1_labelAll_19 : decode cX1_labelAll 19 = .ok (.bastore, 1) := by decide +kernel
theorem dX1_labelAll_20 : decode cX1_labelAll 20 = .ok (.aload_n 0, 1) := by decide +kernel
theorem dX1_labelAll_21 : decode cX1_labelAll 21 = .ok (.getfield 24, 3) := by decide +kernel
theorem dX1_labelAll_24 : decode cX1_labelAll 24 = .ok (.iconst 0, 1) := by decide +kernel
theorem dX1_labelAll_25 : decode cX1_labelAll 25 = .ok (.iconst 0, 1) := by decide +kernel
theorem dX1_labelAll_26 : decode cX1_labelAll 26 = .ok (.sastore, 1) := by decide +kernel
theorem dX1_labelAll_27 : decode cX1_labelAll 27 = .ok (.iconst 0, 1) := by decide +kernel
theorem dX1_labelAll_28 : decode cX1_labelAll 28 = .ok (.istore_n 1, 1) := by decide +kernel
theorem dX1_labelAll_29 : decode cX1_labelAll 29 = .ok (.iload_n 1, 1) := by decide +kernel
theorem dX1_labelAll_30 : decode cX1_labelAll 30 = .ok (.aload_n 0, 1) := by decide +kernel
theorem dX1_labelAll_31 : decode cX1_labelAll 31 = .ok (.getfield 56, 3) := by decide +kernel
theorem dX1_labelAll_34 : decode cX1_labelAll 34 = .ok (.if_icmp .ge 57, 3) := by decide +kernel
theorem dX1_labelAll_37 : decode cX1_labelAll 37 = .ok (.aload_n 0, 1) := by decide +kernel
theorem dX1_labelAll_38 : decode cX1_labelAll 38 = .ok (.getfield 28, 3) := by decide +kernel
theorem dX1_labelAll_41 : decode cX1_labelAll 41 = .ok (.iload_n 1, 1) := by decide +kernel
theorem dX1_labelAll_42 : decode cX1_labelAll 42 = .ok (.aload_n 0, 1) := by decide +kernel
theorem dX1_labelAll_43 : decode cX1_labelAll 43 = .ok (.getfield 80, 3) := by decide +kernel
theorem dX1_labelAll_46 : decode cX1_labelAll 46 = .ok (.i2s, 1) := by decide +kernel
theorem dX1_labelAll_47 : decode cX1_labelAll 47 = .ok (.sastore, 1) := by decide +kernel
theorem dX1_labelAll_48 : decode cX1_labelAll 48 = .ok (.aload_n 0, 1) := by decide +kernel
theorem dX1_labelAll_49 : decode cX1_labelAll 49 = .ok (.aload_n 0, 1) := by decide +kernel
theorem dX1_labelAll_50 : decode cX1_labelAll 50 = .ok (.getfield 7, 3) := by decide +kernel
theorem dX1_labelAll_53 : decode cX1_labelAll 53 = .ok (.iload_n 1, 1) := by decide +kernel
theorem dX1_labelAll_54 : decode cX1_labelAll 54 = .ok (.iaload, 1) := by decide +kernel
theorem dX1_labelAll_55 : decode cX1_labelAll 55 = .ok (.invokevirtual 83, 3) := by decide +kernel
theorem dX1_labelAll_58 : decode cX1_labelAll 58 = .ok (.aload_n 0, 1) := by decide +kernel
theorem dX1_labelAll_59 : decode cX1_labelAll 59 = .ok (.getfield 28, 3) := by decide +kernel
theorem dX1_labelAll_62 : decode cX1_labelAll 62 = .ok (.iload_n 1, 1) := by decide +kernel
theorem dX1_labelAll_63 : decode cX1_labelAll 63 = .ok (.iconst 1, 1) := by decide +kernel
theorem dX1_labelAll_64 : decode cX1_labelAll 64 = .ok (.iadd, 1) := by decide +kernel
theorem dX1_labelAll_65 : decode cX1_labelAll 65 = .ok (.aload_n 0, 1) := by decide +kernel
theorem dX1_labelAll_66 : decode cX1_labelAll 66 = .ok (.getfield 80, 3) := by decide +kernel
theorem dX1_labelAll_69 : decode cX1_labelAll 69 = .ok (.i2s, 1) := by decide +kernel
theorem dX1_labelAll_70 : decode cX1_labelAll 70 = .ok (.sastore, 1) := by decide +kernel
theorem dX1_labelAll_71 : decode cX1_labelAll 71 = .ok (.aload_n 0, 1) := by decide +kernel
theorem dX1_labelAll_72 : decode cX1_labelAll 72 = .ok (.iload_n 1, 1) := by decide +kernel
theorem dX1_labelAll_73 : decode cX1_labelAll 73 = .ok (.invokevirtual 87, 3) := by decide +kernel
theorem dX1_labelAll_76 : decode cX1_labelAll 76 = .ok (.iload_n 1, 1) := by decide +kernel
theorem dX1_labelAll_77 : decode cX1_labelAll 77 = .ok (.ifCond .le 8, 3) := by decide +kernel
theorem dX1_labelAll_80 : decode cX1_labelAll 80 = .ok (.aload_n 0, 1) := by decide +kernel
theorem dX1_labelAll_81 : decode cX1_labelAll 81 = .ok (.iload_n 1, 1) := by decide +kernel
theorem dX1_labelAll_82 : decode cX1_labelAll 82 = .ok (.invokevirtual 90, 3) := by decide +kernel
theorem dX1_labelAll_85 : decode cX1_labelAll 85 = .ok (.iinc 1 1, 3) := by decide +kernel
theorem dX1_labelAll_88 : decode cX1_labelAll 88 = .ok (.goto (-59), 3) := by decide +kernel
theorem dX1_labelAll_91 : decode cX1_labelAll 91 = .ok (.aload_n 0, 1) := by decide +kernel
theorem dX1_labelAll_92 : decode cX1_labelAll 92 = .ok (.invokevirtual 93, 3) := by decide +kernel
theorem dX1_labelAll_95 : decode cX1_labelAll 95 = .ok (.aload_n 0, 1) := by decide +kernel
theorem dX1_labelAll_96 : decode cX1_labelAll 96 = .ok (.invokevirtual 96, 3) := by decide +kernel
theorem dX1_labelAll_99 : decode cX1_labelAll 99 = .ok (.aload_n 0, 1) := by decide +kernel
theorem dX1_labelAll_100 : decode cX1_labelAll 100 = .ok (.iconst 1, 1) := by decide +kernel
theorem dX1_labelAll_101 : decode cX1_labelAll 101 = .ok (.putfield 63, 3) := by decide +kernel
theorem dX1_labelAll_104 : decode cX1_labelAll 104 = .ok (.return_, 1) := by decide +kernel
theorem dX1_cutRow_0 : decode cX1_cutRow 0 = .ok (.iconst 0, 1) := by decide +kernel
theorem dX1_cutRow_1 : decode cX1_cutRow 1 = .ok (.istore_n 2, 1) := by decide +kernel
theorem dX1_cutRow_2 : decode cX1_cutRow 2 = .ok (.iload_n 2, 1) := by decide +kernel
theorem dX1_cutRow_3 : decode cX1_cutRow 3 = .ok (.aload_n 0, 1) := by decide +kernel
theorem dX1_cutRow_4 : decode cX1_cutRow 4 = .ok (.getfield 52, 3) := by decide +kernel
theorem dX1_cutRow_7 : decode cX1_cutRow 7 = .ok (.if_icmp .ge 114, 3) := by decide +kernel
theorem dX1_cutRow_10 : decode cX1_cutRow 10 = .ok (.iload_n 1, 1) := by decide +kernel
theorem dX1_cutRow_11 : decode cX1_cutRow 11 = .ok (.iload_n 2, 1) := by decide +kernel
theorem dX1_cutRow_12 : decode cX1_cutRow 12 = .ok (.ishr, 1) := by decide +kernel
theorem dX1_cutRow_13 : decode cX1_cutRow 13 = .ok (.iconst 1, 1) := by decide +kernel
theorem dX1_cutRow_14 : decode cX1_cutRow 14 = .ok (.iand, 1) := by decide +kernel
theorem dX1_cutRow_15 : decode cX1_cutRow 15 = .ok (.istore_n 3, 1) := by decide +kernel
theorem dX1_cutRow_16 : decode cX1_cutRow 16 = .ok (.iload_n 2, 1) := by decide +kernel
theorem dX1_cutRow_17 : decode cX1_cutRow 17 = .ok (.istore 4, 2) := by decide +kernel
theorem dX1_cutRow_19 : decode cX1_cutRow 19 = .ok (.iload 4, 2) := by decide +kernel
theorem dX1_cutRow_21 : decode cX1_cutRow 21 = .ok (.iconst 1, 1) := by decide +kernel
theorem dX1_cutRow_22 : decode cX1_cutRow 22 = .ok (.iadd, 1) := by decide +kernel
theorem dX1_cutRow_23 : decode cX1_cutRow 23 = .ok (.aload_n 0, 1) := by decide +kernel
theorem dX1_cutRow_24 : decode cX1_cutRow 24 = .ok (.getfield 52, 3) := by decide +kernel
theorem dX1_cutRow_27 : decode cX1_cutRow 27 = .ok (.if_icmp .ge 21, 3) := by decide +kernel
theorem dX1_cutRow_30 : decode cX1_cutRow 30 = .ok (.iload_n 1, 1) := by decide +kernel
theorem dX1_cutRow_31 : decode cX1_cutRow 31 = .ok (.iload 4, 2) := by decide +kernel
theorem dX1_cutRow_33 : decode cX1_cutRow 33 = .ok (.iconst 1, 1) := by decide +kernel
theorem dX1_cutRow_34 : decode cX1_cutRow 34 = .ok (.iadd, 1) := by decide +kernel
theorem dX1_cutRow_35 : decode cX1_cutRow 35 = .ok (.ishr, 1) := by decide +kernel
theorem dX1_cutRow_36 : decode cX1_cutRow 36 = .ok (.iconst 1, 1) := by decide +kernel
theorem dX1_cutRow_37 : decode cX1_cutRow 37 = .ok (.iand, 1) := by decide +kernel
theorem dX1_cutRow_38 : decode cX1_cutRow 38 = .ok (.iload_n 3, 1) := by decide +kernel
theorem dX1_cutRow_39 : decode cX1_cutRow 39 = .ok (.if_icmp .ne 9, 3) := by decide +kernel
theorem dX1_cutRow_42 : decode cX1_cutRow 42 = .ok (.iinc 4 1, 3) := by decide +kernel
theorem dX1_cutRow_45 : decode cX1_cutRow 45 = .ok (.goto (-26), 3) := by decide +kernel
theorem dX1_cutRow_48 : decode cX1_cutRow 48 = .ok (.aload_n 0, 1) := by decide +kernel
theorem dX1_cutRow_49 : decode cX1_cutRow 49 = .ok (.getfield 13, 3) := by decide +kernel
theorem dX1_cutRow_52 : decode cX1_cutRow 52 = .ok (.aload_n 0, 1) := by decide +kernel
theorem dX1_cutRow_53 : decode cX1_cutRow 53 = .ok (.getfield 80, 3) := by decide +kernel
theorem dX1_cutRow_56 : decode cX1_cutRow 56 = .ok (.iload_n 2, 1) := by decide +kernel
theorem dX1_cutRow_57 : decode cX1_cutRow 57 = .ok (.i2b, 1) := by decide +kernel
theorem dX1_cutRow_58 : decode cX1_cutRow 58 = .ok (.bastore, 1) := by decide +kernel
theorem dX1_cutRow_59 : decode cX1_cutRow 59 = .ok (.aload_n 0, 1) := by decide +kernel
theorem dX1_cutRow_60 : decode cX1_cutRow 60 = .ok (.getfield 17, 3) := by decide +kernel
theorem dX1_cutRow_63 : decode cX1_cutRow 63 = .ok (.aload_n 0, 1) := by decide +kernel
theorem dX1_cutRow_64 : decode cX1_cutRow 64 = .ok (.getfield 80, 3) := by decide +kernel
theorem dX1_cutRow_67 : decode cX1_cutRow 67 = .ok (.iload 4, 2) := by decide +kernel
theorem dX1_cutRow_69 : decode cX1_cutRow 69 = .ok (.i2b, 1) := by decide +kernel
theorem dX1_cutRow_70 : decode cX1_cutRow 70 = .ok (.bastore, 1) := by decide +kernel
theorem dX1_cutRow_71 : decode cX1_cutRow 71 = .ok (.aload_n 0, 1) := by decide +kernel
theorem dX1_cutRow_72 : decode cX1_cutRow 72 = .ok (.getfield 20, 3) := by decide +kernel
theorem dX1_cutRow_75 : decode cX1_cutRow 75 = .ok (.aload_n 0, 1) := by decide +kernel
theorem dX1_cutRow_76 : decode cX1_cutRow 76 = .ok (.getfield 80, 3) := by decide +kernel
theorem dX1_cutRow_79 : decode cX1_cutRow 79 = .ok (.iload_n 3, 1) := by decide +kernel
theorem dX1_cutRow_80 : decode cX1_cutRow 80 = .ok (.ifCond .eq 7, 3) := by decide +kernel
theorem dX1_cutRow_83 : decode cX1_cutRow 83 = .ok (.iconst 1, 1) := by decide +kernel
theorem dX1_cutRow_84 : decode cX1_cutRow 84 = .ok (.goto 4, 3) := by decide +kernel
theorem dX1_cutRow_87 : decode cX1_cutRow 87 = .ok (.iconst 0, 1) := by decide +kernel
theorem dX1_cutRow_88 : decode cX1_cutRow 88 = .ok (.bastore, 1) := by decide +kernel
theorem dX1_cutRow_89 : decode cX1_cutRow 89 = .ok (.aload_n 0, 1) := by decide +kernel
theorem dX1_cutRow_90 : decode cX1_cutRow 90 = .ok (.getfield 24, 3) := by decide +kernel
theorem dX1_cutRow_93 : decode cX1_cutRow 93 = .ok (.aload_n 0, 1) := by decide +kernel
theorem dX1_cutRow_94 : decode cX1_cutRow 94 = .ok (.getfield 80, 3) := by decide +kernel
theorem dX1_cutRow_97 : decode cX1_cutRow 97 = .ok (.aload_n 0, 1) := by decide +kernel
theorem dX1_cutRow_98 : decode cX1_cutRow 98 = .ok (.getfield 80, 3) := by decide +kernel
theorem dX1_cutRow_101 : decode cX1_cutRow 101 = .ok (.i2s, 1) := by decide +kernel
theorem dX1_cutRow_102 : decode cX1_cutRow 102 = .ok (.sastore, 1) := by decide +kernel
theorem dX1_cutRow_103 : decode cX1_cutRow 103 = .ok (.aload_n 0, 1) := by decide +kernel
theorem dX1_cutRow_104 : decode cX1_cutRow 104 = .ok (.dup, 1) := by decide +kernel
theorem dX1_cutRow_105 : decode cX1_cutRow 105 = .ok (.getfield 80, 3) := by decide +kernel
theorem dX1_cutRow_108 : decode cX1_cutRow 108 = .ok (.iconst 1, 1) := by decide +kernel
theorem dX1_cutRow_109 : decode cX1_cutRow 109 = .ok (.iadd, 1) := by decide +kernel
theorem dX1_cutRow_110 : decode cX1_cutRow 110 = .ok (.putfield 80, 3) := by decide +kernel
theorem dX1_cutRow_113 : decode cX1_cutRow 113 = .ok (.iload 4, 2) := by decide +kernel
theorem dX1_cutRow_115 : decode cX1_cutRow 115 = .ok (.iconst 1, 1) := by decide +kernel
theorem dX1_cutRow_116 : decode cX1_cutRow 116 = .ok (.iadd, 1) := by decide +kernel
theorem dX1_cutRow_117 : decode cX1_cutRow 117 = .ok (.istore_n 2, 1) := by decide +kernel
theorem dX1_cutRow_118 : decode cX1_cutRow 118 = .ok (.goto (-116), 3) := by decide +kernel
theorem dX1_cutRow_121 : decode cX1_cutRow 121 = .ok (.return_, 1) := by decide +kernel
theorem dX1_openBorders_0 : decode cX1_openBorders 0 = .ok (.iload_n 1, 1) := by decide +kernel
theorem dX1_openBorders_1 : decode cX1_openBorders 1 = .ok (.ifCond .eq 13, 3) := by decide +kernel
theorem dX1_openBorders_4 : decode cX1_openBorders 4 = .ok (.iload_n 1, 1) := by decide +kernel
theorem dX1_openBorders_5 : decode cX1_openBorders 5 = .ok (.aload_n 0, 1) := by decide +kernel
theorem dX1_openBorders_6 : decode cX1_openBorders 6 = .ok (.getfield 56, 3) := by decide +kernel
theorem dX1_openBorders_9 : decode cX1_openBorders 9 = .ok (.iconst 1, 1) := by decide +kernel
theorem dX1_openBorders_10 : decode cX1_openBorders 10 = .ok (.isub, 1) := by decide +kernel
theorem dX1_openBorders_11 : decode cX1_openBorders 11 = .ok (.if_icmp .ne 7, 3) := by decide +kernel
theorem dX1_openBorders_14 : decode cX1_openBorders 14 = .ok (.iconst 1, 1) := by decide +kernel
theorem dX1_openBorders_15 : decode cX1_openBorders 15 = .ok (.goto 4, 3) := by decide +kernel
theorem dX1_openBorders_18 : decode cX1_openBorders 18 = .ok (.iconst 0, 1) := by decide +kernel
theorem dX1_openBorders_19 : decode cX1_openBorders 19 = .ok (.istore_n 2, 1) := by decide +kernel
theorem dX1_openBorders_20 : decode cX1_openBorders 20 = .ok (.aload_n 0, 1) := by decide +kernel
theorem dX1_openBorders_21 : decode cX1_openBorders 21 = .ok (.getfield 28, 3) := by decide +kernel
theorem dX1_openBorders_24 : decode cX1_openBorders 24 = .ok (.iload_n 1, 1) := by decide +kernel
theorem dX1_openBorders_25 : decode cX1_openBorders 25 = .ok (.saload, 1) := by decide +kernel
theorem dX1_openBorders_26 : decode cX1_openBorders 26 = .ok (.istore_n 3, 1) := by decide +kernel
theorem dX1_openBorders_27 : decode cX1_openBorders 27 = .ok (.iload_n 3, 1) := by decide +kernel
theorem dX1_openBorders_28 : decode cX1_openBorders 28 = .ok (.aload_n 0, 1) := by decide +kernel
theorem dX1_openBorders_29 : decode cX1_openBorders 29 = .ok (.getfield 28, 3) := by decide +kernel
theorem dX1_openBorders_32 : decode cX1_openBorders 32 = .ok (.iload_n 1, 1) := by decide +kernel
theorem dX1_openBorders_33 : decode cX1_openBorders 33 = .ok (.iconst 1, 1) := by decide +kernel
theorem dX1_openBorders_34 : decode cX1_openBorders 34 = .ok (.iadd, 1) := by decide +kernel
theorem dX1_openBorders_35 : decode cX1_openBorders 35 = .ok (.saload, 1) := by decide +kernel
theorem dX1_openBorders_36 : decode cX1_openBorders 36 = .ok (.if_icmp .ge 55, 3) := by decide +kernel
theorem dX1_openBorders_39 : decode cX1_openBorders 39 = .ok (.aload_n 0, 1) := by decide +kernel
theorem dX1_openBorders_40 : decode cX1_openBorders 40 = .ok (.getfield 20, 3) := by decide +kernel
theorem dX1_openBorders_43 : decode cX1_openBorders 43 = .ok (.iload_n 3, 1) := by decide +kernel
theorem dX1_openBorders_44 : decode cX1_openBorders 44 = .ok (.baload, 1) := by decide +kernel
theorem dX1_openBorders_45 : decode cX1_openBorders 45 = .ok (.ifCond .eq 6, 3) := by decide +kernel
theorem dX1_openBorders_48 : decode cX1_openBorders 48 = .ok (.goto 37, 3) := by decide +kernel
theorem dX1_openBorders_51 : decode cX1_openBorders 51 = .ok (.iload_n 2, 1) := by decide +kernel
theorem dX1_openBorders_52 : decode cX1_openBorders 52 = .ok (.ifCond .ne 27, 3) := by decide +kernel
theorem dX1_openBorders_55 : decode cX1_openBorders 55 = .ok (.aload_n 0, 1) := by decide +kernel
theorem dX1_openBorders_56 : decode cX1_openBorders 56 = .ok (.getfield 13, 3) := by decide +kernel
theorem dX1_openBorders_59 : decode cX1_openBorders 59 = .ok (.iload_n 3, 1) := by decide +kernel
theorem dX1_openBorders_60 : decode cX1_openBorders 60 = .ok (.baload, 1) := by decide +kernel
theorem dX1_openBorders_61 : decode cX1_openBorders 61 = .ok (.ifCond .eq 18, 3) := by decide +kernel
theorem dX1_openBorders_64 : decode cX1_openBorders 64 = .ok (.aload_n 0, 1) := by decide +kernel
theorem dX1_openBorders_65 : decode cX1_openBorders 65 = .ok (.getfield 17, 3) := by decide +kernel
theorem dX1_openBorders_68 : decode cX1_openBorders 68 = .ok (.iload_n 3, 1) := by decide +kernel
theorem dX1_openBorders_69 : decode cX1_openBorders 69 = .ok (.baload, 1) := by decide +kernel
theorem dX1_openBorders_70 : decode cX1_openBorders 70 = .ok (.aload_n 0, 1) := by decide +kernel
theorem dX1_openBorders_71 : decode cX1_openBorders 71 = .ok (.getfield 52, 3) := by decide +kernel
theorem dX1_openBorders_74 : decode cX1_openBorders 74 = .ok (.iconst 1, 1) := by decide +kernel
theorem dX1_openBorders_75 : decode cX1_openBorders 75 = .ok (.isub, 1) := by decide +kernel
theorem dX1_openBorders_76 : decode cX1_openBorders 76 = .ok (.if_icmp .ne 9, 3) := by decide +kernel
theorem dX1_openBorders_79 : decode cX1_openBorders 79 = .ok (.aload_n 0, 1) := by decide +kernel
theorem dX1_openBorders_80 : decode cX1_openBorders 80 = .ok (.iconst 0, 1) := by decide +kernel
theorem dX1_openBorders_81 : decode cX1_openBorders 81 = .ok (.iload_n 3, 1) := by decide +kernel
theorem dX1_openBorders_82 : decode cX1_openBorders 82 = .ok (.invokevirtual 99, 3) := by decide +kernel
theorem dX1_openBorders_85 : decode cX1_openBorders 85 = .ok (.iinc 3 1, 3) := by decide +kernel
theorem dX1_openBorders_88 : decode cX1_openBorders 88 = .ok (.goto (-61), 3) := by decide +kernel
theorem dX1_openBorders_91 : decode cX1_openBorders 91 = .ok (.return_, 1) := by decide +kernel
theorem dX1_unite_0 : decode cX1_unite 0 = .ok (.aload_n 0, 1) := by decide +kernel
theorem dX1_unite_1 : decode cX1_unite 1 = .ok (.iload_n 1, 1) := by decide +kernel
theorem dX1_unite_2 : decode cX1_unite 2 = .ok (.invokevirtual 107, 3) := by decide +kernel
theorem dX1_unite_5 : decode cX1_unite 5 = .ok (.istore_n 3, 1) := by decide +kernel
theorem dX1_unite_6 : decode cX1_unite 6 = .ok (.aload_n 0, 1) := by decide +kernel
theorem dX1_unite_7 : decode cX1_unite 7 = .ok (.iload_n 2, 1) := by decide +kernel
theorem dX1_unite_8 : decode cX1_unite 8 = .ok (.invokevirtual 107, 3) := by decide +kernel
theorem dX1_unite_11 : decode cX1_unite 11 = .ok (.istore 4, 2) := by decide +kernel
theorem dX1_unite_13 : decode cX1_unite 13 = .ok (.iload_n 3, 1) := by decide +kernel
theorem dX1_unite_14 : decode cX1_unite 14 = .ok (.iload 4, 2) := by decide +kernel
theorem dX1_unite_16 : decode cX1_unite 16 = .ok (.if_icmp .ge 15, 3) := by decide +kernel
theorem dX1_unite_19 : decode cX1_unite 19 = .ok (.aload_n 0, 1) := by decide +kernel
theorem dX1_unite_20 : decode cX1_unite 20 = .ok (.getfield 24, 3) := by decide +kernel
theorem dX1_unite_23 : decode cX1_unite 23 = .ok (.iload 4, 2) := by decide +kernel
theorem dX1_unite_25 : decode cX1_unite 25 = .ok (.iload_n 3, 1) := by decide +kernel
theorem dX1_unite_26 : decode cX1_unite 26 = .ok (.i2s, 1) := by decide +kernel
theorem dX1_unite_27 : decode cX1_unite 27 = .ok (.sastore, 1) := by decide +kernel
theorem dX1_unite_28 : decode cX1_unite 28 = .ok (.goto 12, 3) := by decide +kernel
theorem dX1_unite_31 : decode cX1_unite 31 = .ok (.aload_n 0, 1) := by decide +kernel
theorem dX1_unite_32 : decode cX1_unite 32 = .ok (.getfield 24, 3) := by decide +kernel
theorem dX1_unite_35 : decode cX1_unite 35 = .ok (.iload_n 3, 1) := by decide +kernel
theorem dX1_unite_36 : decode cX1_unite 36 = .ok (.iload 4, 2) := by decide +kernel
theorem dX1_unite_38 : decode cX1_unite 38 = .ok (.i2s, 1) := by decide +kernel
theorem dX1_unite_39 : decode cX1_unite 39 = .ok (.sastore, 1) := by decide +kernel
theorem dX1_unite_40 : decode cX1_unite 40 = .ok (.return_, 1) := by decide +kernel
theorem dX1_first_0 : decode cX1_first 0 = .ok (.iload_n 1, 1) := by decide +kernel
theorem dX1_first_1 : decode cX1_first 1 = .ok (.istore_n 2, 1) := by decide +kernel
theorem dX1_first_2 : decode cX1_first 2 = .ok (.aload_n 0, 1) := by decide +kernel
theorem dX1_first_3 : decode cX1_first 3 = .ok (.getfield 24, 3) := by decide +kernel
theorem dX1_first_6 : decode cX1_first 6 = .ok (.iload_n 2, 1) := by decide +kernel
theorem dX1_first_7 : decode cX1_first 7 = .ok (.saload, 1) := by decide +kernel
theorem dX1_first_8 : decode cX1_first 8 = .ok (.iload_n 2, 1) := by decide +kernel
theorem dX1_first_9 : decode cX1_first 9 = .ok (.if_icmp .eq 13, 3) := by decide +kernel
theorem dX1_first_12 : decode cX1_first 12 = .ok (.aload_n 0, 1) := by decide +kernel
theorem dX1_first_13 : decode cX1_first 13 = .ok (.getfield 24, 3) := by decide +kernel
theorem dX1_first_16 : decode cX1_first 16 = .ok (.iload_n 2, 1) := by decide +kernel
theorem dX1_first_17 : decode cX1_first 17 = .ok (.saload, 1) := by decide +kernel
theorem dX1_first_18 : decode cX1_first 18 = .ok (.istore_n 2, 1) := by decide +kernel
theorem dX1_first_19 : decode cX1_first 19 = .ok (.goto (-17), 3) := by decide +kernel
theorem dX1_first_22 : decode cX1_first 22 = .ok (.iload_n 2, 1) := by decide +kernel
theorem dX1_first_23 : decode cX1_first 23 = .ok (.ireturn, 1) := by decide +kernel
theorem dX1_touchAbove_0 : decode cX1_touchAbove 0 = .ok (.aload_n 0, 1) := by decide +kernel
theorem dX1_touchAbove_1 : decode cX1_touchAbove 1 = .ok (.getfield 28, 3) := by decide +kernel
theorem dX1_touchAbove_4 : decode cX1_touchAbove 4 = .ok (.iload_n 1, 1) := by decide +kernel
theorem dX1_touchAbove_5 : decode cX1_touchAbove 5 = .ok (.iconst 1, 1) := by decide +kernel
theorem dX1_touchAbove_6 : decode cX1_touchAbove 6 = .ok (.isub, 1) := by decide +kernel
theorem dX1_touchAbove_7 : decode cX1_touchAbove 7 = .ok (.saload, 1) := by decide +kernel
theorem dX1_touchAbove_8 : decode cX1_touchAbove 8 = .ok (.istore_n 2, 1) := by decide +kernel
theorem dX1_touchAbove_9 : decode cX1_touchAbove 9 = .ok (.aload_n 0, 1) := by decide +kernel
theorem dX1_touchAbove_10 : decode cX1_touchAbove 10 = .ok (.getfield 28, 3) := by decide +kernel
theorem dX1_touchAbove_13 : decode cX1_touchAbove 13 = .ok (.iload_n 1, 1) := by decide +kernel
theorem dX1_touchAbove_14 : decode cX1_touchAbove 14 = .ok (.saload, 1) := by decide +kernel
theorem dX1_touchAbove_15 : decode cX1_touchAbove 15 = .ok (.istore_n 3, 1) := by decide +kernel
theorem dX1_touchAbove_16 : decode cX1_touchAbove 16 = .ok (.iload_n 2, 1) := by decide +kernel
theorem dX1_touchAbove_17 : decode cX1_touchAbove 17 = .ok (.aload_n 0, 1) := by decide +kernel
theorem dX1_touchAbove_18 : decode cX1_touchAbove 18 = .ok (.getfield 28, 3) := by decide +kernel
theorem dX1_touchAbove_21 : decode cX1_touchAbove 21 = .ok (.iload_n 1, 1) := by decide +kernel
theorem dX1_touchAbove_22 : decode cX1_touchAbove 22 = .ok (.saload, 1) := by decide +kernel
theorem dX1_touchAbove_23 : decode cX1_touchAbove 23 = .ok (.if_icmp .ge 137, 3) := by decide +kernel
theorem dX1_touchAbove_26 : decode cX1_touchAbove 26 = .ok (.iload_n 3, 1) := by decide +kernel
theorem dX1_touchAbove_27 : decode cX1_touchAbove 27 = .ok (.aload_n 0, 1) := by decide +kernel
theorem dX1_touchAbove_28 : decode cX1_touchAbove 28 = .ok (.getfield 28, 3) := by decide +kernel
theorem dX1_touchAbove_31 : decode cX1_touchAbove 31 = .ok (.iload_n 1, 1) := by decide +kernel
theorem dX1_touchAbove_32 : decode cX1_touchAbove 32 = .ok (.iconst 1, 1) := by decide +kernel
theorem dX1_touchAbove_33 : decode cX1_touchAbove 33 = .ok (.iadd, 1) := by decide +kernel
theorem dX1_touchAbove_34 : decode cX1_touchAbove 34 = .ok (.saload, 1) := by decide +kernel
theorem dX1_touchAbove_35 : decode cX1_touchAbove 35 = .ok (.if_icmp .ge 125, 3) := by decide +kernel
theorem dX1_touchAbove_38 : decode cX1_touchAbove 38 = .ok (.aload_n 0, 1) := by decide +kernel
theorem dX1_touchAbove_39 : decode cX1_touchAbove 39 = .ok (.getfield 20, 3) := by decide +kernel
theorem dX1_touchAbove_42 : decode cX1_touchAbove 42 = .ok (.iload_n 2, 1) := by decide +kernel
theorem dX1_touchAbove_43 : decode cX1_touchAbove 43 = .ok (.baload, 1) := by decide +kernel
theorem dX1_touchAbove_44 : decode cX1_touchAbove 44 = .ok (.ifCond .eq 7, 3) := by decide +kernel
theorem dX1_touchAbove_47 : decode cX1_touchAbove 47 = .ok (.iconst 1, 1) := by decide +kernel
theorem dX1_touchAbove_48 : decode cX1_touchAbove 48 = .ok (.goto 4, 3) := by decide +kernel
theorem dX1_touchAbove_51 : decode cX1_touchAbove 51 = .ok (.iconst 0, 1) := by decide +kernel
theorem dX1_touchAbove_52 : decode cX1_touchAbove 52 = .ok (.istore 4, 2) := by decide +kernel
theorem dX1_touchAbove_54 : decode cX1_touchAbove 54 = .ok (.aload_n 0, 1) := by decide +kernel
theorem dX1_touchAbove_55 : decode cX1_touchAbove 55 = .ok (.getfield 20, 3) := by decide +kernel
theorem dX1_touchAbove_58 : decode cX1_touchAbove 58 = .ok (.iload_n 2, 1) := by decide +kernel
theorem dX1_touchAbove_59 : decode cX1_touchAbove 59 = .ok (.baload, 1) := by decide +kernel
theorem dX1_touchAbove_60 : decode cX1_touchAbove 60 = .ok (.aload_n 0, 1) := by decide +kernel
theorem dX1_touchAbove_61 : decode cX1_touchAbove 61 = .ok (.getfield 20, 3) := by decide +kernel
theorem dX1_touchAbove_64 : decode cX1_touchAbove 64 = .ok (.iload_n 3, 1) := by decide +kernel
theorem dX1_touchAbove_65 : decode cX1_touchAbove 65 = .ok (.baload, 1) := by decide +kernel
theorem dX1_touchAbove_66 : decode cX1_touchAbove 66 = .ok (.if_icmp .ne 45, 3) := by decide +kernel
theorem dX1_touchAbove_69 : decode cX1_touchAbove 69 = .ok (.aload_n 0, 1) := by decide +kernel
theorem dX1_touchAbove_70 : decode cX1_touchAbove 70 = .ok (.getfield 13, 3) := by decide +kernel
theorem dX1_touchAbove_73 : decode cX1_touchAbove 73 = .ok (.iload_n 2, 1) := by decide +kernel
theorem dX1_touchAbove_74 : decode cX1_touchAbove 74 = .ok (.baload, 1) := by decide +kernel
theorem dX1_touchAbove_75 : decode cX1_touchAbove 75 = .ok (.aload_n 0, 1) := by decide +kernel
end
section
set_option maxRecDepth 100000
theorem dX1_touchAbove_76 : decode cX1_touchAbove 76 = .ok (.getfield 17, 3) := by decide +kernel
theorem dX1_touchAbove_79 : decode cX1_touchAbove 79 = .ok (.iload_n 3, 1) := by decide +kernel
theorem dX1_touchAbove_80 : decode cX1_touchAbove 80 = .ok (.baload, 1) := by decide +kernel
theorem dX1_touchAbove_81 : decode cX1_touchAbove 81 = .ok (.iload 4, 2) := by decide +kernel
theorem dX1_touchAbove_83 : decode cX1_touchAbove 83 = .ok (.iadd, 1) := by decide +kernel
theorem dX1_touchAbove_84 : decode cX1_touchAbove 84 = .ok (.if_icmp .gt 27, 3) := by decide +kernel
theorem dX1_touchAbove_87 : decode cX1_touchAbove 87 = .ok (.aload_n 0, 1) := by decide +kernel
theorem dX1_touchAbove_88 : decode cX1_touchAbove 88 = .ok (.getfield 13, 3) := by decide +kernel
theorem dX1_touchAbove_91 : decode cX1_touchAbove 91 = .ok (.iload_n 3, 1) := by decide +kernel
theorem dX1_touchAbove_92 : decode cX1_touchAbove 92 = .ok (.baload, 1) := by decide +kernel
theorem dX1_touchAbove_93 : decode cX1_touchAbove 93 = .ok (.aload_n 0, 1) := by decide +kernel
theorem dX1_touchAbove_94 : decode cX1_touchAbove 94 = .ok (.getfield 17, 3) := by decide +kernel
theorem dX1_touchAbove_97 : decode cX1_touchAbove 97 = .ok (.iload_n 2, 1) := by decide +kernel
theorem dX1_touchAbove_98 : decode cX1_touchAbove 98 = .ok (.baload, 1) := by decide +kernel
theorem dX1_touchAbove_99 : decode cX1_touchAbove 99 = .ok (.iload 4, 2) := by decide +kernel
theorem dX1_touchAbove_101 : decode cX1_touchAbove 101 = .ok (.iadd, 1) := by decide +kernel
theorem dX1_touchAbove_102 : decode cX1_touchAbove 102 = .ok (.if_icmp .gt 9, 3) := by decide +kernel
theorem dX1_touchAbove_105 : decode cX1_touchAbove 105 = .ok (.aload_n 0, 1) := by decide +kernel
theorem dX1_touchAbove_106 : decode cX1_touchAbove 106 = .ok (.iload_n 2, 1) := by decide +kernel
theorem dX1_touchAbove_107 : decode cX1_touchAbove 107 = .ok (.iload_n 3, 1) := by decide +kernel
theorem dX1_touchAbove_108 : decode cX1_touchAbove 108 = .ok (.invokevirtual 99, 3) := by decide +kernel
theorem dX1_touchAbove_111 : decode cX1_touchAbove 111 = .ok (.aload_n 0, 1) := by decide +kernel
theorem dX1_touchAbove_112 : decode cX1_touchAbove 112 = .ok (.getfield 20, 3) := by decide +kernel
theorem dX1_touchAbove_115 : decode cX1_touchAbove 115 = .ok (.iload_n 2, 1) := by decide +kernel
theorem dX1_touchAbove_116 : decode cX1_touchAbove 116 = .ok (.baload, 1) := by decide +kernel
theorem dX1_touchAbove_117 : decode cX1_touchAbove 117 = .ok (.aload_n 0, 1) := by decide +kernel
theorem dX1_touchAbove_118 : decode cX1_touchAbove 118 = .ok (.getfield 20, 3) := by decide +kernel
theorem dX1_touchAbove_121 : decode cX1_touchAbove 121 = .ok (.iload_n 3, 1) := by decide +kernel
theorem dX1_touchAbove_122 : decode cX1_touchAbove 122 = .ok (.baload, 1) := by decide +kernel
theorem dX1_touchAbove_123 : decode cX1_touchAbove 123 = .ok (.if_icmp .eq 10, 3) := by decide +kernel
theorem dX1_touchAbove_126 : decode cX1_touchAbove 126 = .ok (.aload_n 0, 1) := by decide +kernel
theorem dX1_touchAbove_127 : decode cX1_touchAbove 127 = .ok (.iload_n 2, 1) := by decide +kernel
theorem dX1_touchAbove_128 : decode cX1_touchAbove 128 = .ok (.iload_n 3, 1) := by decide +kernel
theorem dX1_touchAbove_129 : decode cX1_touchAbove 129 = .ok (.iload_n 1, 1) := by decide +kernel
theorem dX1_touchAbove_130 : decode cX1_touchAbove 130 = .ok (.invokevirtual 103, 3) := by decide +kernel
theorem dX1_touchAbove_133 : decode cX1_touchAbove 133 = .ok (.aload_n 0, 1) := by decide +kernel
theorem dX1_touchAbove_134 : decode cX1_touchAbove 134 = .ok (.getfield 17, 3) := by decide +kernel
theorem dX1_touchAbove_137 : decode cX1_touchAbove 137 = .ok (.iload_n 2, 1) := by decide +kernel
theorem dX1_touchAbove_138 : decode cX1_touchAbove 138 = .ok (.baload, 1) := by decide +kernel
theorem dX1_touchAbove_139 : decode cX1_touchAbove 139 = .ok (.aload_n 0, 1) := by decide +kernel
theorem dX1_touchAbove_140 : decode cX1_touchAbove 140 = .ok (.getfield 17, 3) := by decide +kernel
theorem dX1_touchAbove_143 : decode cX1_touchAbove 143 = .ok (.iload_n 3, 1) := by decide +kernel
theorem dX1_touchAbove_144 : decode cX1_touchAbove 144 = .ok (.baload, 1) := by decide +kernel
theorem dX1_touchAbove_145 : decode cX1_touchAbove 145 = .ok (.if_icmp .ge 9, 3) := by decide +kernel
theorem dX1_touchAbove_148 : decode cX1_touchAbove 148 = .ok (.iinc 2 1, 3) := by decide +kernel
theorem dX1_touchAbove_151 : decode cX1_touchAbove 151 = .ok (.goto 6, 3) := by decide +kernel
theorem dX1_touchAbove_154 : decode cX1_touchAbove 154 = .ok (.iinc 3 1, 3) := by decide +kernel
theorem dX1_touchAbove_157 : decode cX1_touchAbove 157 = .ok (.goto (-141), 3) := by decide +kernel
theorem dX1_touchAbove_160 : decode cX1_touchAbove 160 = .ok (.return_, 1) := by decide +kernel
theorem dX1_cornerAbove_0 : decode cX1_cornerAbove 0 = .ok (.aload_n 0, 1) := by decide +kernel
theorem dX1_cornerAbove_1 : decode cX1_cornerAbove 1 = .ok (.getfield 20, 3) := by decide +kernel
theorem dX1_cornerAbove_4 : decode cX1_cornerAbove 4 = .ok (.iload_n 1, 1) := by decide +kernel
theorem dX1_cornerAbove_5 : decode cX1_cornerAbove 5 = .ok (.baload, 1) := by decide +kernel
theorem dX1_cornerAbove_6 : decode cX1_cornerAbove 6 = .ok (.ifCond .ne 42, 3) := by decide +kernel
theorem dX1_cornerAbove_9 : decode cX1_cornerAbove 9 = .ok (.iload_n 1, 1) := by decide +kernel
theorem dX1_cornerAbove_10 : decode cX1_cornerAbove 10 = .ok (.iconst 1, 1) := by decide +kernel
theorem dX1_cornerAbove_11 : decode cX1_cornerAbove 11 = .ok (.iadd, 1) := by decide +kernel
theorem dX1_cornerAbove_12 : decode cX1_cornerAbove 12 = .ok (.aload_n 0, 1) := by decide +kernel
theorem dX1_cornerAbove_13 : decode cX1_cornerAbove 13 = .ok (.getfield 28, 3) := by decide +kernel
theorem dX1_cornerAbove_16 : decode cX1_cornerAbove 16 = .ok (.iload_n 3, 1) := by decide +kernel
theorem dX1_cornerAbove_17 : decode cX1_cornerAbove 17 = .ok (.saload, 1) := by decide +kernel
theorem dX1_cornerAbove_18 : decode cX1_cornerAbove 18 = .ok (.if_icmp .ge 30, 3) := by decide +kernel
theorem dX1_cornerAbove_21 : decode cX1_cornerAbove 21 = .ok (.aload_n 0, 1) := by decide +kernel
theorem dX1_cornerAbove_22 : decode cX1_cornerAbove 22 = .ok (.getfield 13, 3) := by decide +kernel
theorem dX1_cornerAbove_25 : decode cX1_cornerAbove 25 = .ok (.iload_n 1, 1) := by decide +kernel
theorem dX1_cornerAbove_26 : decode cX1_cornerAbove 26 = .ok (.iconst 1, 1) := by decide +kernel
theorem dX1_cornerAbove_27 : decode cX1_cornerAbove 27 = .ok (.iadd, 1) := by decide +kernel
theorem dX1_cornerAbove_28 : decode cX1_cornerAbove 28 = .ok (.baload, 1) := by decide +kernel
theorem dX1_cornerAbove_29 : decode cX1_cornerAbove 29 = .ok (.aload_n 0, 1) := by decide +kernel
theorem dX1_cornerAbove_30 : decode cX1_cornerAbove 30 = .ok (.getfield 17, 3) := by decide +kernel
theorem dX1_cornerAbove_33 : decode cX1_cornerAbove 33 = .ok (.iload_n 2, 1) := by decide +kernel
theorem dX1_cornerAbove_34 : decode cX1_cornerAbove 34 = .ok (.baload, 1) := by decide +kernel
theorem dX1_cornerAbove_35 : decode cX1_cornerAbove 35 = .ok (.iconst 1, 1) := by decide +kernel
theorem dX1_cornerAbove_36 : decode cX1_cornerAbove 36 = .ok (.iadd, 1) := by decide +kernel
theorem dX1_cornerAbove_37 : decode cX1_cornerAbove 37 = .ok (.if_icmp .ne 11, 3) := by decide +kernel
theorem dX1_cornerAbove_40 : decode cX1_cornerAbove 40 = .ok (.aload_n 0, 1) := by decide +kernel
theorem dX1_cornerAbove_41 : decode cX1_cornerAbove 41 = .ok (.iload_n 1, 1) := by decide +kernel
theorem dX1_cornerAbove_42 : decode cX1_cornerAbove 42 = .ok (.iconst 1, 1) := by decide +kernel
theorem dX1_cornerAbove_43 : decode cX1_cornerAbove 43 = .ok (.iadd, 1) := by decide +kernel
theorem dX1_cornerAbove_44 : decode cX1_cornerAbove 44 = .ok (.iload_n 2, 1) := by decide +kernel
theorem dX1_cornerAbove_45 : decode cX1_cornerAbove 45 = .ok (.invokevirtual 99, 3) := by decide +kernel
theorem dX1_cornerAbove_48 : decode cX1_cornerAbove 48 = .ok (.aload_n 0, 1) := by decide +kernel
theorem dX1_cornerAbove_49 : decode cX1_cornerAbove 49 = .ok (.getfield 20, 3) := by decide +kernel
theorem dX1_cornerAbove_52 : decode cX1_cornerAbove 52 = .ok (.iload_n 2, 1) := by decide +kernel
theorem dX1_cornerAbove_53 : decode cX1_cornerAbove 53 = .ok (.baload, 1) := by decide +kernel
theorem dX1_cornerAbove_54 : decode cX1_cornerAbove 54 = .ok (.ifCond .ne 44, 3) := by decide +kernel
theorem dX1_cornerAbove_57 : decode cX1_cornerAbove 57 = .ok (.iload_n 2, 1) := by decide +kernel
theorem dX1_cornerAbove_58 : decode cX1_cornerAbove 58 = .ok (.iconst 1, 1) := by decide +kernel
theorem dX1_cornerAbove_59 : decode cX1_cornerAbove 59 = .ok (.iadd, 1) := by decide +kernel
theorem dX1_cornerAbove_60 : decode cX1_cornerAbove 60 = .ok (.aload_n 0, 1) := by decide +kernel
theorem dX1_cornerAbove_61 : decode cX1_cornerAbove 61 = .ok (.getfield 28, 3) := by decide +kernel
theorem dX1_cornerAbove_64 : decode cX1_cornerAbove 64 = .ok (.iload_n 3, 1) := by decide +kernel
theorem dX1_cornerAbove_65 : decode cX1_cornerAbove 65 = .ok (.iconst 1, 1) := by decide +kernel
theorem dX1_cornerAbove_66 : decode cX1_cornerAbove 66 = .ok (.iadd, 1) := by decide +kernel
theorem dX1_cornerAbove_67 : decode cX1_cornerAbove 67 = .ok (.saload, 1) := by decide +kernel
theorem dX1_cornerAbove_68 : decode cX1_cornerAbove 68 = .ok (.if_icmp .ge 30, 3) := by decide +kernel
theorem dX1_cornerAbove_71 : decode cX1_cornerAbove 71 = .ok (.aload_n 0, 1) := by decide +kernel
theorem dX1_cornerAbove_72 : decode cX1_cornerAbove 72 = .ok (.getfield 13, 3) := by decide +kernel
theorem dX1_cornerAbove_75 : decode cX1_cornerAbove 75 = .ok (.iload_n 2, 1) := by decide +kernel
theorem dX1_cornerAbove_76 : decode cX1_cornerAbove 76 = .ok (.iconst 1, 1) := by decide +kernel
theorem dX1_cornerAbove_77 : decode cX1_cornerAbove 77 = .ok (.iadd, 1) := by decide +kernel
theorem dX1_cornerAbove_78 : decode cX1_cornerAbove 78 = .ok (.baload, 1) := by decide +kernel
theorem dX1_cornerAbove_79 : decode cX1_cornerAbove 79 = .ok (.aload_n 0, 1) := by decide +kernel
theorem dX1_cornerAbove_80 : decode cX1_cornerAbove 80 = .ok (.getfield 17, 3) := by decide +kernel
theorem dX1_cornerAbove_83 : decode cX1_cornerAbove 83 = .ok (.iload_n 1, 1) := by decide +kernel
theorem dX1_cornerAbove_84 : decode cX1_cornerAbove 84 = .ok (.baload, 1) := by decide +kernel
theorem dX1_cornerAbove_85 : decode cX1_cornerAbove 85 = .ok (.iconst 1, 1) := by decide +kernel
theorem dX1_cornerAbove_86 : decode cX1_cornerAbove 86 = .ok (.iadd, 1) := by decide +kernel
theorem dX1_cornerAbove_87 : decode cX1_cornerAbove 87 = .ok (.if_icmp .ne 11, 3) := by decide +kernel
theorem dX1_cornerAbove_90 : decode cX1_cornerAbove 90 = .ok (.aload_n 0, 1) := by decide +kernel
theorem dX1_cornerAbove_91 : decode cX1_cornerAbove 91 = .ok (.iload_n 1, 1) := by decide +kernel
theorem dX1_cornerAbove_92 : decode cX1_cornerAbove 92 = .ok (.iload_n 2, 1) := by decide +kernel
theorem dX1_cornerAbove_93 : decode cX1_cornerAbove 93 = .ok (.iconst 1, 1) := by decide +kernel
theorem dX1_cornerAbove_94 : decode cX1_cornerAbove 94 = .ok (.iadd, 1) := by decide +kernel
theorem dX1_cornerAbove_95 : decode cX1_cornerAbove 95 = .ok (.invokevirtual 99, 3) := by decide +kernel
theorem dX1_cornerAbove_98 : decode cX1_cornerAbove 98 = .ok (.return_, 1) := by decide +kernel
theorem dX1_settleRuns_0 : decode cX1_settleRuns 0 = .ok (.aload_n 0, 1) := by decide +kernel
theorem dX1_settleRuns_1 : decode cX1_settleRuns 1 = .ok (.iconst 0, 1) := by decide +kernel
theorem dX1_settleRuns_2 : decode cX1_settleRuns 2 = .ok (.putfield 70, 3) := by decide +kernel
theorem dX1_settleRuns_5 : decode cX1_settleRuns 5 = .ok (.aload_n 0, 1) := by decide +kernel
theorem dX1_settleRuns_6 : decode cX1_settleRuns 6 = .ok (.iconst 1, 1) := by decide +kernel
theorem dX1_settleRuns_7 : decode cX1_settleRuns 7 = .ok (.putfield 73, 3) := by decide +kernel
theorem dX1_settleRuns_10 : decode cX1_settleRuns 10 = .ok (.aload_n 0, 1) := by decide +kernel
theorem dX1_settleRuns_11 : decode cX1_settleRuns 11 = .ok (.getfield 37, 3) := by decide +kernel
theorem dX1_settleRuns_14 : decode cX1_settleRuns 14 = .ok (.iconst 0, 1) := by decide +kernel
theorem dX1_settleRuns_15 : decode cX1_settleRuns 15 = .ok (.iconst 0, 1) := by decide +kernel
theorem dX1_settleRuns_16 : decode cX1_settleRuns 16 = .ok (.sastore, 1) := by decide +kernel
theorem dX1_settleRuns_17 : decode cX1_settleRuns 17 = .ok (.aload_n 0, 1) := by decide +kernel
theorem dX1_settleRuns_18 : decode cX1_settleRuns 18 = .ok (.getfield 34, 3) := by decide +kernel
theorem dX1_settleRuns_21 : decode cX1_settleRuns 21 = .ok (.iconst 0, 1) := by decide +kernel
theorem dX1_settleRuns_22 : decode cX1_settleRuns 22 = .ok (.iconst 0, 1) := by decide +kernel
theorem dX1_settleRuns_23 : decode cX1_settleRuns 23 = .ok (.bastore, 1) := by decide +kernel
theorem dX1_settleRuns_24 : decode cX1_settleRuns 24 = .ok (.aload_n 0, 1) := by decide +kernel
theorem dX1_settleRuns_25 : decode cX1_settleRuns 25 = .ok (.getfield 31, 3) := by decide +kernel
theorem dX1_settleRuns_28 : decode cX1_settleRuns 28 = .ok (.iconst 0, 1) := by decide +kernel
theorem dX1_settleRuns_29 : decode cX1_settleRuns 29 = .ok (.iconst 0, 1) := by decide +kernel
theorem dX1_settleRuns_30 : decode cX1_settleRuns 30 = .ok (.sastore, 1) := by decide +kernel
theorem dX1_settleRuns_31 : decode cX1_settleRuns 31 = .ok (.iconst 1, 1) := by decide +kernel
theorem dX1_settleRuns_32 : decode cX1_settleRuns 32 = .ok (.istore_n 1, 1) := by decide +kernel
theorem dX1_settleRuns_33 : decode cX1_settleRuns 33 = .ok (.iload_n 1, 1) := by decide +kernel
theorem dX1_settleRuns_34 : decode cX1_settleRuns 34 = .ok (.aload_n 0, 1) := by decide +kernel
theorem dX1_settleRuns_35 : decode cX1_settleRuns 35 = .ok (.getfield 80, 3) := by decide +kernel
theorem dX1_settleRuns_38 : decode cX1_settleRuns 38 = .ok (.if_icmp .ge 178, 3) := by decide +kernel
theorem dX1_settleRuns_41 : decode cX1_settleRuns 41 = .ok (.aload_n 0, 1) := by decide +kernel
theorem dX1_settleRuns_42 : decode cX1_settleRuns 42 = .ok (.getfield 17, 3) := by decide +kernel
theorem dX1_settleRuns_45 : decode cX1_settleRuns 45 = .ok (.iload_n 1, 1) := by decide +kernel
theorem dX1_settleRuns_46 : decode cX1_settleRuns 46 = .ok (.baload, 1) := by decide +kernel
theorem dX1_settleRuns_47 : decode cX1_settleRuns 47 = .ok (.aload_n 0, 1) := by decide +kernel
theorem dX1_settleRuns_48 : decode cX1_settleRuns 48 = .ok (.getfield 13, 3) := by decide +kernel
theorem dX1_settleRuns_51 : decode cX1_settleRuns 51 = .ok (.iload_n 1, 1) := by decide +kernel
theorem dX1_settleRuns_52 : decode cX1_settleRuns 52 = .ok (.baload, 1) := by decide +kernel
theorem dX1_settleRuns_53 : decode cX1_settleRuns 53 = .ok (.isub, 1) := by decide +kernel
theorem dX1_settleRuns_54 : decode cX1_settleRuns 54 = .ok (.iconst 1, 1) := by decide +kernel
theorem dX1_settleRuns_55 : decode cX1_settleRuns 55 = .ok (.iadd, 1) := by decide +kernel
theorem dX1_settleRuns_56 : decode cX1_settleRuns 56 = .ok (.istore_n 2, 1) := by decide +kernel
theorem dX1_settleRuns_57 : decode cX1_settleRuns 57 = .ok (.aload_n 0, 1) := by decide +kernel
theorem dX1_settleRuns_58 : decode cX1_settleRuns 58 = .ok (.getfield 24, 3) := by decide +kernel
theorem dX1_settleRuns_61 : decode cX1_settleRuns 61 = .ok (.iload_n 1, 1) := by decide +kernel
theorem dX1_settleRuns_62 : decode cX1_settleRuns 62 = .ok (.aload_n 0, 1) := by decide +kernel
theorem dX1_settleRuns_63 : decode cX1_settleRuns 63 = .ok (.getfield 24, 3) := by decide +kernel
theorem dX1_settleRuns_66 : decode cX1_settleRuns 66 = .ok (.aload_n 0, 1) := by decide +kernel
theorem dX1_settleRuns_67 : decode cX1_settleRuns 67 = .ok (.getfield 24, 3) := by decide +kernel
theorem dX1_settleRuns_70 : decode cX1_settleRuns 70 = .ok (.iload_n 1, 1) := by decide +kernel
theorem dX1_settleRuns_71 : decode cX1_settleRuns 71 = .ok (.saload, 1) := by decide +kernel
theorem dX1_settleRuns_72 : decode cX1_settleRuns 72 = .ok (.saload, 1) := by decide +kernel
theorem dX1_settleRuns_73 : decode cX1_settleRuns 73 = .ok (.sastore, 1) := by decide +kernel
theorem dX1_settleRuns_74 : decode cX1_settleRuns 74 = .ok (.aload_n 0, 1) := by decide +kernel
theorem dX1_settleRuns_75 : decode cX1_settleRuns 75 = .ok (.getfield 24, 3) := by decide +kernel
theorem dX1_settleRuns_78 : decode cX1_settleRuns 78 = .ok (.iload_n 1, 1) := by decide +kernel
theorem dX1_settleRuns_79 : decode cX1_settleRuns 79 = .ok (.saload, 1) := by decide +kernel
theorem dX1_settleRuns_80 : decode cX1_settleRuns 80 = .ok (.istore_n 3, 1) := by decide +kernel
theorem dX1_settleRuns_81 : decode cX1_settleRuns 81 = .ok (.iload_n 3, 1) := by decide +kernel
theorem dX1_settleRuns_82 : decode cX1_settleRuns 82 = .ok (.iload_n 1, 1) := by decide +kernel
theorem dX1_settleRuns_83 : decode cX1_settleRuns 83 = .ok (.if_icmp .eq 17, 3) := by decide +kernel
theorem dX1_settleRuns_86 : decode cX1_settleRuns 86 = .ok (.aload_n 0, 1) := by decide +kernel
theorem dX1_settleRuns_87 : decode cX1_settleRuns 87 = .ok (.getfield 37, 3) := by decide +kernel
theorem dX1_settleRuns_90 : decode cX1_settleRuns 90 = .ok (.iload_n 3, 1) := by decide +kernel
theorem dX1_settleRuns_91 : decode cX1_settleRuns 91 = .ok (.dup2, 1) := by decide +kernel
theorem dX1_settleRuns_92 : decode cX1_settleRuns 92 = .ok (.saload, 1) := by decide +kernel
theorem dX1_settleRuns_93 : decode cX1_settleRuns 93 = .ok (.iload_n 2, 1) := by decide +kernel
theorem dX1_settleRuns_94 : decode cX1_settleRuns 94 = .ok (.iadd, 1) := by decide +kernel
theorem dX1_settleRuns_95 : decode cX1_settleRuns 95 = .ok (.i2s, 1) := by decide +kernel
theorem dX1_settleRuns_96 : decode cX1_settleRuns 96 = .ok (.sastore, 1) := by decide +kernel
theorem dX1_settleRuns_97 : decode cX1_settleRuns 97 = .ok (.goto 113, 3) := by decide +kernel
theorem dX1_settleRuns_100 : decode cX1_settleRuns 100 = .ok (.aload_n 0, 1) := by decide +kernel
theorem dX1_settleRuns_101 : decode cX1_settleRuns 101 = .ok (.getfield 37, 3) := by decide +kernel
theorem dX1_settleRuns_104 : decode cX1_settleRuns 104 = .ok (.iload_n 1, 1) := by decide +kernel
theorem dX1_settleRuns_105 : decode cX1_settleRuns 105 = .ok (.iload_n 2, 1) := by decide +kernel
theorem dX1_settleRuns_106 : decode cX1_settleRuns 106 = .ok (.i2s, 1) := by decide +kernel
theorem dX1_settleRuns_107 : decode cX1_settleRuns 107 = .ok (.sastore, 1) := by decide +kernel
theorem dX1_settleRuns_108 : decode cX1_settleRuns 108 = .ok (.aload_n 0, 1) := by decide +kernel
theorem dX1_settleRuns_109 : decode cX1_settleRuns 109 = .ok (.getfield 13, 3) := by decide +kernel
theorem dX1_settleRuns_112 : decode cX1_settleRuns 112 = .ok (.iload_n 1, 1) := by decide +kernel
theorem dX1_settleRuns_113 : decode cX1_settleRuns 113 = .ok (.baload, 1) := by decide +kernel
theorem dX1_settleRuns_114 : decode cX1_settleRuns 114 = .ok (.ifCond .ne 7, 3) := by decide +kernel
theorem dX1_settleRuns_117 : decode cX1_settleRuns 117 = .ok (.iconst 0, 1) := by decide +kernel
theorem dX1_settleRuns_118 : decode cX1_settleRuns 118 = .ok (.goto 11, 3) := by decide +kernel
theorem dX1_settleRuns_121 : decode cX1_settleRuns 121 = .ok (.aload_n 0, 1) := by decide +kernel
theorem dX1_settleRuns_122 : decode cX1_settleRuns 122 = .ok (.getfield 24, 3) := by decide +kernel
theorem dX1_settleRuns_125 : decode cX1_settleRuns 125 = .ok (.iload_n 1, 1) := by decide +kernel
theorem dX1_settleRuns_126 : decode cX1_settleRuns 126 = .ok (.iconst 1, 1) := by decide +kernel
theorem dX1_settleRuns_127 : decode cX1_settleRuns 127 = .ok (.isub, 1) := by decide +kernel
theorem dX1_settleRuns_128 : decode cX1_settleRuns 128 = .ok (.saload, 1) := by decide +kernel
theorem dX1_settleRuns_129 : decode cX1_settleRuns 129 = .ok (.istore 4, 2) := by decide +kernel
theorem dX1_settleRuns_131 : decode cX1_settleRuns 131 = .ok (.aload_n 0, 1) := by decide +kernel
theorem dX1_settleRuns_132 : decode cX1_settleRuns 132 = .ok (.getfield 31, 3) := by decide +kernel
theorem dX1_settleRuns_135 : decode cX1_settleRuns 135 = .ok (.iload_n 1, 1) := by decide +kernel
theorem dX1_settleRuns_136 : decode cX1_settleRuns 136 = .ok (.iload 4, 2) := by decide +kernel
theorem dX1_settleRuns_138 : decode cX1_settleRuns 138 = .ok (.i2s, 1) := by decide +kernel
theorem dX1_settleRuns_139 : decode cX1_settleRuns 139 = .ok (.sastore, 1) := by decide +kernel
theorem dX1_settleRuns_140 : decode cX1_settleRuns 140 = .ok (.aload_n 0, 1) := by decide +kernel
theorem dX1_settleRuns_141 : decode cX1_settleRuns 141 = .ok (.getfield 34, 3) := by decide +kernel
theorem dX1_settleRuns_144 : decode cX1_settleRuns 144 = .ok (.iload_n 1, 1) := by decide +kernel
theorem dX1_settleRuns_145 : decode cX1_settleRuns 145 = .ok (.aload_n 0, 1) := by decide +kernel
theorem dX1_settleRuns_146 : decode cX1_settleRuns 146 = .ok (.getfield 34, 3) := by decide +kernel
theorem dX1_settleRuns_149 : decode cX1_settleRuns 149 = .ok (.iload 4, 2) := by decide +kernel
theorem dX1_settleRuns_151 : decode cX1_settleRuns 151 = .ok (.baload, 1) := by decide +kernel
theorem dX1_settleRuns_152 : decode cX1_settleRuns 152 = .ok (.iconst 1, 1) := by decide +kernel
theorem dX1_settleRuns_153 : decode cX1_settleRuns 153 = .ok (.iadd, 1) := by decide +kernel
theorem dX1_settleRuns_154 : decode cX1_settleRuns 154 = .ok (.i2b, 1) := by decide +kernel
theorem dX1_settleRuns_155 : decode cX1_settleRuns 155 = .ok (.bastore, 1) := by decide +kernel
theorem dX1_settleRuns_156 : decode cX1_settleRuns 156 = .ok (.aload_n 0, 1) := by decide +kernel
theorem dX1_settleRuns_157 : decode cX1_settleRuns 157 = .ok (.getfield 20, 3) := by decide +kernel
theorem dX1_settleRuns_160 : decode cX1_settleRuns 160 = .ok (.iload_n 1, 1) := by decide +kernel
theorem dX1_settleRuns_161 : decode cX1_settleRuns 161 = .ok (.baload, 1) := by decide +kernel
theorem dX1_settleRuns_162 : decode cX1_settleRuns 162 = .ok (.ifCond .eq 38, 3) := by decide +kernel
theorem dX1_settleRuns_165 : decode cX1_settleRuns 165 = .ok (.aload_n 0, 1) := by decide +kernel
theorem dX1_settleRuns_166 : decode cX1_settleRuns 166 = .ok (.getfield 46, 3) := by decide +kernel
theorem dX1_settleRuns_169 : decode cX1_settleRuns 169 = .ok (.iload_n 1, 1) := by decide +kernel
theorem dX1_settleRuns_170 : decode cX1_settleRuns 170 = .ok (.aload_n 0, 1) := by decide +kernel
theorem dX1_settleRuns_171 : decode cX1_settleRuns 171 = .ok (.getfield 70, 3) := by decide +kernel
theorem dX1_settleRuns_174 : decode cX1_settleRuns 174 = .ok (.i2s, 1) := by decide +kernel
theorem dX1_settleRuns_175 : decode cX1_settleRuns 175 = .ok (.sastore, 1) := by decide +kernel
theorem dX1_settleRuns_176 : decode cX1_settleRuns 176 = .ok (.aload_n 0, 1) := by decide +kernel
theorem dX1_settleRuns_177 : decode cX1_settleRuns 177 = .ok (.getfield 49, 3) := by decide +kernel
theorem dX1_settleRuns_180 : decode cX1_settleRuns 180 = .ok (.aload_n 0, 1) := by decide +kernel
theorem dX1_settleRuns_181 : decode cX1_settleRuns 181 = .ok (.getfield 70, 3) := by decide +kernel
theorem dX1_settleRuns_184 : decode cX1_settleRuns 184 = .ok (.iload_n 1, 1) := by decide +kernel
theorem dX1_settleRuns_185 : decode cX1_settleRuns 185 = .ok (.i2s, 1) := by decide +kernel
theorem dX1_settleRuns_186 : decode cX1_settleRuns 186 = .ok (.sastore, 1) := by decide +kernel
theorem dX1_settleRuns_187 : decode cX1_settleRuns 187 = .ok (.aload_n 0, 1) := by decide +kernel
theorem dX1_settleRuns_188 : decode cX1_settleRuns 188 = .ok (.dup, 1) := by decide +kernel
theorem dX1_settleRuns_189 : decode cX1_settleRuns 189 = .ok (.getfield 70, 3) := by decide +kernel
theorem dX1_settleRuns_192 : decode cX1_settleRuns 192 = .ok (.iconst 1, 1) := by decide +kernel
theorem dX1_settleRuns_193 : decode cX1_settleRuns 193 = .ok (.iadd, 1) := by decide +kernel
theorem dX1_settleRuns_194 : decode cX1_settleRuns 194 = .ok (.putfield 70, 3) := by decide +kernel
theorem dX1_settleRuns_197 : decode cX1_settleRuns 197 = .ok (.goto 13, 3) := by decide +kernel
theorem dX1_settleRuns_200 : decode cX1_settleRuns 200 = .ok (.aload_n 0, 1) := by decide +kernel
theorem dX1_settleRuns_201 : decode cX1_settleRuns 201 = .ok (.dup, 1) := by decide +kernel
theorem dX1_settleRuns_202 : decode cX1_settleRuns 202 = .ok (.getfield 73, 3) := by decide +kernel
theorem dX1_settleRuns_205 : decode cX1_settleRuns 205 = .ok (.iconst 1, 1) := by decide +kernel
theorem dX1_settleRuns_206 : decode cX1_settleRuns 206 = .ok (.iadd, 1) := by decide +kernel
theorem dX1_settleRuns_207 : decode cX1_settleRuns 207 = .ok (.putfield 73, 3) := by decide +kernel
theorem dX1_settleRuns_210 : decode cX1_settleRuns 210 = .ok (.iinc 1 1, 3) := by decide +kernel
theorem dX1_settleRuns_213 : decode cX1_settleRuns 213 = .ok (.goto (-180), 3) := by decide +kernel
theorem dX1_settleRuns_216 : decode cX1_settleRuns 216 = .ok (.return_, 1) := by decide +kernel
theorem dX1_sumUp_0 : decode cX1_sumUp 0 = .ok (.iconst 0, 1) := by decide +kernel
theorem dX1_sumUp_1 : decode cX1_sumUp 1 = .ok (.istore_n 1, 1) := by decide +kernel
theorem dX1_sumUp_2 : decode cX1_sumUp 2 = .ok (.iload_n 1, 1) := by decide +kernel
theorem dX1_sumUp_3 : decode cX1_sumUp 3 = .ok (.aload_n 0, 1) := by decide +kernel
theorem dX1_sumUp_4 : decode cX1_sumUp 4 = .ok (.getfield 80, 3) := by decide +kernel
theorem dX1_sumUp_7 : decode cX1_sumUp 7 = .ok (.if_icmp .ge 23, 3) := by decide +kernel
theorem dX1_sumUp_10 : decode cX1_sumUp 10 = .ok (.aload_n 0, 1) := by decide +kernel
theorem dX1_sumUp_11 : decode cX1_sumUp 11 = .ok (.getfield 40, 3) := by decide +kernel
theorem dX1_sumUp_14 : decode cX1_sumUp 14 = .ok (.iload_n 1, 1) := by decide +kernel
theorem dX1_sumUp_15 : decode cX1_sumUp 15 = .ok (.iconst 0, 1) := by decide +kernel
theorem dX1_sumUp_16 : decode cX1_sumUp 16 = .ok (.sastore, 1) := by decide +kernel
theorem dX1_sumUp_17 : decode cX1_sumUp 17 = .ok (.aload_n 0, 1) := by decide +kernel
theorem dX1_sumUp_18 : decode cX1_sumUp 18 = .ok (.getfield 43, 3) := by decide +kernel
theorem dX1_sumUp_21 : decode cX1_sumUp 21 = .ok (.iload_n 1, 1) := by decide +kernel
theorem dX1_sumUp_22 : decode cX1_sumUp 22 = .ok (.iconst 0, 1) := by decide +kernel
theorem dX1_sumUp_23 : decode cX1_sumUp 23 = .ok (.sastore, 1) := by decide +kernel
theorem dX1_sumUp_24 : decode cX1_sumUp 24 = .ok (.iinc 1 1, 3) := by decide +kernel
theorem dX1_sumUp_27 : decode cX1_sumUp 27 = .ok (.goto (-25), 3) := by decide +kernel
theorem dX1_sumUp_30 : decode cX1_sumUp 30 = .ok (.aload_n 0, 1) := by decide +kernel
theorem dX1_sumUp_31 : decode cX1_sumUp 31 = .ok (.getfield 80, 3) := by decide +kernel
theorem dX1_sumUp_34 : decode cX1_sumUp 34 = .ok (.iconst 1, 1) := by decide +kernel
theorem dX1_sumUp_35 : decode cX1_sumUp 35 = .ok (.isub, 1) := by decide +kernel
theorem dX1_sumUp_36 : decode cX1_sumUp 36 = .ok (.istore_n 1, 1) := by decide +kernel
theorem dX1_sumUp_37 : decode cX1_sumUp 37 = .ok (.iload_n 1, 1) := by decide +kernel
theorem dX1_sumUp_38 : decode cX1_sumUp 38 = .ok (.ifCond .le 72, 3) := by decide +kernel
theorem dX1_sumUp_41 : decode cX1_sumUp 41 = .ok (.aload_n 0, 1) := by decide +kernel
theorem dX1_sumUp_42 : decode cX1_sumUp 42 = .ok (.getfield 24, 3) := by decide +kernel
theorem dX1_sumUp_45 : decode cX1_sumUp 45 = .ok (.iload_n 1, 1) := by decide +kernel
theorem dX1_sumUp_46 : decode cX1_sumUp 46 = .ok (.saload, 1) := by decide +kernel
theorem dX1_sumUp_47 : decode cX1_sumUp 47 = .ok (.iload_n 1, 1) := by decide +kernel
theorem dX1_sumUp_48 : decode cX1_sumUp 48 = .ok (.if_icmp .eq 6, 3) := by decide +kernel
theorem dX1_sumUp_51 : decode cX1_sumUp 51 = .ok (.goto 53, 3) := by decide +kernel
theorem dX1_sumUp_54 : decode cX1_sumUp 54 = .ok (.aload_n 0, 1) := by decide +kernel
theorem dX1_sumUp_55 : decode cX1_sumUp 55 = .ok (.getfield 31, 3) := by decide +kernel
theorem dX1_sumUp_58 : decode cX1_sumUp 58 = .ok (.iload_n 1, 1) := by decide +kernel
theorem dX1_sumUp_59 : decode cX1_sumUp 59 = .ok (.saload, 1) := by decide +kernel
theorem dX1_sumUp_60 : decode cX1_sumUp 60 = .ok (.istore_n 2, 1) := by decide +kernel
theorem dX1_sumUp_61 : decode cX1_sumUp 61 = .ok (.aload_n 0, 1) := by decide +kernel
theorem dX1_sumUp_62 : decode cX1_sumUp 62 = .ok (.getfield 40, 3) := by decide +kernel
theorem dX1_sumUp_65 : decode cX1_sumUp 65 = .ok (.iload_n 2, 1) := by decide +kernel
theorem dX1_sumUp_66 : decode cX1_sumUp 66 = .ok (.dup2, 1) := by decide +kernel
theorem dX1_sumUp_67 : decode cX1_sumUp 67 = .ok (.saload, 1) := by decide +kernel
theorem dX1_sumUp_68 : decode cX1_sumUp 68 = .ok (.aload_n 0, 1) := by decide +kernel
theorem dX1_sumUp_69 : decode cX1_sumUp 69 = .ok (.getfield 37, 3) := by decide +kernel
theorem dX1_sumUp_72 : decode cX1_sumUp 72 = .ok (.iload_n 1, 1) := by decide +kernel
theorem dX1_sumUp_73 : decode cX1_sumUp 73 = .ok (.saload, 1) := by decide +kernel
theorem dX1_sumUp_74 : decode cX1_sumUp 74 = .ok (.aload_n 0, 1) := by decide +kernel
theorem dX1_sumUp_75 : decode cX1_sumUp 75 = .ok (.getfield 40, 3) := by decide +kernel
theorem dX1_sumUp_78 : decode cX1_sumUp 78 = .ok (.iload_n 1, 1) := by decide +kernel
theorem dX1_sumUp_79 : decode cX1_sumUp 79 = .ok (.saload, 1) := by decide +kernel
theorem dX1_sumUp_80 : decode cX1_sumUp 80 = .ok (.iadd, 1) := by decide +kernel
theorem dX1_sumUp_81 : decode cX1_sumUp 81 = .ok (.iadd, 1) := by decide +kernel
theorem dX1_sumUp_82 : decode cX1_sumUp 82 = .ok (.i2s, 1) := by decide +kernel
theorem dX1_sumUp_83 : decode cX1_sumUp 83 = .ok (.sastore, 1) := by decide +kernel
theorem dX1_sumUp_84 : decode cX1_sumUp 84 = .ok (.aload_n 0, 1) := by decide +kernel
theorem dX1_sumUp_85 : decode cX1_sumUp 85 = .ok (.getfield 20, 3) := by decide +kernel
theorem dX1_sumUp_88 : decode cX1_sumUp 88 = .ok (.iload_n 1, 1) := by decide +kernel
theorem dX1_sumUp_89 : decode cX1_sumUp 89 = .ok (.baload, 1) := by decide +kernel
theorem dX1_sumUp_90 : decode cX1_sumUp 90 = .ok (.ifCond .ne 14, 3) := by decide +kernel
theorem dX1_sumUp_93 : decode cX1_sumUp 93 = .ok (.aload_n 0, 1) := by decide +kernel
theorem dX1_sumUp_94 : decode cX1_sumUp 94 = .ok (.getfield 43, 3) := by decide +kernel
theorem dX1_sumUp_97 : decode cX1_sumUp 97 = .ok (.iload_n 2, 1) := by decide +kernel
theorem dX1_sumUp_98 : decode cX1_sumUp 98 = .ok (.dup2, 1) := by decide +kernel
theorem dX1_sumUp_99 : decode cX1_sumUp 99 = .ok (.saload, 1) := by decide +kernel
theorem dX1_sumUp_100 : decode cX1_sumUp 100 = .ok (.iconst 1, 1) := by decide +kernel
theorem dX1_sumUp_101 : decode cX1_sumUp 101 = .ok (.iadd, 1) := by decide +kernel
theorem dX1_sumUp_102 : decode cX1_sumUp 102 = .ok (.i2s, 1) := by decide +kernel
theorem dX1_sumUp_103 : decode cX1_sumUp 103 = .ok (.sastore, 1) := by decide +kernel
theorem dX1_sumUp_104 : decode cX1_sumUp 104 = .ok (.iinc 1 (-1), 3) := by decide +kernel
theorem dX1_sumUp_107 : decode cX1_sumUp 107 = .ok (.goto (-70), 3) := by decide +kernel
theorem dX1_sumUp_110 : decode cX1_sumUp 110 = .ok (.return_, 1) := by decide +kernel
theorem dX1_euler_0 : decode cX1_euler 0 = .ok (.aload_n 0, 1) := by decide +kernel
theorem dX1_euler_1 : decode cX1_euler 1 = .ok (.invokevirtual 67, 3) := by decide +kernel
theorem dX1_euler_4 : decode cX1_euler 4 = .ok (.aload_n 0, 1) := by decide +kernel
theorem dX1_euler_5 : decode cX1_euler 5 = .ok (.getfield 70, 3) := by decide +kernel
theorem dX1_euler_8 : decode cX1_euler 8 = .ok (.aload_n 0, 1) := by decide +kernel
theorem dX1_euler_9 : decode cX1_euler 9 = .ok (.getfield 73, 3) := by decide +kernel
theorem dX1_euler_12 : decode cX1_euler 12 = .ok (.iconst 1, 1) := by decide +kernel
theorem dX1_euler_13 : decode cX1_euler 13 = .ok (.isub, 1) := by decide +kernel
theorem dX1_euler_14 : decode cX1_euler 14 = .ok (.isub, 1) := by decide +kernel
theorem dX1_euler_15 : decode cX1_euler 15 = .ok (.ireturn, 1) := by decide +kernel
theorem dX1_label_0 : decode cX1_label 0 = .ok (.aload_n 0, 1) := by decide +kernel
theorem dX1_label_1 : decode cX1_label 1 = .ok (.iload_n 1, 1) := by decide +kernel
theorem dX1_label_2 : decode cX1_label 2 = .ok (.iload_n 2, 1) := by decide +kernel
theorem dX1_label_3 : decode cX1_label 3 = .ok (.invokevirtual 59, 3) := by decide +kernel
theorem dX1_label_6 : decode cX1_label 6 = .ok (.ifCond .ne 5, 3) := by decide +kernel
theorem dX1_label_9 : decode cX1_label 9 = .ok (.iconst (-1), 1) := by decide +kernel
theorem dX1_label_10 : decode cX1_label 10 = .ok (.ireturn, 1) := by decide +kernel
theorem dX1_label_11 : decode cX1_label 11 = .ok (.aload_n 0, 1) := by decide +kernel
theorem dX1_label_12 : decode cX1_label 12 = .ok (.invokevirtual 67, 3) := by decide +kernel
theorem dX1_label_15 : decode cX1_label 15 = .ok (.aload_n 0, 1) := by decide +kernel
theorem dX1_label_16 : decode cX1_label 16 = .ok (.iload_n 1, 1) := by decide +kernel
theorem dX1_label_17 : decode cX1_label 17 = .ok (.iload_n 2, 1) := by decide +kernel
theorem dX1_label_18 : decode cX1_label 18 = .ok (.invokevirtual 76, 3) := by decide +kernel
theorem dX1_label_21 : decode cX1_label 21 = .ok (.istore_n 3, 1) := by decide +kernel
theorem dX1_label_22 : decode cX1_label 22 = .ok (.aload_n 0, 1) := by decide +kernel
theorem dX1_label_23 : decode cX1_label 23 = .ok (.getfield 20, 3) := by decide +kernel
theorem dX1_label_26 : decode cX1_label 26 = .ok (.iload_n 3, 1) := by decide +kernel
theorem dX1_label_27 : decode cX1_label 27 = .ok (.baload, 1) := by decide +kernel
theorem dX1_label_28 : decode cX1_label 28 = .ok (.ifCond .eq 17, 3) := by decide +kernel
theorem dX1_label_31 : decode cX1_label 31 = .ok (.aload_n 0, 1) := by decide +kernel
theorem dX1_label_32 : decode cX1_label 32 = .ok (.getfield 46, 3) := by decide +kernel
theorem dX1_label_35 : decode cX1_label 35 = .ok (.aload_n 0, 1) := by decide +kernel
theorem dX1_label_36 : decode cX1_label 36 = .ok (.getfield 24, 3) := by decide +kernel
theorem dX1_label_39 : decode cX1_label 39 = .ok (.iload_n 3, 1) := by decide +kernel
theorem dX1_label_40 : decode cX1_label 40 = .ok (.saload, 1) := by decide +kernel
theorem dX1_label_41 : decode cX1_label 41 = .ok (.saload, 1) := by decide +kernel
theorem dX1_label_42 : decode cX1_label 42 = .ok (.goto 5, 3) := by decide +kernel
theorem dX1_label_45 : decode cX1_label 45 = .ok (.bipush (-2), 2) := by decide +kernel
theorem dX1_label_47 : decode cX1_label 47 = .ok (.ireturn, 1) := by decide +kernel
theorem dX1_runAt_0 : decode cX1_runAt 0 = .ok (.aload_n 0, 1) := by decide +kernel
theorem dX1_runAt_1 : decode cX1_runAt 1 = .ok (.getfield 28, 3) := by decide +kernel
theorem dX1_runAt_4 : decode cX1_runAt 4 = .ok (.iload_n 2, 1) := by decide +kernel
theorem dX1_runAt_5 : decode cX1_runAt 5 = .ok (.saload, 1) := by decide +kernel
theorem dX1_runAt_6 : decode cX1_runAt 6 = .ok (.istore_n 3, 1) := by decide +kernel
theorem dX1_runAt_7 : decode cX1_runAt 7 = .ok (.iload_n 3, 1) := by decide +kernel
theorem dX1_runAt_8 : decode cX1_runAt 8 = .ok (.aload_n 0, 1) := by decide +kernel
theorem dX1_runAt_9 : decode cX1_runAt 9 = .ok (.getfield 28, 3) := by decide +kernel
theorem dX1_runAt_12 : decode cX1_runAt 12 = .ok (.iload_n 2, 1) := by decide +kernel
theorem dX1_runAt_13 : decode cX1_runAt 13 = .ok (.iconst 1, 1) := by decide +kernel
theorem dX1_runAt_14 : decode cX1_runAt 14 = .ok (.iadd, 1) := by decide +kernel
theorem dX1_runAt_15 : decode cX1_runAt 15 = .ok (.saload, 1) := by decide +kernel
theorem dX1_runAt_16 : decode cX1_runAt 16 = .ok (.iconst 1, 1) := by decide +kernel
theorem dX1_runAt_17 : decode cX1_runAt 17 = .ok (.isub, 1) := by decide +kernel
theorem dX1_runAt_18 : decode cX1_runAt 18 = .ok (.if_icmp .ge 19, 3) := by decide +kernel
theorem dX1_runAt_21 : decode cX1_runAt 21 = .ok (.aload_n 0, 1) := by decide +kernel
theorem dX1_runAt_22 : decode cX1_runAt 22 = .ok (.getfield 17, 3) := by decide +kernel
theorem dX1_runAt_25 : decode cX1_runAt 25 = .ok (.iload_n 3, 1) := by decide +kernel
theorem dX1_runAt_26 : decode cX1_runAt 26 = .ok (.baload, 1) := by decide +kernel
theorem dX1_runAt_27 : decode cX1_runAt 27 = .ok (.iload_n 1, 1) := by decide +kernel
theorem dX1_runAt_28 : decode cX1_runAt 28 = .ok (.if_icmp .ge 9, 3) := by decide +kernel
theorem dX1_runAt_31 : decode cX1_runAt 31 = .ok (.iinc 3 1, 3) := by decide +kernel
theorem dX1_runAt_34 : decode cX1_runAt 34 = .ok (.goto (-27), 3) := by decide +kernel
theorem dX1_runAt_37 : decode cX1_runAt 37 = .ok (.iload_n 3, 1) := by decide +kernel
theorem dX1_runAt_38 : decode cX1_runAt 38 = .ok (.ireturn, 1) := by decide +kernel
theorem dX1_area_0 : decode cX1_area 0 = .ok (.aload_n 0, 1) := by decide +kernel
theorem dX1_area_1 : decode cX1_area 1 = .ok (.invokevirtual 67, 3) := by decide +kernel
theorem dX1_area_4 : decode cX1_area 4 = .ok (.iload_n 1, 1) := by decide +kernel
theorem dX1_area_5 : decode cX1_area 5 = .ok (.ifCond .lt 11, 3) := by decide +kernel
theorem dX1_area_8 : decode cX1_area 8 = .ok (.iload_n 1, 1) := by decide +kernel
theorem dX1_area_9 : decode cX1_area 9 = .ok (.aload_n 0, 1) := by decide +kernel
theorem dX1_area_10 : decode cX1_area 10 = .ok (.getfield 70, 3) := by decide +kernel
theorem dX1_area_13 : decode cX1_area 13 = .ok (.if_icmp .lt 7, 3) := by decide +kernel
theorem dX1_area_16 : decode cX1_area 16 = .ok (.iconst (-1), 1) := by decide +kernel
theorem dX1_area_17 : decode cX1_area 17 = .ok (.goto 14, 3) := by decide +kernel
theorem dX1_area_20 : decode cX1_area 20 = .ok (.aload_n 0, 1) := by decide +kernel
theorem dX1_area_21 : decode cX1_area 21 = .ok (.getfield 37, 3) := by decide +kernel
theorem dX1_area_24 : decode cX1_area 24 = .ok (.aload_n 0, 1) := by decide +kernel
theorem dX1_area_25 : decode cX1_area 25 = .ok (.getfield 49, 3) := by decide +kernel
theorem dX1_area_28 : decode cX1_area 28 = .ok (.iload_n 1, 1) := by decide +kernel
theorem dX1_area_29 : decode cX1_area 29 = .ok (.saload, 1) := by decide +kernel
theorem dX1_area_30 : decode cX1_area 30 = .ok (.saload, 1) := by decide +kernel
theorem dX1_area_31 : decode cX1_area 31 = .ok (.ireturn, 1) := by decide +kernel
theorem dX1_holes_0 : decode cX1_holes 0 = .ok (.aload_n 0, 1) := by decide +kernel
theorem dX1_holes_1 : decode cX1_holes 1 = .ok (.invokevirtual 67, 3) := by decide +kernel
theorem dX1_holes_4 : decode cX1_holes 4 = .ok (.iload_n 1, 1) := by decide +kernel
theorem dX1_holes_5 : decode cX1_holes 5 = .ok (.ifCond .lt 11, 3) := by decide +kernel
theorem dX1_holes_8 : decode cX1_holes 8 = .ok (.iload_n 1, 1) := by decide +kernel
theorem dX1_holes_9 : decode cX1_holes 9 = .ok (.aload_n 0, 1) := by decide +kernel
theorem dX1_holes_10 : decode cX1_holes 10 = .ok (.getfield 70, 3) := by decide +kernel
theorem dX1_holes_13 : decode cX1_holes 13 = .ok (.if_icmp .lt 7, 3) := by decide +kernel
theorem dX1_holes_16 : decode cX1_holes 16 = .ok (.iconst (-1), 1) := by decide +kernel
theorem dX1_holes_17 : decode cX1_holes 17 = .ok (.goto 14, 3) := by decide +kernel
theorem dX1_holes_20 : decode cX1_holes 20 = .ok (.aload_n 0, 1) := by decide +kernel
theorem dX1_holes_21 : decode cX1_holes 21 = .ok (.getfield 43, 3) := by decide +kernel
theorem dX1_holes_24 : decode cX1_holes 24 = .ok (.aload_n 0, 1) := by decide +kernel
theorem dX1_holes_25 : decode cX1_holes 25 = .ok (.getfield 49, 3) := by decide +kernel
theorem dX1_holes_28 : decode cX1_holes 28 = .ok (.iload_n 1, 1) := by decide +kernel
theorem dX1_holes_29 : decode cX1_holes 29 = .ok (.saload, 1) := by decide +kernel
theorem dX1_holes_30 : decode cX1_holes 30 = .ok (.saload, 1) := by decide +kernel
theorem dX1_holes_31 : decode cX1_holes 31 = .ok (.ireturn, 1) := by decide +kernel
theorem dX1_around_0 : decode cX1_around 0 = .ok (.aload_n 0, 1) := by decide +kernel
theorem dX1_around_1 : decode cX1_around 1 = .ok (.invokevirtual 67, 3) := by decide +kernel
theorem dX1_around_4 : decode cX1_around 4 = .ok (.iload_n 1, 1) := by decide +kernel
theorem dX1_around_5 : decode cX1_around 5 = .ok (.ifCond .lt 11, 3) := by decide +kernel
theorem dX1_around_8 : decode cX1_around 8 = .ok (.iload_n 1, 1) := by decide +kernel
theorem dX1_around_9 : decode cX1_around 9 = .ok (.aload_n 0, 1) := by decide +kernel
theorem dX1_around_10 : decode cX1_around 10 = .ok (.getfield 70, 3) := by decide +kernel
theorem dX1_around_13 : decode cX1_around 13 = .ok (.if_icmp .lt 5, 3) := by decide +kernel
theorem dX1_around_16 : decode cX1_around 16 = .ok (.iconst (-1), 1) := by decide +kernel
theorem dX1_around_17 : decode cX1_around 17 = .ok (.ireturn, 1) := by decide +kernel
theorem dX1_around_18 : decode cX1_around 18 = .ok (.aload_n 0, 1) := by decide +kernel
theorem dX1_around_19 : decode cX1_around 19 = .ok (.getfield 31, 3) := by decide +kernel
theorem dX1_around_22 : decode cX1_around 22 = .ok (.aload_n 0, 1) := by decide +kernel
theorem dX1_around_23 : decode cX1_around 23 = .ok (.getfield 49, 3) := by decide +kernel
theorem dX1_around_26 : decode cX1_around 26 = .ok (.iload_n 1, 1) := by decide +kernel
theorem dX1_around_27 : decode cX1_around 27 = .ok (.saload, 1) := by decide +kernel
theorem dX1_around_28 : decode cX1_around 28 = .ok (.saload, 1) := by decide +kernel
theorem dX1_around_29 : decode cX1_around 29 = .ok (.istore_n 2, 1) := by decide +kernel
theorem dX1_around_30 : decode cX1_around 30 = .ok (.iload_n 2, 1) := by decide +kernel
theorem dX1_around_31 : decode cX1_around 31 = .ok (.ifCond .ne 8, 3) := by decide +kernel
theorem dX1_around_34 : decode cX1_around 34 = .ok (.bipush (-2), 2) := by decide +kernel
theorem dX1_around_36 : decode cX1_around 36 = .ok (.goto 14, 3) := by decide +kernel
theorem dX1_around_39 : decode cX1_around 39 = .ok (.aload_n 0, 1) := by decide +kernel
theorem dX1_around_40 : decode cX1_around 40 = .ok (.getfield 46, 3) := by decide +kernel
theorem dX1_around_43 : decode cX1_around 43 = .ok (.aload_n 0, 1) := by decide +kernel
theorem dX1_around_44 : decode cX1_around 44 = .ok (.getfield 31, 3) := by decide +kernel
theorem dX1_around_47 : decode cX1_around 47 = .ok (.iload_n 2, 1) := by decide +kernel
theorem dX1_around_48 : decode cX1_around 48 = .ok (.saload, 1) := by decide +kernel
theorem dX1_around_49 : decode cX1_around 49 = .ok (.saload, 1) := by decide +kernel
theorem dX1_around_50 : decode cX1_around 50 = .ok (.ireturn, 1) := by decide +kernel
theorem dX1_depth_0 : decode cX1_depth 0 = .ok (.aload_n 0, 1) := by decide +kernel
theorem dX1_depth_1 : decode cX1_depth 1 = .ok (.iload_n 1, 1) := by decide +kernel
theorem dX1_depth_2 : decode cX1_depth 2 = .ok (.iload_n 2, 1) := by decide +kernel
theorem dX1_depth_3 : decode cX1_depth 3 = .ok (.invokevirtual 59, 3) := by decide +kernel
theorem dX1_depth_6 : decode cX1_depth 6 = .ok (.ifCond .ne 5, 3) := by decide +kernel
theorem dX1_depth_9 : decode cX1_depth 9 = .ok (.iconst (-1), 1) := by decide +kernel
theorem dX1_depth_10 : decode cX1_depth 10 = .ok (.ireturn, 1) := by decide +kernel
theorem dX1_depth_11 : decode cX1_depth 11 = .ok (.aload_n 0, 1) := by decide +kernel
theorem dX1_depth_12 : decode cX1_depth 12 = .ok (.invokevirtual 67, 3) := by decide +kernel
theorem dX1_depth_15 : decode cX1_depth 15 = .ok (.aload_n 0, 1) := by decide +kernel
theorem dX1_depth_16 : decode cX1_depth 16 = .ok (.iload_n 1, 1) := by decide +kernel
theorem dX1_depth_17 : decode cX1_depth 17 = .ok (.iload_n 2, 1) := by decide +kernel
theorem dX1_depth_18 : decode cX1_depth 18 = .ok (.invokevirtual 76, 3) := by decide +kernel
theorem dX1_depth_21 : decode cX1_depth 21 = .ok (.istore_n 3, 1) := by decide +kernel
theorem dX1_depth_22 : decode cX1_depth 22 = .ok (.aload_n 0, 1) := by decide +kernel
theorem dX1_depth_23 : decode cX1_depth 23 = .ok (.getfield 34, 3) := by decide +kernel
theorem dX1_depth_26 : decode cX1_depth 26 = .ok (.aload_n 0, 1) := by decide +kernel
theorem dX1_depth_27 : decode cX1_depth 27 = .ok (.getfield 24, 3) := by decide +kernel
theorem dX1_depth_30 : decode cX1_depth 30 = .ok (.iload_n 3, 1) := by decide +kernel
theorem dX1_depth_31 : decode cX1_depth 31 = .ok (.saload, 1) := by decide +kernel
theorem dX1_depth_32 : decode cX1_depth 32 = .ok (.baload, 1) := by decide +kernel
theorem dX1_depth_33 : decode cX1_depth 33 = .ok (.ireturn, 1) := by decide +kernel
theorem dX1_enclosed_0 : decode cX1_enclosed 0 = .ok (.aload_n 0, 1) := by decide +kernel
theorem dX1_enclosed_1 : decode cX1_enclosed 1 = .ok (.invokevirtual 67, 3) := by decide +kernel
theorem dX1_enclosed_4 : decode cX1_enclosed 4 = .ok (.iload_n 1, 1) := by decide +kernel
theorem dX1_enclosed_5 : decode cX1_enclosed 5 = .ok (.ifCond .lt 11, 3) := by decide +kernel
theorem dX1_enclosed_8 : decode cX1_enclosed 8 = .ok (.iload_n 1, 1) := by decide +kernel
theorem dX1_enclosed_9 : decode cX1_enclosed 9 = .ok (.aload_n 0, 1) := by decide +kernel
theorem dX1_enclosed_10 : decode cX1_enclosed 10 = .ok (.getfield 70, 3) := by decide +kernel
theorem dX1_enclosed_13 : decode cX1_enclosed 13 = .ok (.if_icmp .lt 7, 3) := by decide +kernel
theorem dX1_enclosed_16 : decode cX1_enclosed 16 = .ok (.iconst (-1), 1) := by decide +kernel
theorem dX1_enclosed_17 : decode cX1_enclosed 17 = .ok (.goto 14, 3) := by decide +kernel
theorem dX1_enclosed_20 : decode cX1_enclosed 20 = .ok (.aload_n 0, 1) := by decide +kernel
theorem dX1_enclosed_21 : decode cX1_enclosed 21 = .ok (.getfield 40, 3) := by decide +kernel
theorem dX1_enclosed_24 : decode cX1_enclosed 24 = .ok (.aload_n 0, 1) := by decide +kernel
theorem dX1_enclosed_25 : decode cX1_enclosed 25 = .ok (.getfield 49, 3) := by decide +kernel
theorem dX1_enclosed_28 : decode cX1_enclosed 28 = .ok (.iload_n 1, 1) := by decide +kernel
theorem dX1_enclosed_29 : decode cX1_enclosed 29 = .ok (.saload, 1) := by decide +kernel
theorem dX1_enclosed_30 : decode cX1_enclosed 30 = .ok (.saload, 1) := by decide +kernel
theorem dX1_enclosed_31 : decode cX1_enclosed 31 = .ok (.ireturn, 1) := by decide +kernel
end
section
/-! CompLabelModel -/
set_option maxRecDepth 100000
def RX2 : String := "CompLabelModel"
def TX2 : u_T := fun k => match k with
  | 0 => ("CompLabelModel", "wide", "I", false)
  | 1 => ("CompLabelModel", "high", "I", false)
  | 2 => ("CompLabelModel", "black", "[Z", false)
  | 3 => ("CompLabelModel", "root", "[I", false)
  | 4 => ("CompLabelModel", "change", "[I", false)
  | _ => ("CompLabelModel", "reached", "[Z", false)
def tyX2 : Nat → FieldType := fun k => match k with
  | 0 => .int
  | 1 => .int
  | 2 => .array .boolean
  | 3 => .array .int
  | 4 => .array .int
  | _ => .array .boolean
abbrev wsX20 : List Cond := u_ws RX2 TX2 6
theorem nmX2 : ∀ a, a < 6 → ∀ b, b < 6 → a ≠ b → (TX2 a).2.1 ≠ (TX2 b).2.1 := by decide +kernel
theorem tyX2_ok : ∀ k, k < 6 → parseFieldDescriptor (TX2 k).2.2.1 = some (tyX2 k) := by decide +kernel
abbrev cX2_init : ByteArray := prog_3_method_1_code
def yX2_init : MethodName := ⟨RX2, "<init>", "(II)V"⟩
abbrev cX2_set : ByteArray := prog_3_method_4_code
def yX2_set : MethodName := ⟨RX2, "set", "(IIZ)Z"⟩
abbrev cX2_inside : ByteArray := prog_3_method_2_code
def yX2_inside : MethodName := ⟨RX2, "inside", "(II)Z"⟩
abbrev cX2_place : ByteArray := prog_3_method_3_code
def yX2_place : MethodName := ⟨RX2, "place", "(II)I"⟩
abbrev cX2_invert : ByteArray := prog_3_method_5_code
def yX2_invert : MethodName := ⟨RX2, "invert", "(IIII)Z"⟩
abbrev cX2_isBlack : ByteArray := prog_3_method_6_code
def yX2_isBlack : MethodName := ⟨RX2, "isBlack", "(II)Z"⟩
abbrev cX2_components : ByteArray := prog_3_method_16_code
def yX2_components : MethodName := ⟨RX2, "components", "()I"⟩
abbrev cX2_findRoots : ByteArray := prog_3_method_11_code
def yX2_findRoots : MethodName := ⟨RX2, "findRoots", "()V"⟩
abbrev cX2_spreadRoots : ByteArray := prog_3_method_10_code
def yX2_spreadRoots : MethodName := ⟨RX2, "spreadRoots", "()Z"⟩
abbrev cX2_near : ByteArray := prog_3_method_7_code
def yX2_near : MethodName := ⟨RX2, "near", "(II)I"⟩
abbrev cX2_step : ByteArray := prog_3_method_9_code
def yX2_step : MethodName := ⟨RX2, "step", "(III)Z"⟩
abbrev cX2_besideWay : ByteArray := prog_3_method_8_code
def yX2_besideWay : MethodName := ⟨RX2, "besideWay", "(I)Z"⟩
abbrev cX2_count : ByteArray := prog_3_method_15_code
def yX2_count : MethodName := ⟨RX2, "count", "(ZI)I"⟩
abbrev cX2_isFirst : ByteArray := prog_3_method_14_code
def yX2_isFirst : MethodName := ⟨RX2, "isFirst", "(IZ)Z"⟩
abbrev cX2_euler : ByteArray := prog_3_method_17_code
def yX2_euler : MethodName := ⟨RX2, "euler", "()I"⟩
abbrev cX2_label : ByteArray := prog_3_method_18_code
def yX2_label : MethodName := ⟨RX2, "label", "(II)I"⟩
abbrev cX2_area : ByteArray := prog_3_method_20_code
def yX2_area : MethodName := ⟨RX2, "area", "(I)I"⟩
abbrev cX2_firstOf : ByteArray := prog_3_method_19_code
def yX2_firstOf : MethodName := ⟨RX2, "firstOf", "(I)I"⟩
abbrev cX2_holes : ByteArray := prog_3_method_22_code
def yX2_holes : MethodName := ⟨RX2, "holes", "(I)I"⟩
abbrev cX2_findChanges : ByteArray := prog_3_method_13_code
def yX2_findChanges : MethodName := ⟨RX2, "findChanges", "()V"⟩
abbrev cX2_spreadChanges : ByteArray := prog_3_method_12_code
def yX2_spreadChanges : MethodName := ⟨RX2, "spreadChanges", "()Z"⟩
abbrev cX2_isHole : ByteArray := prog_3_method_21_code
def yX2_isHole : MethodName := ⟨RX2, "isHole", "(II)Z"⟩
abbrev cX2_around : ByteArray := prog_3_method_25_code
def yX2_around : MethodName := ⟨RX2, "around", "(I)I"⟩
abbrev cX2_findReached : ByteArray := prog_3_method_24_code
def yX2_findReached : MethodName := ⟨RX2, "findReached", "(I)V"⟩
abbrev cX2_spreadReached : ByteArray := prog_3_method_23_code
def yX2_spreadReached : MethodName := ⟨RX2, "spreadReached", "(I)Z"⟩
abbrev cX2_depth : ByteArray := prog_3_method_26_code
def yX2_depth : MethodName := ⟨RX2, "depth", "(II)I"⟩
abbrev cX2_enclosed : ByteArray := prog_3_method_27_code
def yX2_enclosed : MethodName := ⟨RX2, "enclosed", "(I)I"⟩
theorem q28 : (Jvm.Cond.initialized "CompLabelModel") ∈ lw_all := lw_g (lw_at lw_m1 2 rfl) rfl
theorem q191 : (Jvm.Cond.instantiable "CompLabelModel" (6 : Nat)) ∈ lw_all := lw_g (lw_at lw_m1 165 rfl) rfl
theorem q193 : (Jvm.Cond.instanceMethod ({ cls := "CompLabelModel", name := "<init>", desc := "(II)V" } : Jvm.MethodName)) ∈ lw_all := lw_g (lw_at lw_m1 167 rfl) rfl
theorem q194 : (Jvm.Cond.code ({ cls := "CompLabelModel", name := "<init>", desc := "(II)V" } : Jvm.MethodName) prog_3_method_1_code (3 : Nat) (Option.none : Option Jvm.ClassFile.FieldType)) ∈ lw_all := lw_g (lw_at lw_m1 168 rfl) rfl
theorem q195 : (Jvm.Cond.methodLink "CompLabelModel" (1 : Nat) ({ cls := "java/lang/Object", name := "<init>", desc := "()V" } : Jvm.MethodName)) ∈ lw_all := lw_g (lw_at lw_m1 169 rfl) rfl
theorem q196 : (Jvm.Cond.fieldLink "CompLabelModel" (23 : Nat) "CompLabelModel" "wide" "I") ∈ lw_all := lw_g (lw_at lw_m1 170 rfl) rfl
theorem q197 : (Jvm.Cond.fieldLink "CompLabelModel" (27 : Nat) "CompLabelModel" "high" "I") ∈ lw_all := lw_g (lw_at lw_m1 171 rfl) rfl
theorem q198 : (Jvm.Cond.fieldLink "CompLabelModel" (7 : Nat) "CompLabelModel" "black" "[Z") ∈ lw_all := lw_g (lw_at lw_m1 172 rfl) rfl
theorem q199 : (Jvm.Cond.fieldLink "CompLabelModel" (13 : Nat) "CompLabelModel" "root" "[I") ∈ lw_all := lw_g (lw_at lw_m1 173 rfl) rfl
theorem q200 : (Jvm.Cond.fieldLink "CompLabelModel" (17 : Nat) "CompLabelModel" "change" "[I") ∈ lw_all := lw_g (lw_at lw_m1 174 rfl) rfl
theorem q201 : (Jvm.Cond.fieldLink "CompLabelModel" (20 : Nat) "CompLabelModel" "reached" "[Z") ∈ lw_all := lw_g (lw_at lw_m1 175 rfl) rfl
theorem q202 : (Jvm.Cond.lays "CompLabelModel" "CompLabelModel" "wide" "I") ∈ lw_all := lw_g (lw_at lw_m1 176 rfl) rfl
theorem q203 : (Jvm.Cond.soleField "CompLabelModel" "wide") ∈ lw_all := lw_g (lw_at lw_m1 177 rfl) rfl
theorem q204 : (Jvm.Cond.lays "CompLabelModel" "CompLabelModel" "high" "I") ∈ lw_all := lw_g (lw_at lw_m1 178 rfl) rfl
theorem q205 : (Jvm.Cond.soleField "CompLabelModel" "high") ∈ lw_all := lw_g (lw_at lw_m1 179 rfl) rfl
theorem q206 : (Jvm.Cond.lays "CompLabelModel" "CompLabelModel" "black" "[Z") ∈ lw_all := lw_g (lw_at lw_m1 180 rfl) rfl
theorem q207 : (Jvm.Cond.soleField "CompLabelModel" "black") ∈ lw_all := lw_g (lw_at lw_m1 181 rfl) rfl
theorem q208 : (Jvm.Cond.lays "CompLabelModel" "CompLabelModel" "root" "[I") ∈ lw_all := lw_g (lw_at lw_m1 182 rfl) rfl
theorem q209 : (Jvm.Cond.soleField "CompLabelModel" "root") ∈ lw_all := lw_g (lw_at lw_m1 183 rfl) rfl
theorem q210 : (Jvm.Cond.lays "CompLabelModel" "CompLabelModel" "change" "[I") ∈ lw_all := lw_g (lw_at lw_m1 184 rfl) rfl
theorem q211 : (Jvm.Cond.soleField "CompLabelModel" "change") ∈ lw_all := lw_g (lw_at lw_m1 185 rfl) rfl
theorem q212 : (Jvm.Cond.lays "CompLabelModel" "CompLabelModel" "reached" "[Z") ∈ lw_all := lw_g (lw_at lw_m1 186 rfl) rfl
theorem q213 : (Jvm.Cond.soleField "CompLabelModel" "reached") ∈ lw_all := lw_g (lw_at lw_m1 187 rfl) rfl
theorem q214 : (Jvm.Cond.superclass "CompLabelModel" "java/lang/Object") ∈ lw_all := lw_g (lw_at lw_m1 188 rfl) rfl
theorem q216 : (Jvm.Cond.instanceMethod ({ cls := "CompLabelModel", name := "set", desc := "(IIZ)Z" } : Jvm.MethodName)) ∈ lw_all := lw_g (lw_at lw_m1 190 rfl) rfl
theorem q217 : (Jvm.Cond.selects "CompLabelModel" ({ cls := "CompLabelModel", name := "set", desc := "(IIZ)Z" } : Jvm.MethodName) ({ cls := "CompLabelModel", name := "set", desc := "(IIZ)Z" } : Jvm.MethodName)) ∈ lw_all := lw_g (lw_at lw_m1 191 rfl) rfl
theorem q218 : (Jvm.Cond.code ({ cls := "CompLabelModel", name := "set", desc := "(IIZ)Z" } : Jvm.MethodName) prog_3_method_4_code (4 : Nat) (Option.some Jvm.ClassFile.FieldType.boolean)) ∈ lw_all := lw_g (lw_at lw_m1 192 rfl) rfl
theorem q219 : (Jvm.Cond.methodLink "CompLabelModel" (30 : Nat) ({ cls := "CompLabelModel", name := "inside", desc := "(II)Z" } : Jvm.MethodName)) ∈ lw_all := lw_g (lw_at lw_m1 193 rfl) rfl
theorem q220 : (Jvm.Cond.privateMethod ({ cls := "CompLabelModel", name := "inside", desc := "(II)Z" } : Jvm.MethodName)) ∈ lw_tbl := lw_at lw_m1 194 rfl
theorem q221 : (Jvm.Cond.instanceMethod ({ cls := "CompLabelModel", name := "inside", desc := "(II)Z" } : Jvm.MethodName)) ∈ lw_all := lw_g (lw_at lw_m1 195 rfl) rfl
theorem q222 : (Jvm.Cond.code ({ cls := "CompLabelModel", name := "inside", desc := "(II)Z" } : Jvm.MethodName) prog_3_method_2_code (3 : Nat) (Option.some Jvm.ClassFile.FieldType.boolean)) ∈ lw_all := lw_g (lw_at lw_m1 196 rfl) rfl
theorem q223 : (Jvm.Cond.methodLink "CompLabelModel" (34 : Nat) ({ cls := "CompLabelModel", name := "place", desc := "(II)I" } : Jvm.MethodName)) ∈ lw_all := lw_g (lw_at lw_m1 197 rfl) rfl
theorem q224 : (Jvm.Cond.privateMethod ({ cls := "CompLabelModel", name := "place", desc := "(II)I" } : Jvm.MethodName)) ∈ lw_tbl := lw_at lw_m1 198 rfl
theorem q225 : (Jvm.Cond.instanceMethod ({ cls := "CompLabelModel", name := "place", desc := "(II)I" } : Jvm.MethodName)) ∈ lw_all := lw_g (lw_at lw_m1 199 rfl) rfl
theorem q226 : (Jvm.Cond.code ({ cls := "CompLabelModel", name := "place", desc := "(II)I" } : Jvm.MethodName) prog_3_method_3_code (3 : Nat) (Option.some Jvm.ClassFile.FieldType.int)) ∈ lw_all := lw_g (lw_at lw_m1 200 rfl) rfl
theorem q228 : (Jvm.Cond.instanceMethod ({ cls := "CompLabelModel", name := "invert", desc := "(IIII)Z" } : Jvm.MethodName)) ∈ lw_all := lw_g (lw_at lw_m1 202 rfl) rfl
theorem q229 : (Jvm.Cond.selects "CompLabelModel" ({ cls := "CompLabelModel", name := "invert", desc := "(IIII)Z" } : Jvm.MethodName) ({ cls := "CompLabelModel", name := "invert", desc := "(IIII)Z" } : Jvm.MethodName)) ∈ lw_all := lw_g (lw_at lw_m1 203 rfl) rfl
theorem q230 : (Jvm.Cond.code ({ cls := "CompLabelModel", name := "invert", desc := "(IIII)Z" } : Jvm.MethodName) prog_3_method_5_code (7 : Nat) (Option.some Jvm.ClassFile.FieldType.boolean)) ∈ lw_all := lw_g (lw_at lw_m1 204 rfl) rfl
theorem q232 : (Jvm.Cond.instanceMethod ({ cls := "CompLabelModel", name := "isBlack", desc := "(II)Z" } : Jvm.MethodName)) ∈ lw_all := lw_g (lw_at lw_m1 206 rfl) rfl
theorem q233 : (Jvm.Cond.selects "CompLabelModel" ({ cls := "CompLabelModel", name := "isBlack", desc := "(II)Z" } : Jvm.MethodName) ({ cls := "CompLabelModel", name := "isBlack", desc := "(II)Z" } : Jvm.MethodName)) ∈ lw_all := lw_g (lw_at lw_m1 207 rfl) rfl
theorem q234 : (Jvm.Cond.code ({ cls := "CompLabelModel", name := "isBlack", desc := "(II)Z" } : Jvm.MethodName) prog_3_method_6_code (3 : Nat) (Option.some Jvm.ClassFile.FieldType.boolean)) ∈ lw_all := lw_g (lw_at lw_m1 208 rfl) rfl
theorem q236 : (Jvm.Cond.instanceMethod ({ cls := "CompLabelModel", name := "components", desc := "()I" } : Jvm.MethodName)) ∈ lw_all := lw_g (lw_at lw_m1 210 rfl) rfl
theorem q237 : (Jvm.Cond.selects "CompLabelModel" ({ cls := "CompLabelModel", name := "components", desc := "()I" } : Jvm.MethodName) ({ cls := "CompLabelModel", name := "components", desc := "()I" } : Jvm.MethodName)) ∈ lw_all := lw_g (lw_at lw_m1 211 rfl) rfl
theorem q238 : (Jvm.Cond.code ({ cls := "CompLabelModel", name := "components", desc := "()I" } : Jvm.MethodName) prog_3_method_16_code (1 : Nat) (Option.some Jvm.ClassFile.FieldType.int)) ∈ lw_all := lw_g (lw_at lw_m1 212 rfl) rfl
theorem q239 : (Jvm.Cond.methodLink "CompLabelModel" (60 : Nat) ({ cls := "CompLabelModel", name := "findRoots", desc := "()V" } : Jvm.MethodName)) ∈ lw_all := lw_g (lw_at lw_m1 213 rfl) rfl
theorem q240 : (Jvm.Cond.privateMethod ({ cls := "CompLabelModel", name := "findRoots", desc := "()V" } : Jvm.MethodName)) ∈ lw_tbl := lw_at lw_m1 214 rfl
theorem q241 : (Jvm.Cond.instanceMethod ({ cls := "CompLabelModel", name := "findRoots", desc := "()V" } : Jvm.MethodName)) ∈ lw_all := lw_g (lw_at lw_m1 215 rfl) rfl
theorem q242 : (Jvm.Cond.code ({ cls := "CompLabelModel", name := "findRoots", desc := "()V" } : Jvm.MethodName) prog_3_method_11_code (3 : Nat) (Option.none : Option Jvm.ClassFile.FieldType)) ∈ lw_all := lw_g (lw_at lw_m1 216 rfl) rfl
theorem q243 : (Jvm.Cond.methodLink "CompLabelModel" (49 : Nat) ({ cls := "CompLabelModel", name := "spreadRoots", desc := "()Z" } : Jvm.MethodName)) ∈ lw_all := lw_g (lw_at lw_m1 217 rfl) rfl
theorem q244 : (Jvm.Cond.privateMethod ({ cls := "CompLabelModel", name := "spreadRoots", desc := "()Z" } : Jvm.MethodName)) ∈ lw_tbl := lw_at lw_m1 218 rfl
theorem q245 : (Jvm.Cond.instanceMethod ({ cls := "CompLabelModel", name := "spreadRoots", desc := "()Z" } : Jvm.MethodName)) ∈ lw_all := lw_g (lw_at lw_m1 219 rfl) rfl
theorem q246 : (Jvm.Cond.code ({ cls := "CompLabelModel", name := "spreadRoots", desc := "()Z" } : Jvm.MethodName) prog_3_method_10_code (5 : Nat) (Option.some Jvm.ClassFile.FieldType.boolean)) ∈ lw_all := lw_g (lw_at lw_m1 220 rfl) rfl
theorem q247 : (Jvm.Cond.methodLink "CompLabelModel" (42 : Nat) ({ cls := "CompLabelModel", name := "near", desc := "(II)I" } : Jvm.MethodName)) ∈ lw_all := lw_g (lw_at lw_m1 221 rfl) rfl
theorem q248 : (Jvm.Cond.privateMethod ({ cls := "CompLabelModel", name := "near", desc := "(II)I" } : Jvm.MethodName)) ∈ lw_tbl := lw_at lw_m1 222 rfl
theorem q249 : (Jvm.Cond.instanceMethod ({ cls := "CompLabelModel", name := "near", desc := "(II)I" } : Jvm.MethodName)) ∈ lw_all := lw_g (lw_at lw_m1 223 rfl) rfl
theorem q250 : (Jvm.Cond.code ({ cls := "CompLabelModel", name := "near", desc := "(II)I" } : Jvm.MethodName) prog_3_method_7_code (5 : Nat) (Option.some Jvm.ClassFile.FieldType.int)) ∈ lw_all := lw_g (lw_at lw_m1 224 rfl) rfl
theorem q251 : (Jvm.Cond.methodLink "CompLabelModel" (45 : Nat) ({ cls := "CompLabelModel", name := "step", desc := "(III)Z" } : Jvm.MethodName)) ∈ lw_all := lw_g (lw_at lw_m1 225 rfl) rfl
theorem q252 : (Jvm.Cond.privateMethod ({ cls := "CompLabelModel", name := "step", desc := "(III)Z" } : Jvm.MethodName)) ∈ lw_tbl := lw_at lw_m1 226 rfl
theorem q253 : (Jvm.Cond.instanceMethod ({ cls := "CompLabelModel", name := "step", desc := "(III)Z" } : Jvm.MethodName)) ∈ lw_all := lw_g (lw_at lw_m1 227 rfl) rfl
theorem q254 : (Jvm.Cond.code ({ cls := "CompLabelModel", name := "step", desc := "(III)Z" } : Jvm.MethodName) prog_3_method_9_code (4 : Nat) (Option.some Jvm.ClassFile.FieldType.boolean)) ∈ lw_all := lw_g (lw_at lw_m1 228 rfl) rfl
theorem q255 : (Jvm.Cond.methodLink "CompLabelModel" (38 : Nat) ({ cls := "CompLabelModel", name := "besideWay", desc := "(I)Z" } : Jvm.MethodName)) ∈ lw_all := lw_g (lw_at lw_m1 229 rfl) rfl
theorem q256 : (Jvm.Cond.privateMethod ({ cls := "CompLabelModel", name := "besideWay", desc := "(I)Z" } : Jvm.MethodName)) ∈ lw_tbl := lw_at lw_m1 230 rfl
theorem q257 : (Jvm.Cond.instanceMethod ({ cls := "CompLabelModel", name := "besideWay", desc := "(I)Z" } : Jvm.MethodName)) ∈ lw_all := lw_g (lw_at lw_m1 231 rfl) rfl
theorem q258 : (Jvm.Cond.code ({ cls := "CompLabelModel", name := "besideWay", desc := "(I)Z" } : Jvm.MethodName) prog_3_method_8_code (2 : Nat) (Option.some Jvm.ClassFile.FieldType.boolean)) ∈ lw_all := lw_g (lw_at lw_m1 232 rfl) rfl
theorem q259 : (Jvm.Cond.methodLink "CompLabelModel" (63 : Nat) ({ cls := "CompLabelModel", name := "count", desc := "(ZI)I" } : Jvm.MethodName)) ∈ lw_all := lw_g (lw_at lw_m1 233 rfl) rfl
theorem q260 : (Jvm.Cond.privateMethod ({ cls := "CompLabelModel", name := "count", desc := "(ZI)I" } : Jvm.MethodName)) ∈ lw_tbl := lw_at lw_m1 234 rfl
theorem q261 : (Jvm.Cond.instanceMethod ({ cls := "CompLabelModel", name := "count", desc := "(ZI)I" } : Jvm.MethodName)) ∈ lw_all := lw_g (lw_at lw_m1 235 rfl) rfl
theorem q262 : (Jvm.Cond.code ({ cls := "CompLabelModel", name := "count", desc := "(ZI)I" } : Jvm.MethodName) prog_3_method_15_code (5 : Nat) (Option.some Jvm.ClassFile.FieldType.int)) ∈ lw_all := lw_g (lw_at lw_m1 236 rfl) rfl
theorem q263 : (Jvm.Cond.methodLink "CompLabelModel" (56 : Nat) ({ cls := "CompLabelModel", name := "isFirst", desc := "(IZ)Z" } : Jvm.MethodName)) ∈ lw_all := lw_g (lw_at lw_m1 237 rfl) rfl
theorem q264 : (Jvm.Cond.privateMethod ({ cls := "CompLabelModel", name := "isFirst", desc := "(IZ)Z" } : Jvm.MethodName)) ∈ lw_tbl := lw_at lw_m1 238 rfl
theorem q265 : (Jvm.Cond.instanceMethod ({ cls := "CompLabelModel", name := "isFirst", desc := "(IZ)Z" } : Jvm.MethodName)) ∈ lw_all := lw_g (lw_at lw_m1 239 rfl) rfl
theorem q266 : (Jvm.Cond.code ({ cls := "CompLabelModel", name := "isFirst", desc := "(IZ)Z" } : Jvm.MethodName) prog_3_method_14_code (3 : Nat) (Option.some Jvm.ClassFile.FieldType.boolean)) ∈ lw_all := lw_g (lw_at lw_m2 0 rfl) rfl
theorem q268 : (Jvm.Cond.instanceMethod ({ cls := "CompLabelModel", name := "euler", desc := "()I" } : Jvm.MethodName)) ∈ lw_all := lw_g (lw_at lw_m2 2 rfl) rfl
theorem q269 : (Jvm.Cond.selects "CompLabelModel" ({ cls := "CompLabelModel", name := "euler", desc := "()I" } : Jvm.MethodName) ({ cls := "CompLabelModel", name := "euler", desc := "()I" } : Jvm.MethodName)) ∈ lw_all := lw_g (lw_at lw_m2 3 rfl) rfl
theorem q270 : (Jvm.Cond.code ({ cls := "CompLabelModel", name := "euler", desc := "()I" } : Jvm.MethodName) prog_3_method_17_code (1 : Nat) (Option.some Jvm.ClassFile.FieldType.int)) ∈ lw_all := lw_g (lw_at lw_m2 4 rfl) rfl
theorem q272 : (Jvm.Cond.instanceMethod ({ cls := "CompLabelModel", name := "label", desc := "(II)I" } : Jvm.MethodName)) ∈ lw_all := lw_g (lw_at lw_m2 6 rfl) rfl
theorem q273 : (Jvm.Cond.selects "CompLabelModel" ({ cls := "CompLabelModel", name := "label", desc := "(II)I" } : Jvm.MethodName) ({ cls := "CompLabelModel", name := "label", desc := "(II)I" } : Jvm.MethodName)) ∈ lw_all := lw_g (lw_at lw_m2 7 rfl) rfl
theorem q274 : (Jvm.Cond.code ({ cls := "CompLabelModel", name := "label", desc := "(II)I" } : Jvm.MethodName) prog_3_method_18_code (4 : Nat) (Option.some Jvm.ClassFile.FieldType.int)) ∈ lw_all := lw_g (lw_at lw_m2 8 rfl) rfl
theorem q276 : (Jvm.Cond.instanceMethod ({ cls := "CompLabelModel", name := "area", desc := "(I)I" } : Jvm.MethodName)) ∈ lw_all := lw_g (lw_at lw_m2 10 rfl) rfl
theorem q277 : (Jvm.Cond.selects "CompLabelModel" ({ cls := "CompLabelModel", name := "area", desc := "(I)I" } : Jvm.MethodName) ({ cls := "CompLabelModel", name := "area", desc := "(I)I" } : Jvm.MethodName)) ∈ lw_all := lw_g (lw_at lw_m2 11 rfl) rfl
theorem q278 : (Jvm.Cond.code ({ cls := "CompLabelModel", name := "area", desc := "(I)I" } : Jvm.MethodName) prog_3_method_20_code (5 : Nat) (Option.some Jvm.ClassFile.FieldType.int)) ∈ lw_all := lw_g (lw_at lw_m2 12 rfl) rfl
theorem q279 : (Jvm.Cond.methodLink "CompLabelModel" (67 : Nat) ({ cls := "CompLabelModel", name := "firstOf", desc := "(I)I" } : Jvm.MethodName)) ∈ lw_all := lw_g (lw_at lw_m2 13 rfl) rfl
theorem q280 : (Jvm.Cond.privateMethod ({ cls := "CompLabelModel", name := "firstOf", desc := "(I)I" } : Jvm.MethodName)) ∈ lw_tbl := lw_at lw_m2 14 rfl
theorem q281 : (Jvm.Cond.instanceMethod ({ cls := "CompLabelModel", name := "firstOf", desc := "(I)I" } : Jvm.MethodName)) ∈ lw_all := lw_g (lw_at lw_m2 15 rfl) rfl
theorem q282 : (Jvm.Cond.code ({ cls := "CompLabelModel", name := "firstOf", desc := "(I)I" } : Jvm.MethodName) prog_3_method_19_code (4 : Nat) (Option.some Jvm.ClassFile.FieldType.int)) ∈ lw_all := lw_g (lw_at lw_m2 16 rfl) rfl
theorem q284 : (Jvm.Cond.instanceMethod ({ cls := "CompLabelModel", name := "holes", desc := "(I)I" } : Jvm.MethodName)) ∈ lw_all := lw_g (lw_at lw_m2 18 rfl) rfl
theorem q285 : (Jvm.Cond.selects "CompLabelModel" ({ cls := "CompLabelModel", name := "holes", desc := "(I)I" } : Jvm.MethodName) ({ cls := "CompLabelModel", name := "holes", desc := "(I)I" } : Jvm.MethodName)) ∈ lw_all := lw_g (lw_at lw_m2 19 rfl) rfl
theorem q286 : (Jvm.Cond.code ({ cls := "CompLabelModel", name := "holes", desc := "(I)I" } : Jvm.MethodName) prog_3_method_22_code (5 : Nat) (Option.some Jvm.ClassFile.FieldType.int)) ∈ lw_all := lw_g (lw_at lw_m2 20 rfl) rfl
theorem q287 : (Jvm.Cond.methodLink "CompLabelModel" (71 : Nat) ({ cls := "CompLabelModel", name := "findChanges", desc := "()V" } : Jvm.MethodName)) ∈ lw_all := lw_g (lw_at lw_m2 21 rfl) rfl
theorem q288 : (Jvm.Cond.privateMethod ({ cls := "CompLabelModel", name := "findChanges", desc := "()V" } : Jvm.MethodName)) ∈ lw_tbl := lw_at lw_m2 22 rfl
theorem q289 : (Jvm.Cond.instanceMethod ({ cls := "CompLabelModel", name := "findChanges", desc := "()V" } : Jvm.MethodName)) ∈ lw_all := lw_g (lw_at lw_m2 23 rfl) rfl
theorem q290 : (Jvm.Cond.code ({ cls := "CompLabelModel", name := "findChanges", desc := "()V" } : Jvm.MethodName) prog_3_method_13_code (3 : Nat) (Option.none : Option Jvm.ClassFile.FieldType)) ∈ lw_all := lw_g (lw_at lw_m2 24 rfl) rfl
theorem q291 : (Jvm.Cond.methodLink "CompLabelModel" (53 : Nat) ({ cls := "CompLabelModel", name := "spreadChanges", desc := "()Z" } : Jvm.MethodName)) ∈ lw_all := lw_g (lw_at lw_m2 25 rfl) rfl
theorem q292 : (Jvm.Cond.privateMethod ({ cls := "CompLabelModel", name := "spreadChanges", desc := "()Z" } : Jvm.MethodName)) ∈ lw_tbl := lw_at lw_m2 26 rfl
theorem q293 : (Jvm.Cond.instanceMethod ({ cls := "CompLabelModel", name := "spreadChanges", desc := "()Z" } : Jvm.MethodName)) ∈ lw_all := lw_g (lw_at lw_m2 27 rfl) rfl
theorem q294 : (Jvm.Cond.code ({ cls := "CompLabelModel", name := "spreadChanges", desc := "()Z" } : Jvm.MethodName) prog_3_method_12_code (6 : Nat) (Option.some Jvm.ClassFile.FieldType.boolean)) ∈ lw_all := lw_g (lw_at lw_m2 28 rfl) rfl
theorem q295 : (Jvm.Cond.methodLink "CompLabelModel" (74 : Nat) ({ cls := "CompLabelModel", name := "isHole", desc := "(II)Z" } : Jvm.MethodName)) ∈ lw_all := lw_g (lw_at lw_m2 29 rfl) rfl
theorem q296 : (Jvm.Cond.privateMethod ({ cls := "CompLabelModel", name := "isHole", desc := "(II)Z" } : Jvm.MethodName)) ∈ lw_tbl := lw_at lw_m2 30 rfl
theorem q297 : (Jvm.Cond.instanceMethod ({ cls := "CompLabelModel", name := "isHole", desc := "(II)Z" } : Jvm.MethodName)) ∈ lw_all := lw_g (lw_at lw_m2 31 rfl) rfl
theorem q298 : (Jvm.Cond.code ({ cls := "CompLabelModel", name := "isHole", desc := "(II)Z" } : Jvm.MethodName) prog_3_method_21_code (6 : Nat) (Option.some Jvm.ClassFile.FieldType.boolean)) ∈ lw_all := lw_g (lw_at lw_m2 32 rfl) rfl
theorem q300 : (Jvm.Cond.instanceMethod ({ cls := "CompLabelModel", name := "around", desc := "(I)I" } : Jvm.MethodName)) ∈ lw_all := lw_g (lw_at lw_m2 34 rfl) rfl
theorem q301 : (Jvm.Cond.selects "CompLabelModel" ({ cls := "CompLabelModel", name := "around", desc := "(I)I" } : Jvm.MethodName) ({ cls := "CompLabelModel", name := "around", desc := "(I)I" } : Jvm.MethodName)) ∈ lw_all := lw_g (lw_at lw_m2 35 rfl) rfl
theorem q302 : (Jvm.Cond.code ({ cls := "CompLabelModel", name := "around", desc := "(I)I" } : Jvm.MethodName) prog_3_method_25_code (4 : Nat) (Option.some Jvm.ClassFile.FieldType.int)) ∈ lw_all := lw_g (lw_at lw_m2 36 rfl) rfl
theorem q303 : (Jvm.Cond.methodLink "CompLabelModel" (80 : Nat) ({ cls := "CompLabelModel", name := "findReached", desc := "(I)V" } : Jvm.MethodName)) ∈ lw_all := lw_g (lw_at lw_m2 37 rfl) rfl
theorem q304 : (Jvm.Cond.privateMethod ({ cls := "CompLabelModel", name := "findReached", desc := "(I)V" } : Jvm.MethodName)) ∈ lw_tbl := lw_at lw_m2 38 rfl
theorem q305 : (Jvm.Cond.instanceMethod ({ cls := "CompLabelModel", name := "findReached", desc := "(I)V" } : Jvm.MethodName)) ∈ lw_all := lw_g (lw_at lw_m2 39 rfl) rfl
theorem q306 : (Jvm.Cond.code ({ cls := "CompLabelModel", name := "findReached", desc := "(I)V" } : Jvm.MethodName) prog_3_method_24_code (4 : Nat) (Option.none : Option Jvm.ClassFile.FieldType)) ∈ lw_all := lw_g (lw_at lw_m2 40 rfl) rfl
theorem q307 : (Jvm.Cond.methodLink "CompLabelModel" (77 : Nat) ({ cls := "CompLabelModel", name := "spreadReached", desc := "(I)Z" } : Jvm.MethodName)) ∈ lw_all := lw_g (lw_at lw_m2 41 rfl) rfl
theorem q308 : (Jvm.Cond.privateMethod ({ cls := "CompLabelModel", name := "spreadReached", desc := "(I)Z" } : Jvm.MethodName)) ∈ lw_tbl := lw_at lw_m2 42 rfl
theorem q309 : (Jvm.Cond.instanceMethod ({ cls := "CompLabelModel", name := "spreadReached", desc := "(I)Z" } : Jvm.MethodName)) ∈ lw_all := lw_g (lw_at lw_m2 43 rfl) rfl
theorem q310 : (Jvm.Cond.code ({ cls := "CompLabelModel", name := "spreadReached", desc := "(I)Z" } : Jvm.MethodName) prog_3_method_23_code (6 : Nat) (Option.some Jvm.ClassFile.FieldType.boolean)) ∈ lw_all := lw_g (lw_at lw_m2 44 rfl) rfl
theorem q312 : (Jvm.Cond.instanceMethod ({ cls := "CompLabelModel", name := "depth", desc := "(II)I" } : Jvm.MethodName)) ∈ lw_all := lw_g (lw_at lw_m2 46 rfl) rfl
theorem q313 : (Jvm.Cond.selects "CompLabelModel" ({ cls := "CompLabelModel", name := "depth", desc := "(II)I" } : Jvm.MethodName) ({ cls := "CompLabelModel", name := "depth", desc := "(II)I" } : Jvm.MethodName)) ∈ lw_all := lw_g (lw_at lw_m2 47 rfl) rfl
theorem q314 : (Jvm.Cond.code ({ cls := "CompLabelModel", name := "depth", desc := "(II)I" } : Jvm.MethodName) prog_3_method_26_code (3 : Nat) (Option.some Jvm.ClassFile.FieldType.int)) ∈ lw_all := lw_g (lw_at lw_m2 48 rfl) rfl
theorem q316 : (Jvm.Cond.instanceMethod ({ cls := "CompLabelModel", name := "enclosed", desc := "(I)I" } : Jvm.MethodName)) ∈ lw_all := lw_g (lw_at lw_m2 50 rfl) rfl
theorem q317 : (Jvm.Cond.selects "CompLabelModel" ({ cls := "CompLabelModel", name := "enclosed", desc := "(I)I" } : Jvm.MethodName) ({ cls := "CompLabelModel", name := "enclosed", desc := "(I)I" } : Jvm.MethodName)) ∈ lw_all := lw_g (lw_at lw_m2 51 rfl) rfl
theorem q318 : (Jvm.Cond.code ({ cls := "CompLabelModel", name := "enclosed", desc := "(I)I" } : Jvm.MethodName) prog_3_method_27_code (5 : Nat) (Option.some Jvm.ClassFile.FieldType.int)) ∈ lw_all := lw_g (lw_at lw_m2 52 rfl) rfl
theorem in_X2 : ∀ w ∈ wsX20, w ∈ lw_all := lw_in wsX20 [202, 204, 206, 208, 210, 212] (by decide +kernel) (by decide +kernel)
theorem dX2_init_0 : decode cX2_init 0 = .ok (.aload_n 0, 1) := by decide +kernel
theorem dX2_init_1 : decode cX2_init 1 = .ok (.invokespecial 1, 3) := by decide +kernel
theorem dX2_init_4 : decode cX2_init 4 = .ok (.aload_n 0, 1) := by decide +kernel
theorem dX2_init_5 : decode cX2_init 5 = .ok (.sipush 196, 3) := by decide +kernel
theorem dX2_init_8 : decode cX2_init 8 = .ok (.newarray .boolean, 2) := by decide +kernel
theorem dX2_init_10 : decode cX2_init 10 = .ok (.putfield 7, 3) := by decide +kernel
theorem dX2_init_13 : decode cX2_init 13 = .ok (.aload_n 0, 1) := by decide +kernel
theorem dX2_init_14 : decode cX2_init 14 = .ok (.sipush 196, 3) := by decide +kernel
theorem dX2_init_17 : decode cX2_init 17 = .ok (.newarray .int, 2) := by decide +kernel
theorem dX2_init_19 : decode cX2_init 19 = .ok (.putfield 13, 3) := by decide +kernel
theorem dX2_init_22 : decode cX2_init 22 = .ok (.aload_n 0, 1) := by decide +kernel
theorem dX2_init_23 : decode cX2_init 23 = .ok (.sipush 196, 3) := by decide +kernel
theorem dX2_init_26 : decode cX2_init 26 = .ok (.newarray .int, 2) := by decide +kernel
theorem dX2_init_28 : decode cX2_init 28 = .ok (.putfield 17, 3) := by decide +kernel
theorem dX2_init_31 : decode cX2_init 31 = .ok (.aload_n 0, 1) := by decide +kernel
theorem dX2_init_32 : decode cX2_init 32 = .ok (.sipush 196, 3) := by decide +kernel
theorem dX2_init_35 : decode cX2_init 35 = .ok (.newarray .boolean, 2) := by decide +kernel
theorem dX2_init_37 : decode cX2_init 37 = .ok (.putfield 20, 3) := by decide +kernel
theorem dX2_init_40 : decode cX2_init 40 = .ok (.aload_n 0, 1) := by decide +kernel
theorem dX2_init_41 : decode cX2_init 41 = .ok (.iload_n 1, 1) := by decide +kernel
theorem dX2_init_42 : decode cX2_init 42 = .ok (.iconst 2, 1) := by decide +kernel
theorem dX2_init_43 : decode cX2_init 43 = .ok (.if_icmp .ge 7, 3) := by decide +kernel
theorem dX2_init_46 : decode cX2_init 46 = .ok (.iconst 2, 1) := by decide +kernel
theorem dX2_init_47 : decode cX2_init 47 = .ok (.goto 15, 3) := by decide +kernel
theorem dX2_init_50 : decode cX2_init 50 = .ok (.iload_n 1, 1) := by decide +kernel
theorem dX2_init_51 : decode cX2_init 51 = .ok (.bipush 12, 2) := by decide +kernel
theorem dX2_init_53 : decode cX2_init 53 = .ok (.if_icmp .le 8, 3) := by decide +kernel
theorem dX2_init_56 : decode cX2_init 56 = .ok (.bipush 12, 2) := by decide +kernel
theorem dX2_init_58 : decode cX2_init 58 = .ok (.goto 4, 3) := by decide +kernel
theorem dX2_init_61 : decode cX2_init 61 = .ok (.iload_n 1, 1) := by decide +kernel
theorem dX2_init_62 : decode cX2_init 62 = .ok (.putfield 23, 3) := by decide +kernel
theorem dX2_init_65 : decode cX2_init 65 = .ok (.aload_n 0, 1) := by decide +kernel
theorem dX2_init_66 : decode cX2_init 66 = .ok (.iload_n 2, 1) := by decide +kernel
theorem dX2_init_67 : decode cX2_init 67 = .ok (.iconst 2, 1) := by decide +kernel
theorem dX2_init_68 : decode cX2_init 68 = .ok (.if_icmp .ge 7, 3) := by decide +kernel
theorem dX2_init_71 : decode cX2_init 71 = .ok (.iconst 2, 1) := by decide +kernel
theorem dX2_init_72 : decode cX2_init 72 = .ok (.goto 15, 3) := by decide +kernel
theorem dX2_init_75 : decode cX2_init 75 = .ok (.iload_n 2, 1) := by decide +kernel
theorem dX2_init_76 : decode cX2_init 76 = .ok (.bipush 12, 2) := by decide +kernel
theorem dX2_init_78 : decode cX2_init 78 = .ok (.if_icmp .le 8, 3) := by decide +kernel
theorem dX2_init_81 : decode cX2_init 81 = .ok (.bipush 12, 2) := by decide +kernel
theorem dX2_init_83 : decode cX2_init 83 = .ok (.goto 4, 3) := by decide +kernel
theorem dX2_init_86 : decode cX2_init 86 = .ok (.iload_n 2, 1) := by decide +kernel
theorem dX2_init_87 : decode cX2_init 87 = .ok (.putfield 27, 3) := by decide +kernel
theorem dX2_init_90 : decode cX2_init 90 = .ok (.return_, 1) := by decide +kernel
theorem dX2_set_0 : decode cX2_set 0 = .ok (.aload_n 0, 1) := by decide +kernel
theorem dX2_set_1 : decode cX2_set 1 = .ok (.iload_n 1, 1) := by decide +kernel
theorem dX2_set_2 : decode cX2_set 2 = .ok (.iload_n 2, 1) := by decide +kernel
theorem dX2_set_3 : decode cX2_set 3 = .ok (.invokevirtual 30, 3) := by decide +kernel
theorem dX2_set_6 : decode cX2_set 6 = .ok (.ifCond .ne 5, 3) := by decide +kernel
theorem dX2_set_9 : decode cX2_set 9 = .ok (.iconst 0, 1) := by decide +kernel
theorem dX2_set_10 : decode cX2_set 10 = .ok (.ireturn, 1) := by decide +kernel
theorem dX2_set_11 : decode cX2_set 11 = .ok (.aload_n 0, 1) := by decide +kernel
theorem dX2_set_12 : decode cX2_set 12 = .ok (.getfield 7, 3) := by decide +kernel
theorem dX2_set_15 : decode cX2_set 15 = .ok (.aload_n 0, 1) := by decide +kernel
theorem dX2_set_16 : decode cX2_set 16 = .ok (.iload_n 1, 1) := by decide +kernel
theorem dX2_set_17 : decode cX2_set 17 = .ok (.iload_n 2, 1) := by decide +kernel
theorem dX2_set_18 : decode cX2_set 18 = .ok (.invokevirtual 34, 3) := by decide +kernel
theorem dX2_set_21 : decode cX2_set 21 = .ok (.iload_n 3, 1) := by decide +kernel
theorem dX2_set_22 : decode cX2_set 22 = .ok (.bastore, 1) := by decide +kernel
theorem dX2_set_23 : decode cX2_set 23 = .ok (.iconst 1, 1) := by decide +kernel
theorem dX2_set_24 : decode cX2_set 24 = .ok (.ireturn, 1) := by decide +kernel
theorem dX2_inside_0 : decode cX2_inside 0 = .ok (.iload_n 1, 1) := by decide +kernel
theorem dX2_inside_1 : decode cX2_inside 1 = .ok (.ifCond .lt 27, 3) := by decide +kernel
theorem dX2_inside_4 : decode cX2_inside 4 = .ok (.iload_n 1, 1) := by decide +kernel
theorem dX2_inside_5 : decode cX2_inside 5 = .ok (.aload_n 0, 1) := by decide +kernel
theorem dX2_inside_6 : decode cX2_inside 6 = .ok (.getfield 23, 3) := by decide +kernel
theorem dX2_inside_9 : decode cX2_inside 9 = .ok (.if_icmp .ge 19, 3) := by decide +kernel
theorem dX2_inside_12 : decode cX2_inside 12 = .ok (.iload_n 2, 1) := by decide +kernel
theorem dX2_inside_13 : decode cX2_inside 13 = .ok (.ifCond .lt 15, 3) := by decide +kernel
theorem dX2_inside_16 : decode cX2_inside 16 = .ok (.iload_n 2, 1) := by decide +kernel
theorem dX2_inside_17 : decode cX2_inside 17 = .ok (.aload_n 0, 1) := by decide +kernel
theorem dX2_inside_18 : decode cX2_inside 18 = .ok (.getfield 27, 3) := by decide +kernel
theorem dX2_inside_21 : decode cX2_inside 21 = .ok (.if_icmp .ge 7, 3) := by decide +kernel
theorem dX2_inside_24 : decode cX2_inside 24 = .ok (.iconst 1, 1) := by decide +kernel
theorem dX2_inside_25 : decode cX2_inside 25 = .ok (.goto 4, 3) := by decide +kernel
theorem dX2_inside_28 : decode cX2_inside 28 = .ok (.iconst 0, 1) := by decide +kernel
theorem dX2_inside_29 : decode cX2_inside 29 = .ok (.ireturn, 1) := by decide +kernel
theorem dX2_place_0 : decode cX2_place 0 = .ok (.bipush 14, 2) := by decide +kernel
theorem dX2_place_2 : decode cX2_place 2 = .ok (.iload_n 2, 1) := by decide +kernel
theorem dX2_place_3 : decode cX2_place 3 = .ok (.iconst 1, 1) := by decide +kernel
theorem dX2_place_4 : decode cX2_place 4 = .ok (.iadd, 1) := by decide +kernel
theorem dX2_place_5 : decode cX2_place 5 = .ok (.imul, 1) := by decide +kernel
theorem dX2_place_6 : decode cX2_place 6 = .ok (.iload_n 1, 1) := by decide +kernel
theorem dX2_place_7 : decode cX2_place 7 = .ok (.iadd, 1) := by decide +kernel
theorem dX2_place_8 : decode cX2_place 8 = .ok (.iconst 1, 1) := by decide +kernel
theorem dX2_place_9 : decode cX2_place 9 = .ok (.iadd, 1) := by decide +kernel
theorem dX2_place_10 : decode cX2_place 10 = .ok (.ireturn, 1) := by decide +kernel
theorem dX2_invert_0 : decode cX2_invert 0 = .ok (.aload_n 0, 1) := by decide +kernel
theorem dX2_invert_1 : decode cX2_invert 1 = .ok (.iload_n 1, 1) := by decide +kernel
theorem dX2_invert_2 : decode cX2_invert 2 = .ok (.iload_n 2, 1) := by decide +kernel
theorem dX2_invert_3 : decode cX2_invert 3 = .ok (.invokevirtual 30, 3) := by decide +kernel
theorem dX2_invert_6 : decode cX2_invert 6 = .ok (.ifCond .eq 35, 3) := by decide +kernel
theorem dX2_invert_9 : decode cX2_invert 9 = .ok (.iload_n 3, 1) := by decide +kernel
theorem dX2_invert_10 : decode cX2_invert 10 = .ok (.iconst 1, 1) := by decide +kernel
theorem dX2_invert_11 : decode cX2_invert 11 = .ok (.if_icmp .lt 30, 3) := by decide +kernel
theorem dX2_invert_14 : decode cX2_invert 14 = .ok (.iload_n 3, 1) := by decide +kernel
theorem dX2_invert_15 : decode cX2_invert 15 = .ok (.aload_n 0, 1) := by decide +kernel
theorem dX2_invert_16 : decode cX2_invert 16 = .ok (.getfield 23, 3) := by decide +kernel
theorem dX2_invert_19 : decode cX2_invert 19 = .ok (.iload_n 1, 1) := by decide +kernel
theorem dX2_invert_20 : decode cX2_invert 20 = .ok (.isub, 1) := by decide +kernel
theorem dX2_invert_21 : decode cX2_invert 21 = .ok (.if_icmp .gt 20, 3) := by decide +kernel
theorem dX2_invert_24 : decode cX2_invert 24 = .ok (.iload 4, 2) := by decide +kernel
theorem dX2_invert_26 : decode cX2_invert 26 = .ok (.iconst 1, 1) := by decide +kernel
theorem dX2_invert_27 : decode cX2_invert 27 = .ok (.if_icmp .lt 14, 3) := by decide +kernel
theorem dX2_invert_30 : decode cX2_invert 30 = .ok (.iload 4, 2) := by decide +kernel
theorem dX2_invert_32 : decode cX2_invert 32 = .ok (.aload_n 0, 1) := by decide +kernel
theorem dX2_invert_33 : decode cX2_invert 33 = .ok (.getfield 27, 3) := by decide +kernel
theorem dX2_invert_36 : decode cX2_invert 36 = .ok (.iload_n 2, 1) := by decide +kernel
theorem dX2_invert_37 : decode cX2_invert 37 = .ok (.isub, 1) := by decide +kernel
theorem dX2_invert_38 : decode cX2_invert 38 = .ok (.if_icmp .le 5, 3) := by decide +kernel
theorem dX2_invert_41 : decode cX2_invert 41 = .ok (.iconst 0, 1) := by decide +kernel
theorem dX2_invert_42 : decode cX2_invert 42 = .ok (.ireturn, 1) := by decide +kernel
theorem dX2_invert_43 : decode cX2_invert 43 = .ok (.iload_n 2, 1) := by decide +kernel
theorem dX2_invert_44 : decode cX2_invert 44 = .ok (.istore 5, 2) := by decide +kernel
theorem dX2_invert_46 : decode cX2_invert 46 = .ok (.iload 5, 2) := by decide +kernel
theorem dX2_invert_48 : decode cX2_invert 48 = .ok (.iload_n 2, 1) := by decide +kernel
theorem dX2_invert_49 : decode cX2_invert 49 = .ok (.iload 4, 2) := by decide +kernel
theorem dX2_invert_51 : decode cX2_invert 51 = .ok (.iadd, 1) := by decide +kernel
theorem dX2_invert_52 : decode cX2_invert 52 = .ok (.if_icmp .ge 60, 3) := by decide +kernel
theorem dX2_invert_55 : decode cX2_invert 55 = .ok (.iload_n 1, 1) := by decide +kernel
theorem dX2_invert_56 : decode cX2_invert 56 = .ok (.istore 6, 2) := by decide +kernel
theorem dX2_invert_58 : decode cX2_invert 58 = .ok (.iload 6, 2) := by decide +kernel
theorem dX2_invert_60 : decode cX2_invert 60 = .ok (.iload_n 1, 1) := by decide +kernel
theorem dX2_invert_61 : decode cX2_invert 61 = .ok (.iload_n 3, 1) := by decide +kernel
theorem dX2_invert_62 : decode cX2_invert 62 = .ok (.iadd, 1) := by decide +kernel
theorem dX2_invert_63 : decode cX2_invert 63 = .ok (.if_icmp .ge 43, 3) := by decide +kernel
theorem dX2_invert_66 : decode cX2_invert 66 = .ok (.aload_n 0, 1) := by decide +kernel
theorem dX2_invert_67 : decode cX2_invert 67 = .ok (.getfield 7, 3) := by decide +kernel
theorem dX2_invert_70 : decode cX2_invert 70 = .ok (.aload_n 0, 1) := by decide +kernel
theorem dX2_invert_71 : decode cX2_invert 71 = .ok (.iload 6, 2) := by decide +kernel
theorem dX2_invert_73 : decode cX2_invert 73 = .ok (.iload 5, 2) := by decide +kernel
theorem dX2_invert_75 : decode cX2_invert 75 = .ok (.invokevirtual 34, 3) := by decide +kernel
theorem dX2_invert_78 : decode cX2_invert 78 = .ok (.aload_n 0, 1) := by decide +kernel
theorem dX2_invert_79 : decode cX2_invert 79 = .ok (.getfield 7, 3) := by decide +kernel
theorem dX2_invert_82 : decode cX2_invert 82 = .ok (.aload_n 0, 1) := by decide +kernel
theorem dX2_invert_83 : decode cX2_invert 83 = .ok (.iload 6, 2) := by decide +kernel
theorem dX2_invert_85 : decode cX2_invert 85 = .ok (.iload 5, 2) := by decide +kernel
theorem dX2_invert_87 : decode cX2_invert 87 = .ok (.invokevirtual 34, 3) := by decide +kernel
theorem dX2_invert_90 : decode cX2_invert 90 = .ok (.baload, 1) := by decide +kernel
theorem dX2_invert_91 : decode cX2_invert 91 = .ok (.ifCond .ne 7, 3) := by decide +kernel
theorem dX2_invert_94 : decode cX2_invert 94 = .ok (.iconst 1, 1) := by decide +kernel
theorem dX2_invert_95 : decode cX2_invert 95 = .ok (.goto 4, 3) := by decide +kernel
theorem dX2_invert_98 : decode cX2_invert 98 = .ok (.iconst 0, 1) := by decide +kernel
theorem dX2_invert_99 : decode cX2_invert 99 = .ok (.bastore, 1) := by decide +kernel
theorem dX2_invert_100 : decode cX2_invert 100 = .ok (.iinc 6 1, 3) := by decide +kernel
theorem dX2_invert_103 : decode cX2_invert 103 = .ok (.goto (-45), 3) := by decide +kernel
theorem dX2_invert_106 : decode cX2_invert 106 = .ok (.iinc 5 1, 3) := by decide +kernel
theorem dX2_invert_109 : decode cX2_invert 109 = .ok (.goto (-63), 3) := by decide +kernel
theorem dX2_invert_112 : decode cX2_invert 112 = .ok (.iconst 1, 1) := by decide +kernel
theorem dX2_invert_113 : decode cX2_invert 113 = .ok (.ireturn, 1) := by decide +kernel
theorem dX2_isBlack_0 : decode cX2_isBlack 0 = .ok (.aload_n 0, 1) := by decide +kernel
theorem dX2_isBlack_1 : decode cX2_isBlack 1 = .ok (.iload_n 1, 1) := by decide +kernel
theorem dX2_isBlack_2 : decode cX2_isBlack 2 = .ok (.iload_n 2, 1) := by decide +kernel
theorem dX2_isBlack_3 : decode cX2_isBlack 3 = .ok (.invokevirtual 30, 3) := by decide +kernel
theorem dX2_isBlack_6 : decode cX2_isBlack 6 = .ok (.ifCond .eq 21, 3) := by decide +kernel
theorem dX2_isBlack_9 : decode cX2_isBlack 9 = .ok (.aload_n 0, 1) := by decide +kernel
theorem dX2_isBlack_10 : decode cX2_isBlack 10 = .ok (.getfield 7, 3) := by decide +kernel
theorem dX2_isBlack_13 : decode cX2_isBlack 13 = .ok (.aload_n 0, 1) := by decide +kernel
theorem dX2_isBlack_14 : decode cX2_isBlack 14 = .ok (.iload_n 1, 1) := by decide +kernel
theorem dX2_isBlack_15 : decode cX2_isBlack 15 = .ok (.iload_n 2, 1) := by decide +kernel
theorem dX2_isBlack_16 : decode cX2_isBlack 16 = .ok (.invokevirtual 34, 3) := by decide +kernel
theorem dX2_isBlack_19 : decode cX2_isBlack 19 = .ok (.baload, 1) := by decide +kernel
theorem dX2_isBlack_20 : decode cX2_isBlack 20 = .ok (.ifCond .eq 7, 3) := by decide +kernel
theorem dX2_isBlack_23 : decode cX2_isBlack 23 = .ok (.iconst 1, 1) := by decide +kernel
theorem dX2_isBlack_24 : decode cX2_isBlack 24 = .ok (.goto 4, 3) := by decide +kernel
theorem dX2_isBlack_27 : decode cX2_isBlack 27 = .ok (.iconst 0, 1) := by decide +kernel
theorem dX2_isBlack_28 : decode cX2_isBlack 28 = .ok (.ireturn, 1) := by decide +kernel
theorem dX2_components_0 : decode cX2_components 0 = .ok (.aload_n 0, 1) := by decide +kernel
theorem dX2_components_1 : decode cX2_components 1 = .ok (.invokevirtual 60, 3) := by decide +kernel
theorem dX2_components_4 : decode cX2_components 4 = .ok (.aload_n 0, 1) := by decide +kernel
theorem dX2_components_5 : decode cX2_components 5 = .ok (.iconst 1, 1) := by decide +kernel
theorem dX2_components_6 : decode cX2_components 6 = .ok (.sipush 196, 3) := by decide +kernel
theorem dX2_components_9 : decode cX2_components 9 = .ok (.invokevirtual 63, 3) := by decide +kernel
theorem dX2_components_12 : decode cX2_components 12 = .ok (.ireturn, 1) := by decide +kernel
theorem dX2_findRoots_0 : decode cX2_findRoots 0 = .ok (.iconst 0, 1) := by decide +kernel
theorem dX2_findRoots_1 : decode cX2_findRoots 1 = .ok (.istore_n 1, 1) := by decide +kernel
theorem dX2_findRoots_2 : decode cX2_findRoots 2 = .ok (.iload_n 1, 1) := by decide +kernel
theorem dX2_findRoots_3 : decode cX2_findRoots 3 = .ok (.sipush 196, 3) := by decide +kernel
theorem dX2_findRoots_6 : decode cX2_findRoots 6 = .ok (.if_icmp .ge 16, 3) := by decide +kernel
theorem dX2_findRoots_9 : decode cX2_findRoots 9 = .ok (.aload_n 0, 1) := by decide +kernel
theorem dX2_findRoots_10 : decode cX2_findRoots 10 = .ok (.getfield 13, 3) := by decide +kernel
theorem dX2_findRoots_13 : decode cX2_findRoots 13 = .ok (.iload_n 1, 1) := by decide +kernel
theorem dX2_findRoots_14 : decode cX2_findRoots 14 = .ok (.iload_n 1, 1) := by decide +kernel
theorem dX2_findRoots_15 : decode cX2_findRoots 15 = .ok (.iastore, 1) := by decide +kernel
theorem dX2_findRoots_16 : decode cX2_findRoots 16 = .ok (.iinc 1 1, 3) := by decide +kernel
theorem dX2_findRoots_19 : decode cX2_findRoots 19 = .ok (.goto (-17), 3) := by decide +kernel
theorem dX2_findRoots_22 : decode cX2_findRoots 22 = .ok (.iconst 1, 1) := by decide +kernel
theorem dX2_findRoots_23 : decode cX2_findRoots 23 = .ok (.istore_n 1, 1) := by decide +kernel
theorem dX2_findRoots_24 : decode cX2_findRoots 24 = .ok (.iconst 0, 1) := by decide +kernel
theorem dX2_findRoots_25 : decode cX2_findRoots 25 = .ok (.istore_n 2, 1) := by decide +kernel
theorem dX2_findRoots_26 : decode cX2_findRoots 26 = .ok (.iload_n 2, 1) := by decide +kernel
theorem dX2_findRoots_27 : decode cX2_findRoots 27 = .ok (.sipush 197, 3) := by decide +kernel
theorem dX2_findRoots_30 : decode cX2_findRoots 30 = .ok (.if_icmp .ge 18, 3) := by decide +kernel
theorem dX2_findRoots_33 : decode cX2_findRoots 33 = .ok (.iload_n 1, 1) := by decide +kernel
theorem dX2_findRoots_34 : decode cX2_findRoots 34 = .ok (.ifCond .eq 14, 3) := by decide +kernel
theorem dX2_findRoots_37 : decode cX2_findRoots 37 = .ok (.aload_n 0, 1) := by decide +kernel
theorem dX2_findRoots_38 : decode cX2_findRoots 38 = .ok (.invokevirtual 49, 3) := by decide +kernel
theorem dX2_findRoots_41 : decode cX2_findRoots 41 = .ok (.istore_n 1, 1) := by decide +kernel
theorem dX2_findRoots_42 : decode cX2_findRoots 42 = .ok (.iinc 2 1, 3) := by decide +kernel
theorem dX2_findRoots_45 : decode cX2_findRoots 45 = .ok (.goto (-19), 3) := by decide +kernel
theorem dX2_findRoots_48 : decode cX2_findRoots 48 = .ok (.return_, 1) := by decide +kernel
theorem dX2_spreadRoots_0 : decode cX2_spreadRoots 0 = .ok (.iconst 0, 1) := by decide +kernel
theorem dX2_spreadRoots_1 : decode cX2_spreadRoots 1 = .ok (.istore_n 1, 1) := by decide +kernel
theorem dX2_spreadRoots_2 : decode cX2_spreadRoots 2 = .ok (.iconst 0, 1) := by decide +kernel
theorem dX2_spreadRoots_3 : decode cX2_spreadRoots 3 = .ok (.istore_n 2, 1) := by decide +kernel
theorem dX2_spreadRoots_4 : decode cX2_spreadRoots 4 = .ok (.iload_n 2, 1) := by decide +kernel
theorem dX2_spreadRoots_5 : decode cX2_spreadRoots 5 = .ok (.sipush 196, 3) := by decide +kernel
theorem dX2_spreadRoots_8 : decode cX2_spreadRoots 8 = .ok (.if_icmp .ge 78, 3) := by decide +kernel
theorem dX2_spreadRoots_11 : decode cX2_spreadRoots 11 = .ok (.iconst 0, 1) := by decide +kernel
theorem dX2_spreadRoots_12 : decode cX2_spreadRoots 12 = .ok (.istore_n 3, 1) := by decide +kernel
theorem dX2_spreadRoots_13 : decode cX2_spreadRoots 13 = .ok (.iload_n 3, 1) := by decide +kernel
theorem dX2_spreadRoots_14 : decode cX2_spreadRoots 14 = .ok (.bipush 9, 2) := by decide +kernel
theorem dX2_spreadRoots_16 : decode cX2_spreadRoots 16 = .ok (.if_icmp .ge 64, 3) := by decide +kernel
theorem dX2_spreadRoots_19 : decode cX2_spreadRoots 19 = .ok (.aload_n 0, 1) := by decide +kernel
theorem dX2_spreadRoots_20 : decode cX2_spreadRoots 20 = .ok (.iload_n 2, 1) := by decide +kernel
theorem dX2_spreadRoots_21 : decode cX2_spreadRoots 21 = .ok (.iload_n 3, 1) := by decide +kernel
theorem dX2_spreadRoots_22 : decode cX2_spreadRoots 22 = .ok (.invokevirtual 42, 3) := by decide +kernel
theorem dX2_spreadRoots_25 : decode cX2_spreadRoots 25 = .ok (.istore 4, 2) := by decide +kernel
theorem dX2_spreadRoots_27 : decode cX2_spreadRoots 27 = .ok (.iload 4, 2) := by decide +kernel
theorem dX2_spreadRoots_29 : decode cX2_spreadRoots 29 = .ok (.ifCond .lt 45, 3) := by decide +kernel
theorem dX2_spreadRoots_32 : decode cX2_spreadRoots 32 = .ok (.aload_n 0, 1) := by decide +kernel
theorem dX2_spreadRoots_33 : decode cX2_spreadRoots 33 = .ok (.iload_n 2, 1) := by decide +kernel
theorem dX2_spreadRoots_34 : decode cX2_spreadRoots 34 = .ok (.iload 4, 2) := by decide +kernel
theorem dX2_spreadRoots_36 : decode cX2_spreadRoots 36 = .ok (.iload_n 3, 1) := by decide +kernel
theorem dX2_spreadRoots_37 : decode cX2_spreadRoots 37 = .ok (.invokevirtual 45, 3) := by decide +kernel
theorem dX2_spreadRoots_40 : decode cX2_spreadRoots 40 = .ok (.ifCond .eq 34, 3) := by decide +kernel
theorem dX2_spreadRoots_43 : decode cX2_spreadRoots 43 = .ok (.aload_n 0, 1) := by decide +kernel
theorem dX2_spreadRoots_44 : decode cX2_spreadRoots 44 = .ok (.getfield 13, 3) := by decide +kernel
theorem dX2_spreadRoots_47 : decode cX2_spreadRoots 47 = .ok (.iload 4, 2) := by decide +kernel
theorem dX2_spreadRoots_49 : decode cX2_spreadRoots 49 = .ok (.iaload, 1) := by decide +kernel
theorem dX2_spreadRoots_50 : decode cX2_spreadRoots 50 = .ok (.aload_n 0, 1) := by decide +kernel
theorem dX2_spreadRoots_51 : decode cX2_spreadRoots 51 = .ok (.getfield 13, 3) := by decide +kernel
theorem dX2_spreadRoots_54 : decode cX2_spreadRoots 54 = .ok (.iload_n 2, 1) := by decide +kernel
theorem dX2_spreadRoots_55 : decode cX2_spreadRoots 55 = .ok (.iaload, 1) := by decide +kernel
theorem dX2_spreadRoots_56 : decode cX2_spreadRoots 56 = .ok (.if_icmp .ge 18, 3) := by decide +kernel
theorem dX2_spreadRoots_59 : decode cX2_spreadRoots 59 = .ok (.aload_n 0, 1) := by decide +kernel
theorem dX2_spreadRoots_60 : decode cX2_spreadRoots 60 = .ok (.getfield 13, 3) := by decide +kernel
theorem dX2_spreadRoots_63 : decode cX2_spreadRoots 63 = .ok (.iload_n 2, 1) := by decide +kernel
theorem dX2_spreadRoots_64 : decode cX2_spreadRoots 64 = .ok (.aload_n 0, 1) := by decide +kernel
theorem dX2_spreadRoots_65 : decode cX2_spreadRoots 65 = .ok (.getfield 13, 3) := by decide +kernel
theorem dX2_spreadRoots_68 : decode cX2_spreadRoots 68 = .ok (.iload 4, 2) := by decide +kernel
theorem dX2_spreadRoots_70 : decode cX2_spreadRoots 70 = .ok (.iaload, 1) := by decide +kernel
theorem dX2_spreadRoots_71 : decode cX2_spreadRoots 71 = .ok (.iastore, 1) := by decide +kernel
theorem dX2_spreadRoots_72 : decode cX2_spreadRoots 72 = .ok (.iconst 1, 1) := by decide +kernel
theorem dX2_spreadRoots_73 : decode cX2_spreadRoots 73 = .ok (.istore_n 1, 1) := by decide +kernel
theorem dX2_spreadRoots_74 : decode cX2_spreadRoots 74 = .ok (.iinc 3 1, 3) := by decide +kernel
theorem dX2_spreadRoots_77 : decode cX2_spreadRoots 77 = .ok (.goto (-64), 3) := by decide +kernel
theorem dX2_spreadRoots_80 : decode cX2_spreadRoots 80 = .ok (.iinc 2 1, 3) := by decide +kernel
theorem dX2_spreadRoots_83 : decode cX2_spreadRoots 83 = .ok (.goto (-79), 3) := by decide +kernel
theorem dX2_spreadRoots_86 : decode cX2_spreadRoots 86 = .ok (.iload_n 1, 1) := by decide +kernel
theorem dX2_spreadRoots_87 : decode cX2_spreadRoots 87 = .ok (.ireturn, 1) := by decide +kernel
theorem dX2_near_0 : decode cX2_near 0 = .ok (.iload_n 1, 1) := by decide +kernel
theorem dX2_near_1 : decode cX2_near 1 = .ok (.bipush 14, 2) := by decide +kernel
theorem dX2_near_3 : decode cX2_near 3 = .ok (.irem, 1) := by decide +kernel
theorem dX2_near_4 : decode cX2_near 4 = .ok (.iload_n 2, 1) := by decide +kernel
theorem dX2_near_5 : decode cX2_near 5 = .ok (.iconst 3, 1) := by decide +kernel
theorem dX2_near_6 : decode cX2_near 6 = .ok (.irem, 1) := by decide +kernel
theorem dX2_near_7 : decode cX2_near 7 = .ok (.iadd, 1) := by decide +kernel
theorem dX2_near_8 : decode cX2_near 8 = .ok (.iconst 1, 1) := by decide +kernel
theorem dX2_near_9 : decode cX2_near 9 = .ok (.isub, 1) := by decide +kernel
theorem dX2_near_10 : decode cX2_near 10 = .ok (.istore_n 3, 1) := by decide +kernel
theorem dX2_near_11 : decode cX2_near 11 = .ok (.iload_n 1, 1) := by decide +kernel
theorem dX2_near_12 : decode cX2_near 12 = .ok (.bipush 14, 2) := by decide +kernel
theorem dX2_near_14 : decode cX2_near 14 = .ok (.idiv, 1) := by decide +kernel
theorem dX2_near_15 : decode cX2_near 15 = .ok (.iload_n 2, 1) := by decide +kernel
theorem dX2_near_16 : decode cX2_near 16 = .ok (.iconst 3, 1) := by decide +kernel
theorem dX2_near_17 : decode cX2_near 17 = .ok (.idiv, 1) := by decide +kernel
theorem dX2_near_18 : decode cX2_near 18 = .ok (.iadd, 1) := by decide +kernel
theorem dX2_near_19 : decode cX2_near 19 = .ok (.iconst 1, 1) := by decide +kernel
theorem dX2_near_20 : decode cX2_near 20 = .ok (.isub, 1) := by decide +kernel
theorem dX2_near_21 : decode cX2_near 21 = .ok (.istore 4, 2) := by decide +kernel
theorem dX2_near_23 : decode cX2_near 23 = .ok (.iload_n 3, 1) := by decide +kernel
theorem dX2_near_24 : decode cX2_near 24 = .ok (.ifCond .lt 21, 3) := by decide +kernel
theorem dX2_near_27 : decode cX2_near 27 = .ok (.iload_n 3, 1) := by decide +kernel
theorem dX2_near_28 : decode cX2_near 28 = .ok (.bipush 13, 2) := by decide +kernel
theorem dX2_near_30 : decode cX2_near 30 = .ok (.if_icmp .gt 15, 3) := by decide +kernel
theorem dX2_near_33 : decode cX2_near 33 = .ok (.iload 4, 2) := by decide +kernel
theorem dX2_near_35 : decode cX2_near 35 = .ok (.ifCond .lt 10, 3) := by decide +kernel
theorem dX2_near_38 : decode cX2_near 38 = .ok (.iload 4, 2) := by decide +kernel
theorem dX2_near_40 : decode cX2_near 40 = .ok (.bipush 13, 2) := by decide +kernel
theorem dX2_near_42 : decode cX2_near 42 = .ok (.if_icmp .le 7, 3) := by decide +kernel
theorem dX2_near_45 : decode cX2_near 45 = .ok (.iconst (-1), 1) := by decide +kernel
theorem dX2_near_46 : decode cX2_near 46 = .ok (.goto 10, 3) := by decide +kernel
theorem dX2_near_49 : decode cX2_near 49 = .ok (.bipush 14, 2) := by decide +kernel
theorem dX2_near_51 : decode cX2_near 51 = .ok (.iload 4, 2) := by decide +kernel
theorem dX2_near_53 : decode cX2_near 53 = .ok (.imul, 1) := by decide +kernel
theorem dX2_near_54 : decode cX2_near 54 = .ok (.iload_n 3, 1) := by decide +kernel
theorem dX2_near_55 : decode cX2_near 55 = .ok (.iadd, 1) := by decide +kernel
theorem dX2_near_56 : decode cX2_near 56 = .ok (.ireturn, 1) := by decide +kernel
theorem dX2_step_0 : decode cX2_step 0 = .ok (.aload_n 0, 1) := by decide +kernel
theorem dX2_step_1 : decode cX2_step 1 = .ok (.getfield 7, 3) := by decide +kernel
theorem dX2_step_4 : decode cX2_step 4 = .ok (.iload_n 1, 1) := by decide +kernel
theorem dX2_step_5 : decode cX2_step 5 = .ok (.baload, 1) := by decide +kernel
theorem dX2_step_6 : decode cX2_step 6 = .ok (.aload_n 0, 1) := by decide +kernel
theorem dX2_step_7 : decode cX2_step 7 = .ok (.getfield 7, 3) := by decide +kernel
theorem dX2_step_10 : decode cX2_step 10 = .ok (.iload_n 2, 1) := by decide +kernel
theorem dX2_step_11 : decode cX2_step 11 = .ok (.baload, 1) := by decide +kernel
theorem dX2_step_12 : decode cX2_step 12 = .ok (.if_icmp .ne 24, 3) := by decide +kernel
theorem dX2_step_15 : decode cX2_step 15 = .ok (.aload_n 0, 1) := by decide +kernel
theorem dX2_step_16 : decode cX2_step 16 = .ok (.getfield 7, 3) := by decide +kernel
theorem dX2_step_19 : decode cX2_step 19 = .ok (.iload_n 1, 1) := by decide +kernel
theorem dX2_step_20 : decode cX2_step 20 = .ok (.baload, 1) := by decide +kernel
theorem dX2_step_21 : decode cX2_step 21 = .ok (.ifCond .ne 11, 3) := by decide +kernel
theorem dX2_step_24 : decode cX2_step 24 = .ok (.aload_n 0, 1) := by decide +kernel
theorem dX2_step_25 : decode cX2_step 25 = .ok (.iload_n 3, 1) := by decide +kernel
theorem dX2_step_26 : decode cX2_step 26 = .ok (.invokevirtual 38, 3) := by decide +kernel
theorem dX2_step_29 : decode cX2_step 29 = .ok (.ifCond .eq 7, 3) := by decide +kernel
theorem dX2_step_32 : decode cX2_step 32 = .ok (.iconst 1, 1) := by decide +kernel
theorem dX2_step_33 : decode cX2_step 33 = .ok (.goto 4, 3) := by decide +kernel
theorem dX2_step_36 : decode cX2_step 36 = .ok (.iconst 0, 1) := by decide +kernel
theorem dX2_step_37 : decode cX2_step 37 = .ok (.ireturn, 1) := by decide +kernel
theorem dX2_besideWay_0 : decode cX2_besideWay 0 = .ok (.iload_n 1, 1) := by decide +kernel
theorem dX2_besideWay_1 : decode cX2_besideWay 1 = .ok (.iconst 2, 1) := by decide +kernel
theorem dX2_besideWay_2 : decode cX2_besideWay 2 = .ok (.irem, 1) := by decide +kernel
theorem dX2_besideWay_3 : decode cX2_besideWay 3 = .ok (.iconst 1, 1) := by decide +kernel
theorem dX2_besideWay_4 : decode cX2_besideWay 4 = .ok (.if_icmp .ne 7, 3) := by decide +kernel
theorem dX2_besideWay_7 : decode cX2_besideWay 7 = .ok (.iconst 1, 1) := by decide +kernel
theorem dX2_besideWay_8 : decode cX2_besideWay 8 = .ok (.goto 4, 3) := by decide +kernel
theorem dX2_besideWay_11 : decode cX2_besideWay 11 = .ok (.iconst 0, 1) := by decide +kernel
theorem dX2_besideWay_12 : decode cX2_besideWay 12 = .ok (.ireturn, 1) := by decide +kernel
theorem dX2_count_0 : decode cX2_count 0 = .ok (.iconst 0, 1) := by decide +kernel
theorem dX2_count_1 : decode cX2_count 1 = .ok (.istore_n 3, 1) := by decide +kernel
theorem dX2_count_2 : decode cX2_count 2 = .ok (.iconst 0, 1) := by decide +kernel
theorem dX2_count_3 : decode cX2_count 3 = .ok (.istore 4, 2) := by decide +kernel
theorem dX2_count_5 : decode cX2_count 5 = .ok (.iload 4, 2) := by decide +kernel
theorem dX2_count_7 : decode cX2_count 7 = .ok (.iload_n 2, 1) := by decide +kernel
theorem dX2_count_8 : decode cX2_count 8 = .ok (.if_icmp .ge 22, 3) := by decide +kernel
theorem dX2_count_11 : decode cX2_count 11 = .ok (.aload_n 0, 1) := by decide +kernel
theorem dX2_count_12 : decode cX2_count 12 = .ok (.iload 4, 2) := by decide +kernel
theorem dX2_count_14 : decode cX2_count 14 = .ok (.iload_n 1, 1) := by decide +kernel
theorem dX2_count_15 : decode cX2_count 15 = .ok (.invokevirtual 56, 3) := by decide +kernel
theorem dX2_count_18 : decode cX2_count 18 = .ok (.ifCond .eq 6, 3) := by decide +kernel
theorem dX2_count_21 : decode cX2_count 21 = .ok (.iinc 3 1, 3) := by decide +kernel
theorem dX2_count_24 : decode cX2_count 24 = .ok (.iinc 4 1, 3) := by decide +kernel
theorem dX2_count_27 : decode cX2_count 27 = .ok (.goto (-22), 3) := by decide +kernel
theorem dX2_count_30 : decode cX2_count 30 = .ok (.iload_n 3, 1) := by decide +kernel
theorem dX2_count_31 : decode cX2_count 31 = .ok (.ireturn, 1) := by decide +kernel
theorem dX2_isFirst_0 : decode cX2_isFirst 0 = .ok (.aload_n 0, 1) := by decide +kernel
theorem dX2_isFirst_1 : decode cX2_isFirst 1 = .ok (.getfield 7, 3) := by decide +kernel
theorem dX2_isFirst_4 : decode cX2_isFirst 4 = .ok (.iload_n 1, 1) := by decide +kernel
theorem dX2_isFirst_5 : decode cX2_isFirst 5 = .ok (.baload, 1) := by decide +kernel
theorem dX2_isFirst_6 : decode cX2_isFirst 6 = .ok (.iload_n 2, 1) := by decide +kernel
theorem dX2_isFirst_7 : decode cX2_isFirst 7 = .ok (.if_icmp .ne 17, 3) := by decide +kernel
theorem dX2_isFirst_10 : decode cX2_isFirst 10 = .ok (.aload_n 0, 1) := by decide +kernel
theorem dX2_isFirst_11 : decode cX2_isFirst 11 = .ok (.getfield 13, 3) := by decide +kernel
theorem dX2_isFirst_14 : decode cX2_isFirst 14 = .ok (.iload_n 1, 1) := by decide +kernel
theorem dX2_isFirst_15 : decode cX2_isFirst 15 = .ok (.iaload, 1) := by decide +kernel
theorem dX2_isFirst_16 : decode cX2_isFirst 16 = .ok (.iload_n 1, 1) := by decide +kernel
theorem dX2_isFirst_17 : decode cX2_isFirst 17 = .ok (.if_icmp .ne 7, 3) := by decide +kernel
theorem dX2_isFirst_20 : decode cX2_isFirst 20 = .ok (.iconst 1, 1) := by decide +kernel
theorem dX2_isFirst_21 : decode cX2_isFirst 21 = .ok (.goto 4, 3) := by decide +kernel
theorem dX2_isFirst_24 : decode cX2_isFirst 24 = .ok (.iconst 0, 1) := by decide +kernel
theorem dX2_isFirst_25 : decode cX2_isFirst 25 = .ok (.ireturn, 1) := by decide +kernel
theorem dX2_euler_0 : decode cX2_euler 0 = .ok (.aload_n 0, 1) := by decide +kernel
theorem dX2_euler_1 : decode cX2_euler 1 = .ok (.invokevirtual 60, 3) := by decide +kernel
theorem dX2_euler_4 : decode cX2_euler 4 = .ok (.aload_n 0, 1) := by decide +kernel
theorem dX2_euler_5 : decode cX2_euler 5 = .ok (.iconst 1, 1) := by decide +kernel
theorem dX2_euler_6 : decode cX2_euler 6 = .ok (.sipush 196, 3) := by decide +kernel
theorem dX2_euler_9 : decode cX2_euler 9 = .ok (.invokevirtual 63, 3) := by decide +kernel
theorem dX2_euler_12 : decode cX2_euler 12 = .ok (.aload_n 0, 1) := by decide +kernel
theorem dX2_euler_13 : decode cX2_euler 13 = .ok (.iconst 0, 1) := by decide +kernel
theorem dX2_euler_14 : decode cX2_euler 14 = .ok (.sipush 196, 3) := by decide +kernel
theorem dX2_euler_17 : decode cX2_euler 17 = .ok (.invokevirtual 63, 3) := by decide +kernel
theorem dX2_euler_20 : decode cX2_euler 20 = .ok (.iconst 1, 1) := by decide +kernel
theorem dX2_euler_21 : decode cX2_euler 21 = .ok (.isub, 1) := by decide +kernel
theorem dX2_euler_22 : decode cX2_euler 22 = .ok (.isub, 1) := by decide +kernel
theorem dX2_euler_23 : decode cX2_euler 23 = .ok (.ireturn, 1) := by decide +kernel
theorem dX2_label_0 : decode cX2_label 0 = .ok (.aload_n 0, 1) := by decide +kernel
theorem dX2_label_1 : decode cX2_label 1 = .ok (.iload_n 1, 1) := by decide +kernel
theorem dX2_label_2 : decode cX2_label 2 = .ok (.iload_n 2, 1) := by decide +kernel
theorem dX2_label_3 : decode cX2_label 3 = .ok (.invokevirtual 30, 3) := by decide +kernel
theorem dX2_label_6 : decode cX2_label 6 = .ok (.ifCond .ne 5, 3) := by decide +kernel
theorem dX2_label_9 : decode cX2_label 9 = .ok (.iconst (-1), 1) := by decide +kernel
theorem dX2_label_10 : decode cX2_label 10 = .ok (.ireturn, 1) := by decide +kernel
theorem dX2_label_11 : decode cX2_label 11 = .ok (.aload_n 0, 1) := by decide +kernel
theorem dX2_label_12 : decode cX2_label 12 = .ok (.iload_n 1, 1) := by decide +kernel
theorem dX2_label_13 : decode cX2_label 13 = .ok (.iload_n 2, 1) := by decide +kernel
theorem dX2_label_14 : decode cX2_label 14 = .ok (.invokevirtual 34, 3) := by decide +kernel
theorem dX2_label_17 : decode cX2_label 17 = .ok (.istore_n 3, 1) := by decide +kernel
theorem dX2_label_18 : decode cX2_label 18 = .ok (.aload_n 0, 1) := by decide +kernel
theorem dX2_label_19 : decode cX2_label 19 = .ok (.getfield 7, 3) := by decide +kernel
theorem dX2_label_22 : decode cX2_label 22 = .ok (.iload_n 3, 1) := by decide +kernel
theorem dX2_label_23 : decode cX2_label 23 = .ok (.baload, 1) := by decide +kernel
theorem dX2_label_24 : decode cX2_label 24 = .ok (.ifCond .ne 6, 3) := by decide +kernel
theorem dX2_label_27 : decode cX2_label 27 = .ok (.bipush (-2), 2) := by decide +kernel
theorem dX2_label_29 : decode cX2_label 29 = .ok (.ireturn, 1) := by decide +kernel
theorem dX2_label_30 : decode cX2_label 30 = .ok (.aload_n 0, 1) := by decide +kernel
theorem dX2_label_31 : decode cX2_label 31 = .ok (.invokevirtual 60, 3) := by decide +kernel
theorem dX2_label_34 : decode cX2_label 34 = .ok (.aload_n 0, 1) := by decide +kernel
theorem dX2_label_35 : decode cX2_label 35 = .ok (.iconst 1, 1) := by decide +kernel
theorem dX2_label_36 : decode cX2_label 36 = .ok (.aload_n 0, 1) := by decide +kernel
theorem dX2_label_37 : decode cX2_label 37 = .ok (.getfield 13, 3) := by decide +kernel
theorem dX2_label_40 : decode cX2_label 40 = .ok (.iload_n 3, 1) := by decide +kernel
theorem dX2_label_41 : decode cX2_label 41 = .ok (.iaload, 1) := by decide +kernel
theorem dX2_label_42 : decode cX2_label 42 = .ok (.invokevirtual 63, 3) := by decide +kernel
theorem dX2_label_45 : decode cX2_label 45 = .ok (.ireturn, 1) := by decide +kernel
theorem dX2_area_0 : decode cX2_area 0 = .ok (.aload_n 0, 1) := by decide +kernel
theorem dX2_area_1 : decode cX2_area 1 = .ok (.iload_n 1, 1) := by decide +kernel
theorem dX2_area_2 : decode cX2_area 2 = .ok (.invokevirtual 67, 3) := by decide +kernel
theorem dX2_area_5 : decode cX2_area 5 = .ok (.istore_n 2, 1) := by decide +kernel
theorem dX2_area_6 : decode cX2_area 6 = .ok (.iload_n 2, 1) := by decide +kernel
theorem dX2_area_7 : decode cX2_area 7 = .ok (.ifCond .ge 5, 3) := by decide +kernel
theorem dX2_area_10 : decode cX2_area 10 = .ok (.iconst (-1), 1) := by decide +kernel
theorem dX2_area_11 : decode cX2_area 11 = .ok (.ireturn, 1) := by decide +kernel
theorem dX2_area_12 : decode cX2_area 12 = .ok (.iconst 0, 1) := by decide +kernel
theorem dX2_area_13 : decode cX2_area 13 = .ok (.istore_n 3, 1) := by decide +kernel
end
section
set_option maxRecDepth 100000
theorem dX2_area_14 : decode cX2_area 14 = .ok (.iconst 0, 1) := by decide +kernel
theorem dX2_area_15 : decode cX2_area 15 = .ok (.istore 4, 2) := by decide +kernel
theorem dX2_area_17 : decode cX2_area 17 = .ok (.iload 4, 2) := by decide +kernel
theorem dX2_area_19 : decode cX2_area 19 = .ok (.sipush 196, 3) := by decide +kernel
theorem dX2_area_22 : decode cX2_area 22 = .ok (.if_icmp .ge 23, 3) := by decide +kernel
theorem dX2_area_25 : decode cX2_area 25 = .ok (.aload_n 0, 1) := by decide +kernel
theorem dX2_area_26 : decode cX2_area 26 = .ok (.getfield 13, 3) := by decide +kernel
theorem dX2_area_29 : decode cX2_area 29 = .ok (.iload 4, 2) := by decide +kernel
theorem dX2_area_31 : decode cX2_area 31 = .ok (.iaload, 1) := by decide +kernel
theorem dX2_area_32 : decode cX2_area 32 = .ok (.iload_n 2, 1) := by decide +kernel
theorem dX2_area_33 : decode cX2_area 33 = .ok (.if_icmp .ne 6, 3) := by decide +kernel
theorem dX2_area_36 : decode cX2_area 36 = .ok (.iinc 3 1, 3) := by decide +kernel
theorem dX2_area_39 : decode cX2_area 39 = .ok (.iinc 4 1, 3) := by decide +kernel
theorem dX2_area_42 : decode cX2_area 42 = .ok (.goto (-25), 3) := by decide +kernel
theorem dX2_area_45 : decode cX2_area 45 = .ok (.iload_n 3, 1) := by decide +kernel
theorem dX2_area_46 : decode cX2_area 46 = .ok (.ireturn, 1) := by decide +kernel
theorem dX2_firstOf_0 : decode cX2_firstOf 0 = .ok (.aload_n 0, 1) := by decide +kernel
theorem dX2_firstOf_1 : decode cX2_firstOf 1 = .ok (.invokevirtual 60, 3) := by decide +kernel
theorem dX2_firstOf_4 : decode cX2_firstOf 4 = .ok (.iconst 0, 1) := by decide +kernel
theorem dX2_firstOf_5 : decode cX2_firstOf 5 = .ok (.istore_n 2, 1) := by decide +kernel
theorem dX2_firstOf_6 : decode cX2_firstOf 6 = .ok (.iconst 0, 1) := by decide +kernel
theorem dX2_firstOf_7 : decode cX2_firstOf 7 = .ok (.istore_n 3, 1) := by decide +kernel
theorem dX2_firstOf_8 : decode cX2_firstOf 8 = .ok (.iload_n 3, 1) := by decide +kernel
theorem dX2_firstOf_9 : decode cX2_firstOf 9 = .ok (.sipush 196, 3) := by decide +kernel
theorem dX2_firstOf_12 : decode cX2_firstOf 12 = .ok (.if_icmp .ge 28, 3) := by decide +kernel
theorem dX2_firstOf_15 : decode cX2_firstOf 15 = .ok (.aload_n 0, 1) := by decide +kernel
theorem dX2_firstOf_16 : decode cX2_firstOf 16 = .ok (.iload_n 3, 1) := by decide +kernel
theorem dX2_firstOf_17 : decode cX2_firstOf 17 = .ok (.iconst 1, 1) := by decide +kernel
theorem dX2_firstOf_18 : decode cX2_firstOf 18 = .ok (.invokevirtual 56, 3) := by decide +kernel
theorem dX2_firstOf_21 : decode cX2_firstOf 21 = .ok (.ifCond .eq 13, 3) := by decide +kernel
theorem dX2_firstOf_24 : decode cX2_firstOf 24 = .ok (.iload_n 2, 1) := by decide +kernel
theorem dX2_firstOf_25 : decode cX2_firstOf 25 = .ok (.iload_n 1, 1) := by decide +kernel
theorem dX2_firstOf_26 : decode cX2_firstOf 26 = .ok (.if_icmp .ne 5, 3) := by decide +kernel
theorem dX2_firstOf_29 : decode cX2_firstOf 29 = .ok (.iload_n 3, 1) := by decide +kernel
theorem dX2_firstOf_30 : decode cX2_firstOf 30 = .ok (.ireturn, 1) := by decide +kernel
theorem dX2_firstOf_31 : decode cX2_firstOf 31 = .ok (.iinc 2 1, 3) := by decide +kernel
theorem dX2_firstOf_34 : decode cX2_firstOf 34 = .ok (.iinc 3 1, 3) := by decide +kernel
theorem dX2_firstOf_37 : decode cX2_firstOf 37 = .ok (.goto (-29), 3) := by decide +kernel
theorem dX2_firstOf_40 : decode cX2_firstOf 40 = .ok (.iconst (-1), 1) := by decide +kernel
theorem dX2_firstOf_41 : decode cX2_firstOf 41 = .ok (.ireturn, 1) := by decide +kernel
theorem dX2_holes_0 : decode cX2_holes 0 = .ok (.aload_n 0, 1) := by decide +kernel
theorem dX2_holes_1 : decode cX2_holes 1 = .ok (.iload_n 1, 1) := by decide +kernel
theorem dX2_holes_2 : decode cX2_holes 2 = .ok (.invokevirtual 67, 3) := by decide +kernel
theorem dX2_holes_5 : decode cX2_holes 5 = .ok (.istore_n 2, 1) := by decide +kernel
theorem dX2_holes_6 : decode cX2_holes 6 = .ok (.iload_n 2, 1) := by decide +kernel
theorem dX2_holes_7 : decode cX2_holes 7 = .ok (.ifCond .ge 5, 3) := by decide +kernel
theorem dX2_holes_10 : decode cX2_holes 10 = .ok (.iconst (-1), 1) := by decide +kernel
theorem dX2_holes_11 : decode cX2_holes 11 = .ok (.ireturn, 1) := by decide +kernel
theorem dX2_holes_12 : decode cX2_holes 12 = .ok (.aload_n 0, 1) := by decide +kernel
theorem dX2_holes_13 : decode cX2_holes 13 = .ok (.invokevirtual 71, 3) := by decide +kernel
theorem dX2_holes_16 : decode cX2_holes 16 = .ok (.iconst 0, 1) := by decide +kernel
theorem dX2_holes_17 : decode cX2_holes 17 = .ok (.istore_n 3, 1) := by decide +kernel
theorem dX2_holes_18 : decode cX2_holes 18 = .ok (.iconst 1, 1) := by decide +kernel
theorem dX2_holes_19 : decode cX2_holes 19 = .ok (.istore 4, 2) := by decide +kernel
theorem dX2_holes_21 : decode cX2_holes 21 = .ok (.iload 4, 2) := by decide +kernel
theorem dX2_holes_23 : decode cX2_holes 23 = .ok (.sipush 196, 3) := by decide +kernel
theorem dX2_holes_26 : decode cX2_holes 26 = .ok (.if_icmp .ge 32, 3) := by decide +kernel
theorem dX2_holes_29 : decode cX2_holes 29 = .ok (.aload_n 0, 1) := by decide +kernel
theorem dX2_holes_30 : decode cX2_holes 30 = .ok (.iload 4, 2) := by decide +kernel
theorem dX2_holes_32 : decode cX2_holes 32 = .ok (.iconst 0, 1) := by decide +kernel
theorem dX2_holes_33 : decode cX2_holes 33 = .ok (.invokevirtual 56, 3) := by decide +kernel
theorem dX2_holes_36 : decode cX2_holes 36 = .ok (.ifCond .eq 16, 3) := by decide +kernel
theorem dX2_holes_39 : decode cX2_holes 39 = .ok (.aload_n 0, 1) := by decide +kernel
theorem dX2_holes_40 : decode cX2_holes 40 = .ok (.iload 4, 2) := by decide +kernel
theorem dX2_holes_42 : decode cX2_holes 42 = .ok (.iload_n 2, 1) := by decide +kernel
theorem dX2_holes_43 : decode cX2_holes 43 = .ok (.invokevirtual 74, 3) := by decide +kernel
theorem dX2_holes_46 : decode cX2_holes 46 = .ok (.ifCond .eq 6, 3) := by decide +kernel
theorem dX2_holes_49 : decode cX2_holes 49 = .ok (.iinc 3 1, 3) := by decide +kernel
theorem dX2_holes_52 : decode cX2_holes 52 = .ok (.iinc 4 1, 3) := by decide +kernel
theorem dX2_holes_55 : decode cX2_holes 55 = .ok (.goto (-34), 3) := by decide +kernel
theorem dX2_holes_58 : decode cX2_holes 58 = .ok (.iload_n 3, 1) := by decide +kernel
theorem dX2_holes_59 : decode cX2_holes 59 = .ok (.ireturn, 1) := by decide +kernel
theorem dX2_findChanges_0 : decode cX2_findChanges 0 = .ok (.iconst 0, 1) := by decide +kernel
theorem dX2_findChanges_1 : decode cX2_findChanges 1 = .ok (.istore_n 1, 1) := by decide +kernel
theorem dX2_findChanges_2 : decode cX2_findChanges 2 = .ok (.iload_n 1, 1) := by decide +kernel
theorem dX2_findChanges_3 : decode cX2_findChanges 3 = .ok (.sipush 196, 3) := by decide +kernel
theorem dX2_findChanges_6 : decode cX2_findChanges 6 = .ok (.if_icmp .ge 26, 3) := by decide +kernel
theorem dX2_findChanges_9 : decode cX2_findChanges 9 = .ok (.aload_n 0, 1) := by decide +kernel
theorem dX2_findChanges_10 : decode cX2_findChanges 10 = .ok (.getfield 17, 3) := by decide +kernel
theorem dX2_findChanges_13 : decode cX2_findChanges 13 = .ok (.iload_n 1, 1) := by decide +kernel
theorem dX2_findChanges_14 : decode cX2_findChanges 14 = .ok (.iload_n 1, 1) := by decide +kernel
theorem dX2_findChanges_15 : decode cX2_findChanges 15 = .ok (.ifCond .ne 7, 3) := by decide +kernel
theorem dX2_findChanges_18 : decode cX2_findChanges 18 = .ok (.iconst 0, 1) := by decide +kernel
theorem dX2_findChanges_19 : decode cX2_findChanges 19 = .ok (.goto 6, 3) := by decide +kernel
theorem dX2_findChanges_22 : decode cX2_findChanges 22 = .ok (.sipush 500, 3) := by decide +kernel
theorem dX2_findChanges_25 : decode cX2_findChanges 25 = .ok (.iastore, 1) := by decide +kernel
theorem dX2_findChanges_26 : decode cX2_findChanges 26 = .ok (.iinc 1 1, 3) := by decide +kernel
theorem dX2_findChanges_29 : decode cX2_findChanges 29 = .ok (.goto (-27), 3) := by decide +kernel
theorem dX2_findChanges_32 : decode cX2_findChanges 32 = .ok (.iconst 1, 1) := by decide +kernel
theorem dX2_findChanges_33 : decode cX2_findChanges 33 = .ok (.istore_n 1, 1) := by decide +kernel
theorem dX2_findChanges_34 : decode cX2_findChanges 34 = .ok (.iconst 0, 1) := by decide +kernel
theorem dX2_findChanges_35 : decode cX2_findChanges 35 = .ok (.istore_n 2, 1) := by decide +kernel
theorem dX2_findChanges_36 : decode cX2_findChanges 36 = .ok (.iload_n 2, 1) := by decide +kernel
theorem dX2_findChanges_37 : decode cX2_findChanges 37 = .ok (.sipush 197, 3) := by decide +kernel
theorem dX2_findChanges_40 : decode cX2_findChanges 40 = .ok (.if_icmp .ge 18, 3) := by decide +kernel
theorem dX2_findChanges_43 : decode cX2_findChanges 43 = .ok (.iload_n 1, 1) := by decide +kernel
theorem dX2_findChanges_44 : decode cX2_findChanges 44 = .ok (.ifCond .eq 14, 3) := by decide +kernel
theorem dX2_findChanges_47 : decode cX2_findChanges 47 = .ok (.aload_n 0, 1) := by decide +kernel
theorem dX2_findChanges_48 : decode cX2_findChanges 48 = .ok (.invokevirtual 53, 3) := by decide +kernel
theorem dX2_findChanges_51 : decode cX2_findChanges 51 = .ok (.istore_n 1, 1) := by decide +kernel
theorem dX2_findChanges_52 : decode cX2_findChanges 52 = .ok (.iinc 2 1, 3) := by decide +kernel
theorem dX2_findChanges_55 : decode cX2_findChanges 55 = .ok (.goto (-19), 3) := by decide +kernel
theorem dX2_findChanges_58 : decode cX2_findChanges 58 = .ok (.return_, 1) := by decide +kernel
theorem dX2_spreadChanges_0 : decode cX2_spreadChanges 0 = .ok (.iconst 0, 1) := by decide +kernel
theorem dX2_spreadChanges_1 : decode cX2_spreadChanges 1 = .ok (.istore_n 1, 1) := by decide +kernel
theorem dX2_spreadChanges_2 : decode cX2_spreadChanges 2 = .ok (.iconst 0, 1) := by decide +kernel
theorem dX2_spreadChanges_3 : decode cX2_spreadChanges 3 = .ok (.istore_n 2, 1) := by decide +kernel
theorem dX2_spreadChanges_4 : decode cX2_spreadChanges 4 = .ok (.iload_n 2, 1) := by decide +kernel
theorem dX2_spreadChanges_5 : decode cX2_spreadChanges 5 = .ok (.sipush 196, 3) := by decide +kernel
theorem dX2_spreadChanges_8 : decode cX2_spreadChanges 8 = .ok (.if_icmp .ge 132, 3) := by decide +kernel
theorem dX2_spreadChanges_11 : decode cX2_spreadChanges 11 = .ok (.iconst 0, 1) := by decide +kernel
theorem dX2_spreadChanges_12 : decode cX2_spreadChanges 12 = .ok (.istore_n 3, 1) := by decide +kernel
theorem dX2_spreadChanges_13 : decode cX2_spreadChanges 13 = .ok (.iload_n 3, 1) := by decide +kernel
theorem dX2_spreadChanges_14 : decode cX2_spreadChanges 14 = .ok (.bipush 9, 2) := by decide +kernel
theorem dX2_spreadChanges_16 : decode cX2_spreadChanges 16 = .ok (.if_icmp .ge 118, 3) := by decide +kernel
theorem dX2_spreadChanges_19 : decode cX2_spreadChanges 19 = .ok (.aload_n 0, 1) := by decide +kernel
theorem dX2_spreadChanges_20 : decode cX2_spreadChanges 20 = .ok (.iload_n 2, 1) := by decide +kernel
theorem dX2_spreadChanges_21 : decode cX2_spreadChanges 21 = .ok (.iload_n 3, 1) := by decide +kernel
theorem dX2_spreadChanges_22 : decode cX2_spreadChanges 22 = .ok (.invokevirtual 42, 3) := by decide +kernel
theorem dX2_spreadChanges_25 : decode cX2_spreadChanges 25 = .ok (.istore 4, 2) := by decide +kernel
theorem dX2_spreadChanges_27 : decode cX2_spreadChanges 27 = .ok (.iload 4, 2) := by decide +kernel
theorem dX2_spreadChanges_29 : decode cX2_spreadChanges 29 = .ok (.ifCond .ge 9, 3) := by decide +kernel
theorem dX2_spreadChanges_32 : decode cX2_spreadChanges 32 = .ok (.sipush 1000, 3) := by decide +kernel
theorem dX2_spreadChanges_35 : decode cX2_spreadChanges 35 = .ok (.goto 49, 3) := by decide +kernel
theorem dX2_spreadChanges_38 : decode cX2_spreadChanges 38 = .ok (.aload_n 0, 1) := by decide +kernel
theorem dX2_spreadChanges_39 : decode cX2_spreadChanges 39 = .ok (.iload_n 2, 1) := by decide +kernel
theorem dX2_spreadChanges_40 : decode cX2_spreadChanges 40 = .ok (.iload 4, 2) := by decide +kernel
theorem dX2_spreadChanges_42 : decode cX2_spreadChanges 42 = .ok (.iload_n 3, 1) := by decide +kernel
theorem dX2_spreadChanges_43 : decode cX2_spreadChanges 43 = .ok (.invokevirtual 45, 3) := by decide +kernel
theorem dX2_spreadChanges_46 : decode cX2_spreadChanges 46 = .ok (.ifCond .eq 7, 3) := by decide +kernel
theorem dX2_spreadChanges_49 : decode cX2_spreadChanges 49 = .ok (.iconst 0, 1) := by decide +kernel
theorem dX2_spreadChanges_50 : decode cX2_spreadChanges 50 = .ok (.goto 34, 3) := by decide +kernel
theorem dX2_spreadChanges_53 : decode cX2_spreadChanges 53 = .ok (.aload_n 0, 1) := by decide +kernel
theorem dX2_spreadChanges_54 : decode cX2_spreadChanges 54 = .ok (.getfield 7, 3) := by decide +kernel
theorem dX2_spreadChanges_57 : decode cX2_spreadChanges 57 = .ok (.iload_n 2, 1) := by decide +kernel
theorem dX2_spreadChanges_58 : decode cX2_spreadChanges 58 = .ok (.baload, 1) := by decide +kernel
theorem dX2_spreadChanges_59 : decode cX2_spreadChanges 59 = .ok (.aload_n 0, 1) := by decide +kernel
theorem dX2_spreadChanges_60 : decode cX2_spreadChanges 60 = .ok (.getfield 7, 3) := by decide +kernel
theorem dX2_spreadChanges_63 : decode cX2_spreadChanges 63 = .ok (.iload 4, 2) := by decide +kernel
theorem dX2_spreadChanges_65 : decode cX2_spreadChanges 65 = .ok (.baload, 1) := by decide +kernel
theorem dX2_spreadChanges_66 : decode cX2_spreadChanges 66 = .ok (.if_icmp .eq 15, 3) := by decide +kernel
theorem dX2_spreadChanges_69 : decode cX2_spreadChanges 69 = .ok (.aload_n 0, 1) := by decide +kernel
theorem dX2_spreadChanges_70 : decode cX2_spreadChanges 70 = .ok (.iload_n 3, 1) := by decide +kernel
theorem dX2_spreadChanges_71 : decode cX2_spreadChanges 71 = .ok (.invokevirtual 38, 3) := by decide +kernel
theorem dX2_spreadChanges_74 : decode cX2_spreadChanges 74 = .ok (.ifCond .eq 7, 3) := by decide +kernel
theorem dX2_spreadChanges_77 : decode cX2_spreadChanges 77 = .ok (.iconst 1, 1) := by decide +kernel
theorem dX2_spreadChanges_78 : decode cX2_spreadChanges 78 = .ok (.goto 6, 3) := by decide +kernel
theorem dX2_spreadChanges_81 : decode cX2_spreadChanges 81 = .ok (.sipush 1000, 3) := by decide +kernel
theorem dX2_spreadChanges_84 : decode cX2_spreadChanges 84 = .ok (.istore 5, 2) := by decide +kernel
theorem dX2_spreadChanges_86 : decode cX2_spreadChanges 86 = .ok (.iload 4, 2) := by decide +kernel
theorem dX2_spreadChanges_88 : decode cX2_spreadChanges 88 = .ok (.ifCond .lt 40, 3) := by decide +kernel
theorem dX2_spreadChanges_91 : decode cX2_spreadChanges 91 = .ok (.aload_n 0, 1) := by decide +kernel
theorem dX2_spreadChanges_92 : decode cX2_spreadChanges 92 = .ok (.getfield 17, 3) := by decide +kernel
theorem dX2_spreadChanges_95 : decode cX2_spreadChanges 95 = .ok (.iload 4, 2) := by decide +kernel
theorem dX2_spreadChanges_97 : decode cX2_spreadChanges 97 = .ok (.iaload, 1) := by decide +kernel
theorem dX2_spreadChanges_98 : decode cX2_spreadChanges 98 = .ok (.iload 5, 2) := by decide +kernel
theorem dX2_spreadChanges_100 : decode cX2_spreadChanges 100 = .ok (.iadd, 1) := by decide +kernel
theorem dX2_spreadChanges_101 : decode cX2_spreadChanges 101 = .ok (.aload_n 0, 1) := by decide +kernel
theorem dX2_spreadChanges_102 : decode cX2_spreadChanges 102 = .ok (.getfield 17, 3) := by decide +kernel
theorem dX2_spreadChanges_105 : decode cX2_spreadChanges 105 = .ok (.iload_n 2, 1) := by decide +kernel
theorem dX2_spreadChanges_106 : decode cX2_spreadChanges 106 = .ok (.iaload, 1) := by decide +kernel
theorem dX2_spreadChanges_107 : decode cX2_spreadChanges 107 = .ok (.if_icmp .ge 21, 3) := by decide +kernel
theorem dX2_spreadChanges_110 : decode cX2_spreadChanges 110 = .ok (.aload_n 0, 1) := by decide +kernel
theorem dX2_spreadChanges_111 : decode cX2_spreadChanges 111 = .ok (.getfield 17, 3) := by decide +kernel
theorem dX2_spreadChanges_114 : decode cX2_spreadChanges 114 = .ok (.iload_n 2, 1) := by decide +kernel
theorem dX2_spreadChanges_115 : decode cX2_spreadChanges 115 = .ok (.aload_n 0, 1) := by decide +kernel
theorem dX2_spreadChanges_116 : decode cX2_spreadChanges 116 = .ok (.getfield 17, 3) := by decide +kernel
theorem dX2_spreadChanges_119 : decode cX2_spreadChanges 119 = .ok (.iload 4, 2) := by decide +kernel
theorem dX2_spreadChanges_121 : decode cX2_spreadChanges 121 = .ok (.iaload, 1) := by decide +kernel
theorem dX2_spreadChanges_122 : decode cX2_spreadChanges 122 = .ok (.iload 5, 2) := by decide +kernel
theorem dX2_spreadChanges_124 : decode cX2_spreadChanges 124 = .ok (.iadd, 1) := by decide +kernel
theorem dX2_spreadChanges_125 : decode cX2_spreadChanges 125 = .ok (.iastore, 1) := by decide +kernel
theorem dX2_spreadChanges_126 : decode cX2_spreadChanges 126 = .ok (.iconst 1, 1) := by decide +kernel
theorem dX2_spreadChanges_127 : decode cX2_spreadChanges 127 = .ok (.istore_n 1, 1) := by decide +kernel
theorem dX2_spreadChanges_128 : decode cX2_spreadChanges 128 = .ok (.iinc 3 1, 3) := by decide +kernel
theorem dX2_spreadChanges_131 : decode cX2_spreadChanges 131 = .ok (.goto (-118), 3) := by decide +kernel
theorem dX2_spreadChanges_134 : decode cX2_spreadChanges 134 = .ok (.iinc 2 1, 3) := by decide +kernel
theorem dX2_spreadChanges_137 : decode cX2_spreadChanges 137 = .ok (.goto (-133), 3) := by decide +kernel
theorem dX2_spreadChanges_140 : decode cX2_spreadChanges 140 = .ok (.iload_n 1, 1) := by decide +kernel
theorem dX2_spreadChanges_141 : decode cX2_spreadChanges 141 = .ok (.ireturn, 1) := by decide +kernel
theorem dX2_isHole_0 : decode cX2_isHole 0 = .ok (.iconst 0, 1) := by decide +kernel
theorem dX2_isHole_1 : decode cX2_isHole 1 = .ok (.istore_n 3, 1) := by decide +kernel
theorem dX2_isHole_2 : decode cX2_isHole 2 = .ok (.iload_n 3, 1) := by decide +kernel
theorem dX2_isHole_3 : decode cX2_isHole 3 = .ok (.sipush 196, 3) := by decide +kernel
theorem dX2_isHole_6 : decode cX2_isHole 6 = .ok (.if_icmp .ge 80, 3) := by decide +kernel
theorem dX2_isHole_9 : decode cX2_isHole 9 = .ok (.iconst 1, 1) := by decide +kernel
theorem dX2_isHole_10 : decode cX2_isHole 10 = .ok (.istore 4, 2) := by decide +kernel
theorem dX2_isHole_12 : decode cX2_isHole 12 = .ok (.iload 4, 2) := by decide +kernel
theorem dX2_isHole_14 : decode cX2_isHole 14 = .ok (.bipush 9, 2) := by decide +kernel
theorem dX2_isHole_16 : decode cX2_isHole 16 = .ok (.if_icmp .ge 64, 3) := by decide +kernel
theorem dX2_isHole_19 : decode cX2_isHole 19 = .ok (.aload_n 0, 1) := by decide +kernel
theorem dX2_isHole_20 : decode cX2_isHole 20 = .ok (.iload_n 3, 1) := by decide +kernel
theorem dX2_isHole_21 : decode cX2_isHole 21 = .ok (.iload 4, 2) := by decide +kernel
theorem dX2_isHole_23 : decode cX2_isHole 23 = .ok (.invokevirtual 42, 3) := by decide +kernel
theorem dX2_isHole_26 : decode cX2_isHole 26 = .ok (.istore 5, 2) := by decide +kernel
theorem dX2_isHole_28 : decode cX2_isHole 28 = .ok (.iload 5, 2) := by decide +kernel
theorem dX2_isHole_30 : decode cX2_isHole 30 = .ok (.ifCond .lt 44, 3) := by decide +kernel
theorem dX2_isHole_33 : decode cX2_isHole 33 = .ok (.aload_n 0, 1) := by decide +kernel
theorem dX2_isHole_34 : decode cX2_isHole 34 = .ok (.getfield 13, 3) := by decide +kernel
theorem dX2_isHole_37 : decode cX2_isHole 37 = .ok (.iload_n 3, 1) := by decide +kernel
theorem dX2_isHole_38 : decode cX2_isHole 38 = .ok (.iaload, 1) := by decide +kernel
theorem dX2_isHole_39 : decode cX2_isHole 39 = .ok (.iload_n 1, 1) := by decide +kernel
theorem dX2_isHole_40 : decode cX2_isHole 40 = .ok (.if_icmp .ne 34, 3) := by decide +kernel
theorem dX2_isHole_43 : decode cX2_isHole 43 = .ok (.aload_n 0, 1) := by decide +kernel
theorem dX2_isHole_44 : decode cX2_isHole 44 = .ok (.getfield 13, 3) := by decide +kernel
theorem dX2_isHole_47 : decode cX2_isHole 47 = .ok (.iload 5, 2) := by decide +kernel
theorem dX2_isHole_49 : decode cX2_isHole 49 = .ok (.iaload, 1) := by decide +kernel
theorem dX2_isHole_50 : decode cX2_isHole 50 = .ok (.iload_n 2, 1) := by decide +kernel
theorem dX2_isHole_51 : decode cX2_isHole 51 = .ok (.if_icmp .ne 23, 3) := by decide +kernel
theorem dX2_isHole_54 : decode cX2_isHole 54 = .ok (.aload_n 0, 1) := by decide +kernel
theorem dX2_isHole_55 : decode cX2_isHole 55 = .ok (.getfield 17, 3) := by decide +kernel
theorem dX2_isHole_58 : decode cX2_isHole 58 = .ok (.iload 5, 2) := by decide +kernel
theorem dX2_isHole_60 : decode cX2_isHole 60 = .ok (.iaload, 1) := by decide +kernel
theorem dX2_isHole_61 : decode cX2_isHole 61 = .ok (.aload_n 0, 1) := by decide +kernel
theorem dX2_isHole_62 : decode cX2_isHole 62 = .ok (.getfield 17, 3) := by decide +kernel
theorem dX2_isHole_65 : decode cX2_isHole 65 = .ok (.iload_n 3, 1) := by decide +kernel
theorem dX2_isHole_66 : decode cX2_isHole 66 = .ok (.iaload, 1) := by decide +kernel
theorem dX2_isHole_67 : decode cX2_isHole 67 = .ok (.iconst 1, 1) := by decide +kernel
theorem dX2_isHole_68 : decode cX2_isHole 68 = .ok (.isub, 1) := by decide +kernel
theorem dX2_isHole_69 : decode cX2_isHole 69 = .ok (.if_icmp .ne 5, 3) := by decide +kernel
theorem dX2_isHole_72 : decode cX2_isHole 72 = .ok (.iconst 1, 1) := by decide +kernel
theorem dX2_isHole_73 : decode cX2_isHole 73 = .ok (.ireturn, 1) := by decide +kernel
theorem dX2_isHole_74 : decode cX2_isHole 74 = .ok (.iinc 4 2, 3) := by decide +kernel
theorem dX2_isHole_77 : decode cX2_isHole 77 = .ok (.goto (-65), 3) := by decide +kernel
theorem dX2_isHole_80 : decode cX2_isHole 80 = .ok (.iinc 3 1, 3) := by decide +kernel
theorem dX2_isHole_83 : decode cX2_isHole 83 = .ok (.goto (-81), 3) := by decide +kernel
theorem dX2_isHole_86 : decode cX2_isHole 86 = .ok (.iconst 0, 1) := by decide +kernel
theorem dX2_isHole_87 : decode cX2_isHole 87 = .ok (.ireturn, 1) := by decide +kernel
theorem dX2_around_0 : decode cX2_around 0 = .ok (.aload_n 0, 1) := by decide +kernel
theorem dX2_around_1 : decode cX2_around 1 = .ok (.iload_n 1, 1) := by decide +kernel
theorem dX2_around_2 : decode cX2_around 2 = .ok (.invokevirtual 67, 3) := by decide +kernel
theorem dX2_around_5 : decode cX2_around 5 = .ok (.istore_n 2, 1) := by decide +kernel
theorem dX2_around_6 : decode cX2_around 6 = .ok (.iload_n 2, 1) := by decide +kernel
theorem dX2_around_7 : decode cX2_around 7 = .ok (.ifCond .ge 5, 3) := by decide +kernel
theorem dX2_around_10 : decode cX2_around 10 = .ok (.iconst (-1), 1) := by decide +kernel
theorem dX2_around_11 : decode cX2_around 11 = .ok (.ireturn, 1) := by decide +kernel
theorem dX2_around_12 : decode cX2_around 12 = .ok (.aload_n 0, 1) := by decide +kernel
theorem dX2_around_13 : decode cX2_around 13 = .ok (.invokevirtual 71, 3) := by decide +kernel
theorem dX2_around_16 : decode cX2_around 16 = .ok (.iconst 0, 1) := by decide +kernel
theorem dX2_around_17 : decode cX2_around 17 = .ok (.istore_n 3, 1) := by decide +kernel
theorem dX2_around_18 : decode cX2_around 18 = .ok (.iload_n 3, 1) := by decide +kernel
theorem dX2_around_19 : decode cX2_around 19 = .ok (.sipush 196, 3) := by decide +kernel
theorem dX2_around_22 : decode cX2_around 22 = .ok (.if_icmp .ge 56, 3) := by decide +kernel
theorem dX2_around_25 : decode cX2_around 25 = .ok (.aload_n 0, 1) := by decide +kernel
theorem dX2_around_26 : decode cX2_around 26 = .ok (.iload_n 3, 1) := by decide +kernel
theorem dX2_around_27 : decode cX2_around 27 = .ok (.iconst 1, 1) := by decide +kernel
theorem dX2_around_28 : decode cX2_around 28 = .ok (.invokevirtual 56, 3) := by decide +kernel
theorem dX2_around_31 : decode cX2_around 31 = .ok (.ifCond .eq 41, 3) := by decide +kernel
theorem dX2_around_34 : decode cX2_around 34 = .ok (.aload_n 0, 1) := by decide +kernel
theorem dX2_around_35 : decode cX2_around 35 = .ok (.getfield 17, 3) := by decide +kernel
theorem dX2_around_38 : decode cX2_around 38 = .ok (.iload_n 3, 1) := by decide +kernel
theorem dX2_around_39 : decode cX2_around 39 = .ok (.iaload, 1) := by decide +kernel
theorem dX2_around_40 : decode cX2_around 40 = .ok (.aload_n 0, 1) := by decide +kernel
theorem dX2_around_41 : decode cX2_around 41 = .ok (.getfield 17, 3) := by decide +kernel
theorem dX2_around_44 : decode cX2_around 44 = .ok (.iload_n 2, 1) := by decide +kernel
theorem dX2_around_45 : decode cX2_around 45 = .ok (.iaload, 1) := by decide +kernel
theorem dX2_around_46 : decode cX2_around 46 = .ok (.iconst 2, 1) := by decide +kernel
theorem dX2_around_47 : decode cX2_around 47 = .ok (.isub, 1) := by decide +kernel
theorem dX2_around_48 : decode cX2_around 48 = .ok (.if_icmp .ne 24, 3) := by decide +kernel
theorem dX2_around_51 : decode cX2_around 51 = .ok (.aload_n 0, 1) := by decide +kernel
theorem dX2_around_52 : decode cX2_around 52 = .ok (.iload_n 3, 1) := by decide +kernel
theorem dX2_around_53 : decode cX2_around 53 = .ok (.invokevirtual 80, 3) := by decide +kernel
theorem dX2_around_56 : decode cX2_around 56 = .ok (.aload_n 0, 1) := by decide +kernel
theorem dX2_around_57 : decode cX2_around 57 = .ok (.getfield 20, 3) := by decide +kernel
theorem dX2_around_60 : decode cX2_around 60 = .ok (.iload_n 2, 1) := by decide +kernel
theorem dX2_around_61 : decode cX2_around 61 = .ok (.baload, 1) := by decide +kernel
theorem dX2_around_62 : decode cX2_around 62 = .ok (.ifCond .ne 10, 3) := by decide +kernel
theorem dX2_around_65 : decode cX2_around 65 = .ok (.aload_n 0, 1) := by decide +kernel
theorem dX2_around_66 : decode cX2_around 66 = .ok (.iconst 1, 1) := by decide +kernel
theorem dX2_around_67 : decode cX2_around 67 = .ok (.iload_n 3, 1) := by decide +kernel
theorem dX2_around_68 : decode cX2_around 68 = .ok (.invokevirtual 63, 3) := by decide +kernel
theorem dX2_around_71 : decode cX2_around 71 = .ok (.ireturn, 1) := by decide +kernel
theorem dX2_around_72 : decode cX2_around 72 = .ok (.iinc 3 1, 3) := by decide +kernel
theorem dX2_around_75 : decode cX2_around 75 = .ok (.goto (-57), 3) := by decide +kernel
theorem dX2_around_78 : decode cX2_around 78 = .ok (.bipush (-2), 2) := by decide +kernel
theorem dX2_around_80 : decode cX2_around 80 = .ok (.ireturn, 1) := by decide +kernel
theorem dX2_findReached_0 : decode cX2_findReached 0 = .ok (.iconst 0, 1) := by decide +kernel
theorem dX2_findReached_1 : decode cX2_findReached 1 = .ok (.istore_n 2, 1) := by decide +kernel
theorem dX2_findReached_2 : decode cX2_findReached 2 = .ok (.iload_n 2, 1) := by decide +kernel
theorem dX2_findReached_3 : decode cX2_findReached 3 = .ok (.sipush 196, 3) := by decide +kernel
theorem dX2_findReached_6 : decode cX2_findReached 6 = .ok (.if_icmp .ge 24, 3) := by decide +kernel
theorem dX2_findReached_9 : decode cX2_findReached 9 = .ok (.aload_n 0, 1) := by decide +kernel
theorem dX2_findReached_10 : decode cX2_findReached 10 = .ok (.getfield 20, 3) := by decide +kernel
theorem dX2_findReached_13 : decode cX2_findReached 13 = .ok (.iload_n 2, 1) := by decide +kernel
theorem dX2_findReached_14 : decode cX2_findReached 14 = .ok (.iload_n 2, 1) := by decide +kernel
theorem dX2_findReached_15 : decode cX2_findReached 15 = .ok (.ifCond .ne 7, 3) := by decide +kernel
theorem dX2_findReached_18 : decode cX2_findReached 18 = .ok (.iconst 1, 1) := by decide +kernel
theorem dX2_findReached_19 : decode cX2_findReached 19 = .ok (.goto 4, 3) := by decide +kernel
theorem dX2_findReached_22 : decode cX2_findReached 22 = .ok (.iconst 0, 1) := by decide +kernel
theorem dX2_findReached_23 : decode cX2_findReached 23 = .ok (.bastore, 1) := by decide +kernel
theorem dX2_findReached_24 : decode cX2_findReached 24 = .ok (.iinc 2 1, 3) := by decide +kernel
theorem dX2_findReached_27 : decode cX2_findReached 27 = .ok (.goto (-25), 3) := by decide +kernel
theorem dX2_findReached_30 : decode cX2_findReached 30 = .ok (.iconst 1, 1) := by decide +kernel
theorem dX2_findReached_31 : decode cX2_findReached 31 = .ok (.istore_n 2, 1) := by decide +kernel
theorem dX2_findReached_32 : decode cX2_findReached 32 = .ok (.iconst 0, 1) := by decide +kernel
theorem dX2_findReached_33 : decode cX2_findReached 33 = .ok (.istore_n 3, 1) := by decide +kernel
theorem dX2_findReached_34 : decode cX2_findReached 34 = .ok (.iload_n 3, 1) := by decide +kernel
theorem dX2_findReached_35 : decode cX2_findReached 35 = .ok (.sipush 197, 3) := by decide +kernel
theorem dX2_findReached_38 : decode cX2_findReached 38 = .ok (.if_icmp .ge 19, 3) := by decide +kernel
theorem dX2_findReached_41 : decode cX2_findReached 41 = .ok (.iload_n 2, 1) := by decide +kernel
theorem dX2_findReached_42 : decode cX2_findReached 42 = .ok (.ifCond .eq 15, 3) := by decide +kernel
theorem dX2_findReached_45 : decode cX2_findReached 45 = .ok (.aload_n 0, 1) := by decide +kernel
theorem dX2_findReached_46 : decode cX2_findReached 46 = .ok (.iload_n 1, 1) := by decide +kernel
theorem dX2_findReached_47 : decode cX2_findReached 47 = .ok (.invokevirtual 77, 3) := by decide +kernel
theorem dX2_findReached_50 : decode cX2_findReached 50 = .ok (.istore_n 2, 1) := by decide +kernel
theorem dX2_findReached_51 : decode cX2_findReached 51 = .ok (.iinc 3 1, 3) := by decide +kernel
theorem dX2_findReached_54 : decode cX2_findReached 54 = .ok (.goto (-20), 3) := by decide +kernel
theorem dX2_findReached_57 : decode cX2_findReached 57 = .ok (.return_, 1) := by decide +kernel
theorem dX2_spreadReached_0 : decode cX2_spreadReached 0 = .ok (.iconst 0, 1) := by decide +kernel
theorem dX2_spreadReached_1 : decode cX2_spreadReached 1 = .ok (.istore_n 2, 1) := by decide +kernel
theorem dX2_spreadReached_2 : decode cX2_spreadReached 2 = .ok (.iconst 0, 1) := by decide +kernel
theorem dX2_spreadReached_3 : decode cX2_spreadReached 3 = .ok (.istore_n 3, 1) := by decide +kernel
theorem dX2_spreadReached_4 : decode cX2_spreadReached 4 = .ok (.iload_n 3, 1) := by decide +kernel
theorem dX2_spreadReached_5 : decode cX2_spreadReached 5 = .ok (.sipush 196, 3) := by decide +kernel
theorem dX2_spreadReached_8 : decode cX2_spreadReached 8 = .ok (.if_icmp .ge 79, 3) := by decide +kernel
theorem dX2_spreadReached_11 : decode cX2_spreadReached 11 = .ok (.iconst 1, 1) := by decide +kernel
theorem dX2_spreadReached_12 : decode cX2_spreadReached 12 = .ok (.istore 4, 2) := by decide +kernel
theorem dX2_spreadReached_14 : decode cX2_spreadReached 14 = .ok (.iload 4, 2) := by decide +kernel
theorem dX2_spreadReached_16 : decode cX2_spreadReached 16 = .ok (.bipush 9, 2) := by decide +kernel
theorem dX2_spreadReached_18 : decode cX2_spreadReached 18 = .ok (.if_icmp .ge 63, 3) := by decide +kernel
theorem dX2_spreadReached_21 : decode cX2_spreadReached 21 = .ok (.aload_n 0, 1) := by decide +kernel
theorem dX2_spreadReached_22 : decode cX2_spreadReached 22 = .ok (.iload_n 3, 1) := by decide +kernel
theorem dX2_spreadReached_23 : decode cX2_spreadReached 23 = .ok (.iload 4, 2) := by decide +kernel
theorem dX2_spreadReached_25 : decode cX2_spreadReached 25 = .ok (.invokevirtual 42, 3) := by decide +kernel
theorem dX2_spreadReached_28 : decode cX2_spreadReached 28 = .ok (.istore 5, 2) := by decide +kernel
theorem dX2_spreadReached_30 : decode cX2_spreadReached 30 = .ok (.iload 5, 2) := by decide +kernel
theorem dX2_spreadReached_32 : decode cX2_spreadReached 32 = .ok (.ifCond .lt 43, 3) := by decide +kernel
theorem dX2_spreadReached_35 : decode cX2_spreadReached 35 = .ok (.aload_n 0, 1) := by decide +kernel
theorem dX2_spreadReached_36 : decode cX2_spreadReached 36 = .ok (.getfield 20, 3) := by decide +kernel
theorem dX2_spreadReached_39 : decode cX2_spreadReached 39 = .ok (.iload_n 3, 1) := by decide +kernel
theorem dX2_spreadReached_40 : decode cX2_spreadReached 40 = .ok (.baload, 1) := by decide +kernel
theorem dX2_spreadReached_41 : decode cX2_spreadReached 41 = .ok (.ifCond .eq 34, 3) := by decide +kernel
theorem dX2_spreadReached_44 : decode cX2_spreadReached 44 = .ok (.aload_n 0, 1) := by decide +kernel
theorem dX2_spreadReached_45 : decode cX2_spreadReached 45 = .ok (.getfield 20, 3) := by decide +kernel
theorem dX2_spreadReached_48 : decode cX2_spreadReached 48 = .ok (.iload 5, 2) := by decide +kernel
theorem dX2_spreadReached_50 : decode cX2_spreadReached 50 = .ok (.baload, 1) := by decide +kernel
theorem dX2_spreadReached_51 : decode cX2_spreadReached 51 = .ok (.ifCond .ne 24, 3) := by decide +kernel
theorem dX2_spreadReached_54 : decode cX2_spreadReached 54 = .ok (.aload_n 0, 1) := by decide +kernel
theorem dX2_spreadReached_55 : decode cX2_spreadReached 55 = .ok (.getfield 13, 3) := by decide +kernel
theorem dX2_spreadReached_58 : decode cX2_spreadReached 58 = .ok (.iload 5, 2) := by decide +kernel
theorem dX2_spreadReached_60 : decode cX2_spreadReached 60 = .ok (.iaload, 1) := by decide +kernel
theorem dX2_spreadReached_61 : decode cX2_spreadReached 61 = .ok (.iload_n 1, 1) := by decide +kernel
theorem dX2_spreadReached_62 : decode cX2_spreadReached 62 = .ok (.if_icmp .eq 13, 3) := by decide +kernel
theorem dX2_spreadReached_65 : decode cX2_spreadReached 65 = .ok (.aload_n 0, 1) := by decide +kernel
theorem dX2_spreadReached_66 : decode cX2_spreadReached 66 = .ok (.getfield 20, 3) := by decide +kernel
theorem dX2_spreadReached_69 : decode cX2_spreadReached 69 = .ok (.iload 5, 2) := by decide +kernel
theorem dX2_spreadReached_71 : decode cX2_spreadReached 71 = .ok (.iconst 1, 1) := by decide +kernel
theorem dX2_spreadReached_72 : decode cX2_spreadReached 72 = .ok (.bastore, 1) := by decide +kernel
theorem dX2_spreadReached_73 : decode cX2_spreadReached 73 = .ok (.iconst 1, 1) := by decide +kernel
theorem dX2_spreadReached_74 : decode cX2_spreadReached 74 = .ok (.istore_n 2, 1) := by decide +kernel
theorem dX2_spreadReached_75 : decode cX2_spreadReached 75 = .ok (.iinc 4 2, 3) := by decide +kernel
theorem dX2_spreadReached_78 : decode cX2_spreadReached 78 = .ok (.goto (-64), 3) := by decide +kernel
theorem dX2_spreadReached_81 : decode cX2_spreadReached 81 = .ok (.iinc 3 1, 3) := by decide +kernel
theorem dX2_spreadReached_84 : decode cX2_spreadReached 84 = .ok (.goto (-80), 3) := by decide +kernel
theorem dX2_spreadReached_87 : decode cX2_spreadReached 87 = .ok (.iload_n 2, 1) := by decide +kernel
theorem dX2_spreadReached_88 : decode cX2_spreadReached 88 = .ok (.ireturn, 1) := by decide +kernel
theorem dX2_depth_0 : decode cX2_depth 0 = .ok (.aload_n 0, 1) := by decide +kernel
theorem dX2_depth_1 : decode cX2_depth 1 = .ok (.iload_n 1, 1) := by decide +kernel
theorem dX2_depth_2 : decode cX2_depth 2 = .ok (.iload_n 2, 1) := by decide +kernel
theorem dX2_depth_3 : decode cX2_depth 3 = .ok (.invokevirtual 30, 3) := by decide +kernel
theorem dX2_depth_6 : decode cX2_depth 6 = .ok (.ifCond .ne 5, 3) := by decide +kernel
theorem dX2_depth_9 : decode cX2_depth 9 = .ok (.iconst (-1), 1) := by decide +kernel
theorem dX2_depth_10 : decode cX2_depth 10 = .ok (.ireturn, 1) := by decide +kernel
theorem dX2_depth_11 : decode cX2_depth 11 = .ok (.aload_n 0, 1) := by decide +kernel
theorem dX2_depth_12 : decode cX2_depth 12 = .ok (.invokevirtual 71, 3) := by decide +kernel
theorem dX2_depth_15 : decode cX2_depth 15 = .ok (.aload_n 0, 1) := by decide +kernel
theorem dX2_depth_16 : decode cX2_depth 16 = .ok (.getfield 17, 3) := by decide +kernel
theorem dX2_depth_19 : decode cX2_depth 19 = .ok (.aload_n 0, 1) := by decide +kernel
theorem dX2_depth_20 : decode cX2_depth 20 = .ok (.iload_n 1, 1) := by decide +kernel
theorem dX2_depth_21 : decode cX2_depth 21 = .ok (.iload_n 2, 1) := by decide +kernel
theorem dX2_depth_22 : decode cX2_depth 22 = .ok (.invokevirtual 34, 3) := by decide +kernel
theorem dX2_depth_25 : decode cX2_depth 25 = .ok (.iaload, 1) := by decide +kernel
theorem dX2_depth_26 : decode cX2_depth 26 = .ok (.ireturn, 1) := by decide +kernel
theorem dX2_enclosed_0 : decode cX2_enclosed 0 = .ok (.aload_n 0, 1) := by decide +kernel
theorem dX2_enclosed_1 : decode cX2_enclosed 1 = .ok (.iload_n 1, 1) := by decide +kernel
theorem dX2_enclosed_2 : decode cX2_enclosed 2 = .ok (.invokevirtual 67, 3) := by decide +kernel
theorem dX2_enclosed_5 : decode cX2_enclosed 5 = .ok (.istore_n 2, 1) := by decide +kernel
theorem dX2_enclosed_6 : decode cX2_enclosed 6 = .ok (.iload_n 2, 1) := by decide +kernel
theorem dX2_enclosed_7 : decode cX2_enclosed 7 = .ok (.ifCond .ge 5, 3) := by decide +kernel
theorem dX2_enclosed_10 : decode cX2_enclosed 10 = .ok (.iconst (-1), 1) := by decide +kernel
theorem dX2_enclosed_11 : decode cX2_enclosed 11 = .ok (.ireturn, 1) := by decide +kernel
theorem dX2_enclosed_12 : decode cX2_enclosed 12 = .ok (.aload_n 0, 1) := by decide +kernel
theorem dX2_enclosed_13 : decode cX2_enclosed 13 = .ok (.iload_n 2, 1) := by decide +kernel
theorem dX2_enclosed_14 : decode cX2_enclosed 14 = .ok (.invokevirtual 80, 3) := by decide +kernel
theorem dX2_enclosed_17 : decode cX2_enclosed 17 = .ok (.iconst 0, 1) := by decide +kernel
theorem dX2_enclosed_18 : decode cX2_enclosed 18 = .ok (.istore_n 3, 1) := by decide +kernel
theorem dX2_enclosed_19 : decode cX2_enclosed 19 = .ok (.iconst 0, 1) := by decide +kernel
theorem dX2_enclosed_20 : decode cX2_enclosed 20 = .ok (.istore 4, 2) := by decide +kernel
theorem dX2_enclosed_22 : decode cX2_enclosed 22 = .ok (.iload 4, 2) := by decide +kernel
theorem dX2_enclosed_24 : decode cX2_enclosed 24 = .ok (.sipush 196, 3) := by decide +kernel
theorem dX2_enclosed_27 : decode cX2_enclosed 27 = .ok (.if_icmp .ge 33, 3) := by decide +kernel
theorem dX2_enclosed_30 : decode cX2_enclosed 30 = .ok (.aload_n 0, 1) := by decide +kernel
theorem dX2_enclosed_31 : decode cX2_enclosed 31 = .ok (.getfield 20, 3) := by decide +kernel
theorem dX2_enclosed_34 : decode cX2_enclosed 34 = .ok (.iload 4, 2) := by decide +kernel
theorem dX2_enclosed_36 : decode cX2_enclosed 36 = .ok (.baload, 1) := by decide +kernel
theorem dX2_enclosed_37 : decode cX2_enclosed 37 = .ok (.ifCond .ne 17, 3) := by decide +kernel
theorem dX2_enclosed_40 : decode cX2_enclosed 40 = .ok (.aload_n 0, 1) := by decide +kernel
theorem dX2_enclosed_41 : decode cX2_enclosed 41 = .ok (.getfield 13, 3) := by decide +kernel
theorem dX2_enclosed_44 : decode cX2_enclosed 44 = .ok (.iload 4, 2) := by decide +kernel
theorem dX2_enclosed_46 : decode cX2_enclosed 46 = .ok (.iaload, 1) := by decide +kernel
theorem dX2_enclosed_47 : decode cX2_enclosed 47 = .ok (.iload_n 2, 1) := by decide +kernel
theorem dX2_enclosed_48 : decode cX2_enclosed 48 = .ok (.if_icmp .eq 6, 3) := by decide +kernel
theorem dX2_enclosed_51 : decode cX2_enclosed 51 = .ok (.iinc 3 1, 3) := by decide +kernel
theorem dX2_enclosed_54 : decode cX2_enclosed 54 = .ok (.iinc 4 1, 3) := by decide +kernel
theorem dX2_enclosed_57 : decode cX2_enclosed 57 = .ok (.goto (-35), 3) := by decide +kernel
theorem dX2_enclosed_60 : decode cX2_enclosed 60 = .ok (.iload_n 3, 1) := by decide +kernel
theorem dX2_enclosed_61 : decode cX2_enclosed 61 = .ok (.ireturn, 1) := by decide +kernel
end
section
/-! CompLabelLaw -/
set_option maxRecDepth 100000
def RX0 : String := "CompLabelLaw"
abbrev cX0_cell : ByteArray := method_2_code
def yX0_cell : MethodName := ⟨RX0, "cell", "([II)I"⟩
theorem dX0_cell_0 : decode cX0_cell 0 = .ok (.iload_n 1, 1) := by decide +kernel
theorem dX0_cell_1 : decode cX0_cell 1 = .ok (.aload_n 0, 1) := by decide +kernel
theorem dX0_cell_2 : decode cX0_cell 2 = .ok (.arraylength, 1) := by decide +kernel
theorem dX0_cell_3 : decode cX0_cell 3 = .ok (.if_icmp .ge 9, 3) := by decide +kernel
theorem dX0_cell_6 : decode cX0_cell 6 = .ok (.aload_n 0, 1) := by decide +kernel
theorem dX0_cell_7 : decode cX0_cell 7 = .ok (.iload_n 1, 1) := by decide +kernel
theorem dX0_cell_8 : decode cX0_cell 8 = .ok (.iaload, 1) := by decide +kernel
theorem dX0_cell_9 : decode cX0_cell 9 = .ok (.goto 4, 3) := by decide +kernel
theorem dX0_cell_12 : decode cX0_cell 12 = .ok (.iconst 0, 1) := by decide +kernel
theorem dX0_cell_13 : decode cX0_cell 13 = .ok (.ireturn, 1) := by decide +kernel
theorem q26 : (Jvm.Cond.initialized "CompLabelLaw") ∈ lw_all := lw_g (lw_at lw_m1 0 rfl) rfl
theorem q29 : (Jvm.Cond.classLink "CompLabelLaw" (7 : Nat) "CompLabel") ∈ lw_all := lw_g (lw_at lw_m1 3 rfl) rfl
theorem q31 : (Jvm.Cond.methodLink "CompLabelLaw" (15 : Nat) ({ cls := "CompLabel", name := "<init>", desc := "(II)V" } : Jvm.MethodName)) ∈ lw_all := lw_g (lw_at lw_m1 5 rfl) rfl
theorem q99 : (Jvm.Cond.methodLink "CompLabelLaw" (21 : Nat) ({ cls := "CompLabel", name := "set", desc := "(IIZ)Z" } : Jvm.MethodName)) ∈ lw_all := lw_g (lw_at lw_m1 73 rfl) rfl
theorem q107 : (Jvm.Cond.methodLink "CompLabelLaw" (26 : Nat) ({ cls := "CompLabel", name := "invert", desc := "(IIII)Z" } : Jvm.MethodName)) ∈ lw_all := lw_g (lw_at lw_m1 81 rfl) rfl
theorem q111 : (Jvm.Cond.methodLink "CompLabelLaw" (31 : Nat) ({ cls := "CompLabel", name := "isBlack", desc := "(II)Z" } : Jvm.MethodName)) ∈ lw_all := lw_g (lw_at lw_m1 85 rfl) rfl
theorem q115 : (Jvm.Cond.methodLink "CompLabelLaw" (36 : Nat) ({ cls := "CompLabel", name := "components", desc := "()I" } : Jvm.MethodName)) ∈ lw_all := lw_g (lw_at lw_m1 89 rfl) rfl
theorem q155 : (Jvm.Cond.methodLink "CompLabelLaw" (41 : Nat) ({ cls := "CompLabel", name := "euler", desc := "()I" } : Jvm.MethodName)) ∈ lw_all := lw_g (lw_at lw_m1 129 rfl) rfl
theorem q159 : (Jvm.Cond.methodLink "CompLabelLaw" (45 : Nat) ({ cls := "CompLabel", name := "label", desc := "(II)I" } : Jvm.MethodName)) ∈ lw_all := lw_g (lw_at lw_m1 133 rfl) rfl
theorem q167 : (Jvm.Cond.methodLink "CompLabelLaw" (50 : Nat) ({ cls := "CompLabel", name := "area", desc := "(I)I" } : Jvm.MethodName)) ∈ lw_all := lw_g (lw_at lw_m1 141 rfl) rfl
theorem q171 : (Jvm.Cond.methodLink "CompLabelLaw" (55 : Nat) ({ cls := "CompLabel", name := "holes", desc := "(I)I" } : Jvm.MethodName)) ∈ lw_all := lw_g (lw_at lw_m1 145 rfl) rfl
theorem q175 : (Jvm.Cond.methodLink "CompLabelLaw" (59 : Nat) ({ cls := "CompLabel", name := "around", desc := "(I)I" } : Jvm.MethodName)) ∈ lw_all := lw_g (lw_at lw_m1 149 rfl) rfl
theorem q179 : (Jvm.Cond.methodLink "CompLabelLaw" (63 : Nat) ({ cls := "CompLabel", name := "depth", desc := "(II)I" } : Jvm.MethodName)) ∈ lw_all := lw_g (lw_at lw_m1 153 rfl) rfl
theorem q183 : (Jvm.Cond.methodLink "CompLabelLaw" (67 : Nat) ({ cls := "CompLabel", name := "enclosed", desc := "(I)I" } : Jvm.MethodName)) ∈ lw_all := lw_g (lw_at lw_m1 157 rfl) rfl
theorem q187 : (Jvm.Cond.methodLink "CompLabelLaw" (9 : Nat) ({ cls := "CompLabelLaw", name := "cell", desc := "([II)I" } : Jvm.MethodName)) ∈ lw_all := lw_g (lw_at lw_m1 161 rfl) rfl
theorem q188 : (Jvm.Cond.static ({ cls := "CompLabelLaw", name := "cell", desc := "([II)I" } : Jvm.MethodName)) ∈ lw_all := lw_g (lw_at lw_m1 162 rfl) rfl
theorem q189 : (Jvm.Cond.code ({ cls := "CompLabelLaw", name := "cell", desc := "([II)I" } : Jvm.MethodName) method_2_code (2 : Nat) (Option.some Jvm.ClassFile.FieldType.int)) ∈ lw_all := lw_g (lw_at lw_m1 163 rfl) rfl
theorem q190 : (Jvm.Cond.classLink "CompLabelLaw" (18 : Nat) "CompLabelModel") ∈ lw_all := lw_g (lw_at lw_m1 164 rfl) rfl
theorem q192 : (Jvm.Cond.methodLink "CompLabelLaw" (20 : Nat) ({ cls := "CompLabelModel", name := "<init>", desc := "(II)V" } : Jvm.MethodName)) ∈ lw_all := lw_g (lw_at lw_m1 166 rfl) rfl
theorem q215 : (Jvm.Cond.methodLink "CompLabelLaw" (25 : Nat) ({ cls := "CompLabelModel", name := "set", desc := "(IIZ)Z" } : Jvm.MethodName)) ∈ lw_all := lw_g (lw_at lw_m1 189 rfl) rfl
theorem q227 : (Jvm.Cond.methodLink "CompLabelLaw" (30 : Nat) ({ cls := "CompLabelModel", name := "invert", desc := "(IIII)Z" } : Jvm.MethodName)) ∈ lw_all := lw_g (lw_at lw_m1 201 rfl) rfl
theorem q231 : (Jvm.Cond.methodLink "CompLabelLaw" (35 : Nat) ({ cls := "CompLabelModel", name := "isBlack", desc := "(II)Z" } : Jvm.MethodName)) ∈ lw_all := lw_g (lw_at lw_m1 205 rfl) rfl
theorem q235 : (Jvm.Cond.methodLink "CompLabelLaw" (40 : Nat) ({ cls := "CompLabelModel", name := "components", desc := "()I" } : Jvm.MethodName)) ∈ lw_all := lw_g (lw_at lw_m1 209 rfl) rfl
theorem q267 : (Jvm.Cond.methodLink "CompLabelLaw" (44 : Nat) ({ cls := "CompLabelModel", name := "euler", desc := "()I" } : Jvm.MethodName)) ∈ lw_all := lw_g (lw_at lw_m2 1 rfl) rfl
theorem q271 : (Jvm.Cond.methodLink "CompLabelLaw" (49 : Nat) ({ cls := "CompLabelModel", name := "label", desc := "(II)I" } : Jvm.MethodName)) ∈ lw_all := lw_g (lw_at lw_m2 5 rfl) rfl
theorem q275 : (Jvm.Cond.methodLink "CompLabelLaw" (54 : Nat) ({ cls := "CompLabelModel", name := "area", desc := "(I)I" } : Jvm.MethodName)) ∈ lw_all := lw_g (lw_at lw_m2 9 rfl) rfl
theorem q283 : (Jvm.Cond.methodLink "CompLabelLaw" (58 : Nat) ({ cls := "CompLabelModel", name := "holes", desc := "(I)I" } : Jvm.MethodName)) ∈ lw_all := lw_g (lw_at lw_m2 17 rfl) rfl
theorem q299 : (Jvm.Cond.methodLink "CompLabelLaw" (62 : Nat) ({ cls := "CompLabelModel", name := "around", desc := "(I)I" } : Jvm.MethodName)) ∈ lw_all := lw_g (lw_at lw_m2 33 rfl) rfl
theorem q311 : (Jvm.Cond.methodLink "CompLabelLaw" (66 : Nat) ({ cls := "CompLabelModel", name := "depth", desc := "(II)I" } : Jvm.MethodName)) ∈ lw_all := lw_g (lw_at lw_m2 45 rfl) rfl
theorem q315 : (Jvm.Cond.methodLink "CompLabelLaw" (70 : Nat) ({ cls := "CompLabelModel", name := "enclosed", desc := "(I)I" } : Jvm.MethodName)) ∈ lw_all := lw_g (lw_at lw_m2 49 rfl) rfl

/-! java/lang/Object -/
set_option maxRecDepth 100000
def RJ0 : String := "java/lang/Object"
abbrev cJ0_init : ByteArray := object_method_1_code
def yJ0_init : MethodName := ⟨RJ0, "<init>", "()V"⟩
theorem dJ0_init_0 : decode cJ0_init 0 = .ok (.return_, 1) := by decide +kernel
theorem q35 : (Jvm.Cond.instanceMethod ({ cls := "java/lang/Object", name := "<init>", desc := "()V" } : Jvm.MethodName)) ∈ lw_all := lw_g (lw_at lw_m1 9 rfl) rfl
theorem q36 : (Jvm.Cond.code ({ cls := "java/lang/Object", name := "<init>", desc := "()V" } : Jvm.MethodName) object_method_1_code (1 : Nat) (Option.none : Option Jvm.ClassFile.FieldType)) ∈ lw_all := lw_g (lw_at lw_m1 10 rfl) rfl

theorem q95 : (Jvm.Cond.arrayClass Jvm.ClassFile.FieldType.int) ∈ lw_all := lw_g (lw_at lw_m1 69 rfl) rfl
set_option maxRecDepth 100000
theorem q96 : (Jvm.Cond.arrayClass Jvm.ClassFile.FieldType.byte) ∈ lw_all := lw_g (lw_at lw_m1 70 rfl) rfl
theorem q97 : (Jvm.Cond.arrayClass Jvm.ClassFile.FieldType.boolean) ∈ lw_all := lw_g (lw_at lw_m1 71 rfl) rfl
theorem q98 : (Jvm.Cond.arrayClass Jvm.ClassFile.FieldType.short) ∈ lw_all := lw_g (lw_at lw_m1 72 rfl) rfl

/-! the law's own entry -/
set_option maxRecDepth 100000
abbrev cL_law : ByteArray := code
theorem dL_law_0 : decode cL_law 0 = .ok (.new 7, 3) := by decide +kernel
theorem dL_law_3 : decode cL_law 3 = .ok (.dup, 1) := by decide +kernel
theorem dL_law_4 : decode cL_law 4 = .ok (.aload_n 0, 1) := by decide +kernel
theorem dL_law_5 : decode cL_law 5 = .ok (.iconst 0, 1) := by decide +kernel
theorem dL_law_6 : decode cL_law 6 = .ok (.invokestatic 9, 3) := by decide +kernel
theorem dL_law_9 : decode cL_law 9 = .ok (.aload_n 0, 1) := by decide +kernel
theorem dL_law_10 : decode cL_law 10 = .ok (.iconst 1, 1) := by decide +kernel
theorem dL_law_11 : decode cL_law 11 = .ok (.invokestatic 9, 3) := by decide +kernel
theorem dL_law_14 : decode cL_law 14 = .ok (.invokespecial 15, 3) := by decide +kernel
theorem dL_law_17 : decode cL_law 17 = .ok (.astore_n 1, 1) := by decide +kernel
theorem dL_law_18 : decode cL_law 18 = .ok (.new 18, 3) := by decide +kernel
theorem dL_law_21 : decode cL_law 21 = .ok (.dup, 1) := by decide +kernel
theorem dL_law_22 : decode cL_law 22 = .ok (.aload_n 0, 1) := by decide +kernel
theorem dL_law_23 : decode cL_law 23 = .ok (.iconst 0, 1) := by decide +kernel
theorem dL_law_24 : decode cL_law 24 = .ok (.invokestatic 9, 3) := by decide +kernel
theorem dL_law_27 : decode cL_law 27 = .ok (.aload_n 0, 1) := by decide +kernel
theorem dL_law_28 : decode cL_law 28 = .ok (.iconst 1, 1) := by decide +kernel
theorem dL_law_29 : decode cL_law 29 = .ok (.invokestatic 9, 3) := by decide +kernel
theorem dL_law_32 : decode cL_law 32 = .ok (.invokespecial 20, 3) := by decide +kernel
theorem dL_law_35 : decode cL_law 35 = .ok (.astore_n 2, 1) := by decide +kernel
theorem dL_law_36 : decode cL_law 36 = .ok (.iconst 2, 1) := by decide +kernel
theorem dL_law_37 : decode cL_law 37 = .ok (.istore_n 3, 1) := by decide +kernel
theorem dL_law_38 : decode cL_law 38 = .ok (.iload_n 3, 1) := by decide +kernel
theorem dL_law_39 : decode cL_law 39 = .ok (.aload_n 0, 1) := by decide +kernel
theorem dL_law_40 : decode cL_law 40 = .ok (.arraylength, 1) := by decide +kernel
theorem dL_law_41 : decode cL_law 41 = .ok (.iconst 5, 1) := by decide +kernel
theorem dL_law_42 : decode cL_law 42 = .ok (.isub, 1) := by decide +kernel
theorem dL_law_43 : decode cL_law 43 = .ok (.if_icmp .gt 404, 3) := by decide +kernel
theorem dL_law_46 : decode cL_law 46 = .ok (.aload_n 0, 1) := by decide +kernel
theorem dL_law_47 : decode cL_law 47 = .ok (.iload_n 3, 1) := by decide +kernel
theorem dL_law_48 : decode cL_law 48 = .ok (.iaload, 1) := by decide +kernel
theorem dL_law_49 : decode cL_law 49 = .ok (.bipush 15, 2) := by decide +kernel
theorem dL_law_51 : decode cL_law 51 = .ok (.iand, 1) := by decide +kernel
theorem dL_law_52 : decode cL_law 52 = .ok (.tableswitch 389 0 10 #[60, 119, 172, 205, 218, 231, 264, 287, 310, 333, 366], 60) := by decide +kernel
theorem dL_law_112 : decode cL_law 112 = .ok (.aload_n 1, 1) := by decide +kernel
theorem dL_law_113 : decode cL_law 113 = .ok (.aload_n 0, 1) := by decide +kernel
theorem dL_law_114 : decode cL_law 114 = .ok (.iload_n 3, 1) := by decide +kernel
theorem dL_law_115 : decode cL_law 115 = .ok (.iconst 1, 1) := by decide +kernel
theorem dL_law_116 : decode cL_law 116 = .ok (.iadd, 1) := by decide +kernel
theorem dL_law_117 : decode cL_law 117 = .ok (.iaload, 1) := by decide +kernel
theorem dL_law_118 : decode cL_law 118 = .ok (.aload_n 0, 1) := by decide +kernel
theorem dL_law_119 : decode cL_law 119 = .ok (.iload_n 3, 1) := by decide +kernel
theorem dL_law_120 : decode cL_law 120 = .ok (.iconst 2, 1) := by decide +kernel
theorem dL_law_121 : decode cL_law 121 = .ok (.iadd, 1) := by decide +kernel
theorem dL_law_122 : decode cL_law 122 = .ok (.iaload, 1) := by decide +kernel
theorem dL_law_123 : decode cL_law 123 = .ok (.aload_n 0, 1) := by decide +kernel
theorem dL_law_124 : decode cL_law 124 = .ok (.iload_n 3, 1) := by decide +kernel
theorem dL_law_125 : decode cL_law 125 = .ok (.iconst 3, 1) := by decide +kernel
theorem dL_law_126 : decode cL_law 126 = .ok (.iadd, 1) := by decide +kernel
theorem dL_law_127 : decode cL_law 127 = .ok (.iaload, 1) := by decide +kernel
theorem dL_law_128 : decode cL_law 128 = .ok (.ifCond .eq 7, 3) := by decide +kernel
theorem dL_law_131 : decode cL_law 131 = .ok (.iconst 1, 1) := by decide +kernel
theorem dL_law_132 : decode cL_law 132 = .ok (.goto 4, 3) := by decide +kernel
theorem dL_law_135 : decode cL_law 135 = .ok (.iconst 0, 1) := by decide +kernel
theorem dL_law_136 : decode cL_law 136 = .ok (.invokevirtual 21, 3) := by decide +kernel
theorem dL_law_139 : decode cL_law 139 = .ok (.aload_n 2, 1) := by decide +kernel
theorem dL_law_140 : decode cL_law 140 = .ok (.aload_n 0, 1) := by decide +kernel
theorem dL_law_141 : decode cL_law 141 = .ok (.iload_n 3, 1) := by decide +kernel
theorem dL_law_142 : decode cL_law 142 = .ok (.iconst 1, 1) := by decide +kernel
theorem dL_law_143 : decode cL_law 143 = .ok (.iadd, 1) := by decide +kernel
theorem dL_law_144 : decode cL_law 144 = .ok (.iaload, 1) := by decide +kernel
theorem dL_law_145 : decode cL_law 145 = .ok (.aload_n 0, 1) := by decide +kernel
theorem dL_law_146 : decode cL_law 146 = .ok (.iload_n 3, 1) := by decide +kernel
theorem dL_law_147 : decode cL_law 147 = .ok (.iconst 2, 1) := by decide +kernel
theorem dL_law_148 : decode cL_law 148 = .ok (.iadd, 1) := by decide +kernel
theorem dL_law_149 : decode cL_law 149 = .ok (.iaload, 1) := by decide +kernel
theorem dL_law_150 : decode cL_law 150 = .ok (.aload_n 0, 1) := by decide +kernel
theorem dL_law_151 : decode cL_law 151 = .ok (.iload_n 3, 1) := by decide +kernel
theorem dL_law_152 : decode cL_law 152 = .ok (.iconst 3, 1) := by decide +kernel
theorem dL_law_153 : decode cL_law 153 = .ok (.iadd, 1) := by decide +kernel
theorem dL_law_154 : decode cL_law 154 = .ok (.iaload, 1) := by decide +kernel
theorem dL_law_155 : decode cL_law 155 = .ok (.ifCond .eq 7, 3) := by decide +kernel
theorem dL_law_158 : decode cL_law 158 = .ok (.iconst 1, 1) := by decide +kernel
theorem dL_law_159 : decode cL_law 159 = .ok (.goto 4, 3) := by decide +kernel
theorem dL_law_162 : decode cL_law 162 = .ok (.iconst 0, 1) := by decide +kernel
theorem dL_law_163 : decode cL_law 163 = .ok (.invokevirtual 25, 3) := by decide +kernel
theorem dL_law_166 : decode cL_law 166 = .ok (.if_icmp .eq 275, 3) := by decide +kernel
theorem dL_law_169 : decode cL_law 169 = .ok (.iconst 0, 1) := by decide +kernel
theorem dL_law_170 : decode cL_law 170 = .ok (.ireturn, 1) := by decide +kernel
theorem dL_law_171 : decode cL_law 171 = .ok (.aload_n 1, 1) := by decide +kernel
theorem dL_law_172 : decode cL_law 172 = .ok (.aload_n 0, 1) := by decide +kernel
theorem dL_law_173 : decode cL_law 173 = .ok (.iload_n 3, 1) := by decide +kernel
theorem dL_law_174 : decode cL_law 174 = .ok (.iconst 1, 1) := by decide +kernel
theorem dL_law_175 : decode cL_law 175 = .ok (.iadd, 1) := by decide +kernel
theorem dL_law_176 : decode cL_law 176 = .ok (.iaload, 1) := by decide +kernel
theorem dL_law_177 : decode cL_law 177 = .ok (.aload_n 0, 1) := by decide +kernel
theorem dL_law_178 : decode cL_law 178 = .ok (.iload_n 3, 1) := by decide +kernel
theorem dL_law_179 : decode cL_law 179 = .ok (.iconst 2, 1) := by decide +kernel
theorem dL_law_180 : decode cL_law 180 = .ok (.iadd, 1) := by decide +kernel
theorem dL_law_181 : decode cL_law 181 = .ok (.iaload, 1) := by decide +kernel
theorem dL_law_182 : decode cL_law 182 = .ok (.aload_n 0, 1) := by decide +kernel
theorem dL_law_183 : decode cL_law 183 = .ok (.iload_n 3, 1) := by decide +kernel
theorem dL_law_184 : decode cL_law 184 = .ok (.iconst 3, 1) := by decide +kernel
theorem dL_law_185 : decode cL_law 185 = .ok (.iadd, 1) := by decide +kernel
theorem dL_law_186 : decode cL_law 186 = .ok (.iaload, 1) := by decide +kernel
theorem dL_law_187 : decode cL_law 187 = .ok (.aload_n 0, 1) := by decide +kernel
theorem dL_law_188 : decode cL_law 188 = .ok (.iload_n 3, 1) := by decide +kernel
theorem dL_law_189 : decode cL_law 189 = .ok (.iconst 4, 1) := by decide +kernel
theorem dL_law_190 : decode cL_law 190 = .ok (.iadd, 1) := by decide +kernel
theorem dL_law_191 : decode cL_law 191 = .ok (.iaload, 1) := by decide +kernel
theorem dL_law_192 : decode cL_law 192 = .ok (.invokevirtual 26, 3) := by decide +kernel
theorem dL_law_195 : decode cL_law 195 = .ok (.aload_n 2, 1) := by decide +kernel
theorem dL_law_196 : decode cL_law 196 = .ok (.aload_n 0, 1) := by decide +kernel
theorem dL_law_197 : decode cL_law 197 = .ok (.iload_n 3, 1) := by decide +kernel
theorem dL_law_198 : decode cL_law 198 = .ok (.iconst 1, 1) := by decide +kernel
theorem dL_law_199 : decode cL_law 199 = .ok (.iadd, 1) := by decide +kernel
theorem dL_law_200 : decode cL_law 200 = .ok (.iaload, 1) := by decide +kernel
theorem dL_law_201 : decode cL_law 201 = .ok (.aload_n 0, 1) := by decide +kernel
theorem dL_law_202 : decode cL_law 202 = .ok (.iload_n 3, 1) := by decide +kernel
theorem dL_law_203 : decode cL_law 203 = .ok (.iconst 2, 1) := by decide +kernel
theorem dL_law_204 : decode cL_law 204 = .ok (.iadd, 1) := by decide +kernel
theorem dL_law_205 : decode cL_law 205 = .ok (.iaload, 1) := by decide +kernel
theorem dL_law_206 : decode cL_law 206 = .ok (.aload_n 0, 1) := by decide +kernel
theorem dL_law_207 : decode cL_law 207 = .ok (.iload_n 3, 1) := by decide +kernel
theorem dL_law_208 : decode cL_law 208 = .ok (.iconst 3, 1) := by decide +kernel
theorem dL_law_209 : decode cL_law 209 = .ok (.iadd, 1) := by decide +kernel
theorem dL_law_210 : decode cL_law 210 = .ok (.iaload, 1) := by decide +kernel
theorem dL_law_211 : decode cL_law 211 = .ok (.aload_n 0, 1) := by decide +kernel
theorem dL_law_212 : decode cL_law 212 = .ok (.iload_n 3, 1) := by decide +kernel
theorem dL_law_213 : decode cL_law 213 = .ok (.iconst 4, 1) := by decide +kernel
theorem dL_law_214 : decode cL_law 214 = .ok (.iadd, 1) := by decide +kernel
theorem dL_law_215 : decode cL_law 215 = .ok (.iaload, 1) := by decide +kernel
theorem dL_law_216 : decode cL_law 216 = .ok (.invokevirtual 30, 3) := by decide +kernel
theorem dL_law_219 : decode cL_law 219 = .ok (.if_icmp .eq 222, 3) := by decide +kernel
theorem dL_law_222 : decode cL_law 222 = .ok (.iconst 0, 1) := by decide +kernel
theorem dL_law_223 : decode cL_law 223 = .ok (.ireturn, 1) := by decide +kernel
theorem dL_law_224 : decode cL_law 224 = .ok (.aload_n 1, 1) := by decide +kernel
theorem dL_law_225 : decode cL_law 225 = .ok (.aload_n 0, 1) := by decide +kernel
theorem dL_law_226 : decode cL_law 226 = .ok (.iload_n 3, 1) := by decide +kernel
theorem dL_law_227 : decode cL_law 227 = .ok (.iconst 1, 1) := by decide +kernel
theorem dL_law_228 : decode cL_law 228 = .ok (.iadd, 1) := by decide +kernel
theorem dL_law_229 : decode cL_law 229 = .ok (.iaload, 1) := by decide +kernel
theorem dL_law_230 : decode cL_law 230 = .ok (.aload_n 0, 1) := by decide +kernel
theorem dL_law_231 : decode cL_law 231 = .ok (.iload_n 3, 1) := by decide +kernel
theorem dL_law_232 : decode cL_law 232 = .ok (.iconst 2, 1) := by decide +kernel
theorem dL_law_233 : decode cL_law 233 = .ok (.iadd, 1) := by decide +kernel
theorem dL_law_234 : decode cL_law 234 = .ok (.iaload, 1) := by decide +kernel
theorem dL_law_235 : decode cL_law 235 = .ok (.invokevirtual 31, 3) := by decide +kernel
theorem dL_law_238 : decode cL_law 238 = .ok (.aload_n 2, 1) := by decide +kernel
theorem dL_law_239 : decode cL_law 239 = .ok (.aload_n 0, 1) := by decide +kernel
theorem dL_law_240 : decode cL_law 240 = .ok (.iload_n 3, 1) := by decide +kernel
theorem dL_law_241 : decode cL_law 241 = .ok (.iconst 1, 1) := by decide +kernel
theorem dL_law_242 : decode cL_law 242 = .ok (.iadd, 1) := by decide +kernel
theorem dL_law_243 : decode cL_law 243 = .ok (.iaload, 1) := by decide +kernel
theorem dL_law_244 : decode cL_law 244 = .ok (.aload_n 0, 1) := by decide +kernel
theorem dL_law_245 : decode cL_law 245 = .ok (.iload_n 3, 1) := by decide +kernel
theorem dL_law_246 : decode cL_law 246 = .ok (.iconst 2, 1) := by decide +kernel
theorem dL_law_247 : decode cL_law 247 = .ok (.iadd, 1) := by decide +kernel
theorem dL_law_248 : decode cL_law 248 = .ok (.iaload, 1) := by decide +kernel
theorem dL_law_249 : decode cL_law 249 = .ok (.invokevirtual 35, 3) := by decide +kernel
theorem dL_law_252 : decode cL_law 252 = .ok (.if_icmp .eq 189, 3) := by decide +kernel
theorem dL_law_255 : decode cL_law 255 = .ok (.iconst 0, 1) := by decide +kernel
theorem dL_law_256 : decode cL_law 256 = .ok (.ireturn, 1) := by decide +kernel
theorem dL_law_257 : decode cL_law 257 = .ok (.aload_n 1, 1) := by decide +kernel
theorem dL_law_258 : decode cL_law 258 = .ok (.invokevirtual 36, 3) := by decide +kernel
theorem dL_law_261 : decode cL_law 261 = .ok (.aload_n 2, 1) := by decide +kernel
theorem dL_law_262 : decode cL_law 262 = .ok (.invokevirtual 40, 3) := by decide +kernel
theorem dL_law_265 : decode cL_law 265 = .ok (.if_icmp .eq 176, 3) := by decide +kernel
theorem dL_law_268 : decode cL_law 268 = .ok (.iconst 0, 1) := by decide +kernel
theorem dL_law_269 : decode cL_law 269 = .ok (.ireturn, 1) := by decide +kernel
theorem dL_law_270 : decode cL_law 270 = .ok (.aload_n 1, 1) := by decide +kernel
theorem dL_law_271 : decode cL_law 271 = .ok (.invokevirtual 41, 3) := by decide +kernel
theorem dL_law_274 : decode cL_law 274 = .ok (.aload_n 2, 1) := by decide +kernel
theorem dL_law_275 : decode cL_law 275 = .ok (.invokevirtual 44, 3) := by decide +kernel
theorem dL_law_278 : decode cL_law 278 = .ok (.if_icmp .eq 163, 3) := by decide +kernel
theorem dL_law_281 : decode cL_law 281 = .ok (.iconst 0, 1) := by decide +kernel
theorem dL_law_282 : decode cL_law 282 = .ok (.ireturn, 1) := by decide +kernel
theorem dL_law_283 : decode cL_law 283 = .ok (.aload_n 1, 1) := by decide +kernel
theorem dL_law_284 : decode cL_law 284 = .ok (.aload_n 0, 1) := by decide +kernel
theorem dL_law_285 : decode cL_law 285 = .ok (.iload_n 3, 1) := by decide +kernel
theorem dL_law_286 : decode cL_law 286 = .ok (.iconst 1, 1) := by decide +kernel
theorem dL_law_287 : decode cL_law 287 = .ok (.iadd, 1) := by decide +kernel
theorem dL_law_288 : decode cL_law 288 = .ok (.iaload, 1) := by decide +kernel
theorem dL_law_289 : decode cL_law 289 = .ok (.aload_n 0, 1) := by decide +kernel
theorem dL_law_290 : decode cL_law 290 = .ok (.iload_n 3, 1) := by decide +kernel
theorem dL_law_291 : decode cL_law 291 = .ok (.iconst 2, 1) := by decide +kernel
theorem dL_law_292 : decode cL_law 292 = .ok (.iadd, 1) := by decide +kernel
theorem dL_law_293 : decode cL_law 293 = .ok (.iaload, 1) := by decide +kernel
theorem dL_law_294 : decode cL_law 294 = .ok (.invokevirtual 45, 3) := by decide +kernel
theorem dL_law_297 : decode cL_law 297 = .ok (.aload_n 2, 1) := by decide +kernel
theorem dL_law_298 : decode cL_law 298 = .ok (.aload_n 0, 1) := by decide +kernel
theorem dL_law_299 : decode cL_law 299 = .ok (.iload_n 3, 1) := by decide +kernel
theorem dL_law_300 : decode cL_law 300 = .ok (.iconst 1, 1) := by decide +kernel
theorem dL_law_301 : decode cL_law 301 = .ok (.iadd, 1) := by decide +kernel
theorem dL_law_302 : decode cL_law 302 = .ok (.iaload, 1) := by decide +kernel
theorem dL_law_303 : decode cL_law 303 = .ok (.aload_n 0, 1) := by decide +kernel
theorem dL_law_304 : decode cL_law 304 = .ok (.iload_n 3, 1) := by decide +kernel
theorem dL_law_305 : decode cL_law 305 = .ok (.iconst 2, 1) := by decide +kernel
theorem dL_law_306 : decode cL_law 306 = .ok (.iadd, 1) := by decide +kernel
theorem dL_law_307 : decode cL_law 307 = .ok (.iaload, 1) := by decide +kernel
theorem dL_law_308 : decode cL_law 308 = .ok (.invokevirtual 49, 3) := by decide +kernel
theorem dL_law_311 : decode cL_law 311 = .ok (.if_icmp .eq 130, 3) := by decide +kernel
theorem dL_law_314 : decode cL_law 314 = .ok (.iconst 0, 1) := by decide +kernel
theorem dL_law_315 : decode cL_law 315 = .ok (.ireturn, 1) := by decide +kernel
theorem dL_law_316 : decode cL_law 316 = .ok (.aload_n 1, 1) := by decide +kernel
theorem dL_law_317 : decode cL_law 317 = .ok (.aload_n 0, 1) := by decide +kernel
theorem dL_law_318 : decode cL_law 318 = .ok (.iload_n 3, 1) := by decide +kernel
theorem dL_law_319 : decode cL_law 319 = .ok (.iconst 1, 1) := by decide +kernel
theorem dL_law_320 : decode cL_law 320 = .ok (.iadd, 1) := by decide +kernel
theorem dL_law_321 : decode cL_law 321 = .ok (.iaload, 1) := by decide +kernel
theorem dL_law_322 : decode cL_law 322 = .ok (.invokevirtual 50, 3) := by decide +kernel
theorem dL_law_325 : decode cL_law 325 = .ok (.aload_n 2, 1) := by decide +kernel
theorem dL_law_326 : decode cL_law 326 = .ok (.aload_n 0, 1) := by decide +kernel
theorem dL_law_327 : decode cL_law 327 = .ok (.iload_n 3, 1) := by decide +kernel
theorem dL_law_328 : decode cL_law 328 = .ok (.iconst 1, 1) := by decide +kernel
theorem dL_law_329 : decode cL_law 329 = .ok (.iadd, 1) := by decide +kernel
theorem dL_law_330 : decode cL_law 330 = .ok (.iaload, 1) := by decide +kernel
theorem dL_law_331 : decode cL_law 331 = .ok (.invokevirtual 54, 3) := by decide +kernel
theorem dL_law_334 : decode cL_law 334 = .ok (.if_icmp .eq 107, 3) := by decide +kernel
theorem dL_law_337 : decode cL_law 337 = .ok (.iconst 0, 1) := by decide +kernel
theorem dL_law_338 : decode cL_law 338 = .ok (.ireturn, 1) := by decide +kernel
theorem dL_law_339 : decode cL_law 339 = .ok (.aload_n 1, 1) := by decide +kernel
theorem dL_law_340 : decode cL_law 340 = .ok (.aload_n 0, 1) := by decide +kernel
theorem dL_law_341 : decode cL_law 341 = .ok (.iload_n 3, 1) := by decide +kernel
theorem dL_law_342 : decode cL_law 342 = .ok (.iconst 1, 1) := by decide +kernel
theorem dL_law_343 : decode cL_law 343 = .ok (.iadd, 1) := by decide +kernel
theorem dL_law_344 : decode cL_law 344 = .ok (.iaload, 1) := by decide +kernel
theorem dL_law_345 : decode cL_law 345 = .ok (.invokevirtual 55, 3) := by decide +kernel
theorem dL_law_348 : decode cL_law 348 = .ok (.aload_n 2, 1) := by decide +kernel
theorem dL_law_349 : decode cL_law 349 = .ok (.aload_n 0, 1) := by decide +kernel
theorem dL_law_350 : decode cL_law 350 = .ok (.iload_n 3, 1) := by decide +kernel
theorem dL_law_351 : decode cL_law 351 = .ok (.iconst 1, 1) := by decide +kernel
theorem dL_law_352 : decode cL_law 352 = .ok (.iadd, 1) := by decide +kernel
theorem dL_law_353 : decode cL_law 353 = .ok (.iaload, 1) := by decide +kernel
theorem dL_law_354 : decode cL_law 354 = .ok (.invokevirtual 58, 3) := by decide +kernel
theorem dL_law_357 : decode cL_law 357 = .ok (.if_icmp .eq 84, 3) := by decide +kernel
theorem dL_law_360 : decode cL_law 360 = .ok (.iconst 0, 1) := by decide +kernel
theorem dL_law_361 : decode cL_law 361 = .ok (.ireturn, 1) := by decide +kernel
theorem dL_law_362 : decode cL_law 362 = .ok (.aload_n 1, 1) := by decide +kernel
theorem dL_law_363 : decode cL_law 363 = .ok (.aload_n 0, 1) := by decide +kernel
theorem dL_law_364 : decode cL_law 364 = .ok (.iload_n 3, 1) := by decide +kernel
theorem dL_law_365 : decode cL_law 365 = .ok (.iconst 1, 1) := by decide +kernel
theorem dL_law_366 : decode cL_law 366 = .ok (.iadd, 1) := by decide +kernel
theorem dL_law_367 : decode cL_law 367 = .ok (.iaload, 1) := by decide +kernel
theorem dL_law_368 : decode cL_law 368 = .ok (.invokevirtual 59, 3) := by decide +kernel
theorem dL_law_371 : decode cL_law 371 = .ok (.aload_n 2, 1) := by decide +kernel
theorem dL_law_372 : decode cL_law 372 = .ok (.aload_n 0, 1) := by decide +kernel
theorem dL_law_373 : decode cL_law 373 = .ok (.iload_n 3, 1) := by decide +kernel
theorem dL_law_374 : decode cL_law 374 = .ok (.iconst 1, 1) := by decide +kernel
theorem dL_law_375 : decode cL_law 375 = .ok (.iadd, 1) := by decide +kernel
theorem dL_law_376 : decode cL_law 376 = .ok (.iaload, 1) := by decide +kernel
theorem dL_law_377 : decode cL_law 377 = .ok (.invokevirtual 62, 3) := by decide +kernel
theorem dL_law_380 : decode cL_law 380 = .ok (.if_icmp .eq 61, 3) := by decide +kernel
theorem dL_law_383 : decode cL_law 383 = .ok (.iconst 0, 1) := by decide +kernel
theorem dL_law_384 : decode cL_law 384 = .ok (.ireturn, 1) := by decide +kernel
theorem dL_law_385 : decode cL_law 385 = .ok (.aload_n 1, 1) := by decide +kernel
theorem dL_law_386 : decode cL_law 386 = .ok (.aload_n 0, 1) := by decide +kernel
theorem dL_law_387 : decode cL_law 387 = .ok (.iload_n 3, 1) := by decide +kernel
theorem dL_law_388 : decode cL_law 388 = .ok (.iconst 1, 1) := by decide +kernel
theorem dL_law_389 : decode cL_law 389 = .ok (.iadd, 1) := by decide +kernel
theorem dL_law_390 : decode cL_law 390 = .ok (.iaload, 1) := by decide +kernel
theorem dL_law_391 : decode cL_law 391 = .ok (.aload_n 0, 1) := by decide +kernel
theorem dL_law_392 : decode cL_law 392 = .ok (.iload_n 3, 1) := by decide +kernel
theorem dL_law_393 : decode cL_law 393 = .ok (.iconst 2, 1) := by decide +kernel
theorem dL_law_394 : decode cL_law 394 = .ok (.iadd, 1) := by decide +kernel
theorem dL_law_395 : decode cL_law 395 = .ok (.iaload, 1) := by decide +kernel
theorem dL_law_396 : decode cL_law 396 = .ok (.invokevirtual 63, 3) := by decide +kernel
theorem dL_law_399 : decode cL_law 399 = .ok (.aload_n 2, 1) := by decide +kernel
theorem dL_law_400 : decode cL_law 400 = .ok (.aload_n 0, 1) := by decide +kernel
theorem dL_law_401 : decode cL_law 401 = .ok (.iload_n 3, 1) := by decide +kernel
theorem dL_law_402 : decode cL_law 402 = .ok (.iconst 1, 1) := by decide +kernel
theorem dL_law_403 : decode cL_law 403 = .ok (.iadd, 1) := by decide +kernel
theorem dL_law_404 : decode cL_law 404 = .ok (.iaload, 1) := by decide +kernel
theorem dL_law_405 : decode cL_law 405 = .ok (.aload_n 0, 1) := by decide +kernel
theorem dL_law_406 : decode cL_law 406 = .ok (.iload_n 3, 1) := by decide +kernel
theorem dL_law_407 : decode cL_law 407 = .ok (.iconst 2, 1) := by decide +kernel
theorem dL_law_408 : decode cL_law 408 = .ok (.iadd, 1) := by decide +kernel
theorem dL_law_409 : decode cL_law 409 = .ok (.iaload, 1) := by decide +kernel
theorem dL_law_410 : decode cL_law 410 = .ok (.invokevirtual 66, 3) := by decide +kernel
theorem dL_law_413 : decode cL_law 413 = .ok (.if_icmp .eq 28, 3) := by decide +kernel
theorem dL_law_416 : decode cL_law 416 = .ok (.iconst 0, 1) := by decide +kernel
theorem dL_law_417 : decode cL_law 417 = .ok (.ireturn, 1) := by decide +kernel
theorem dL_law_418 : decode cL_law 418 = .ok (.aload_n 1, 1) := by decide +kernel
theorem dL_law_419 : decode cL_law 419 = .ok (.aload_n 0, 1) := by decide +kernel
theorem dL_law_420 : decode cL_law 420 = .ok (.iload_n 3, 1) := by decide +kernel
theorem dL_law_421 : decode cL_law 421 = .ok (.iconst 1, 1) := by decide +kernel
theorem dL_law_422 : decode cL_law 422 = .ok (.iadd, 1) := by decide +kernel
theorem dL_law_423 : decode cL_law 423 = .ok (.iaload, 1) := by decide +kernel
theorem dL_law_424 : decode cL_law 424 = .ok (.invokevirtual 67, 3) := by decide +kernel
theorem dL_law_427 : decode cL_law 427 = .ok (.aload_n 2, 1) := by decide +kernel
theorem dL_law_428 : decode cL_law 428 = .ok (.aload_n 0, 1) := by decide +kernel
theorem dL_law_429 : decode cL_law 429 = .ok (.iload_n 3, 1) := by decide +kernel
theorem dL_law_430 : decode cL_law 430 = .ok (.iconst 1, 1) := by decide +kernel
theorem dL_law_431 : decode cL_law 431 = .ok (.iadd, 1) := by decide +kernel
theorem dL_law_432 : decode cL_law 432 = .ok (.iaload, 1) := by decide +kernel
theorem dL_law_433 : decode cL_law 433 = .ok (.invokevirtual 70, 3) := by decide +kernel
theorem dL_law_436 : decode cL_law 436 = .ok (.if_icmp .eq 5, 3) := by decide +kernel
theorem dL_law_439 : decode cL_law 439 = .ok (.iconst 0, 1) := by decide +kernel
theorem dL_law_440 : decode cL_law 440 = .ok (.ireturn, 1) := by decide +kernel
theorem dL_law_441 : decode cL_law 441 = .ok (.iinc 3 5, 3) := by decide +kernel
theorem dL_law_444 : decode cL_law 444 = .ok (.goto (-406), 3) := by decide +kernel
theorem dL_law_447 : decode cL_law 447 = .ok (.iconst 1, 1) := by decide +kernel
theorem dL_law_448 : decode cL_law 448 = .ok (.ireturn, 1) := by decide +kernel
end
section
set_option maxRecDepth 100000
abbrev vwCl : List vw_C := [(RX1, TX1, 19), (RX2, TX2, 6)]
/-- an object's state: int field k at place 0, array field k at its places -/
def up (s : Nat → Nat → Nat) (k j v : Nat) : Nat → Nat → Nat := fun k' j' => if k' = k then (if j' = j then v else s k' j') else s k' j'
theorem zn_s16 {v : Nat} (h : v < 32768) : (nI v).toInt16.toInt32 = nI v := by
  apply Int32.toInt_inj.mp
  rw [Int16.toInt_toInt32, Int32.toInt_toInt16, nI_toInt (by omega)]
  exact Int.bmod_eq_of_le_mul_two (by omega) (by omega)
theorem zn_b8 {v : Nat} (h : v < 128) : (nI v).toInt8.toInt32 = nI v := by
  apply Int32.toInt_inj.mp
  rw [Int8.toInt_toInt32, Int32.toInt_toInt8, nI_toInt (by omega)]
  exact Int.bmod_eq_of_le_mul_two (by omega) (by omega)
theorem zn_z {v : Nat} (h : v < 2) : narrow .boolean (.int (nI v)) = .int (nI v) := by
  rcases (show v = 0 ∨ v = 1 by omega) with rfl | rfl <;> rfl
theorem zn_zf {v : Nat} (h : v < 2) : fits .boolean (.int (nI v)) = true := by
  rcases (show v = 0 ∨ v = 1 by omega) with rfl | rfl <;> rfl
theorem zn_vz {v : Nat} (h : v < 2) : vp_nar .boolean (nI v) = nI v := by
  rcases (show v = 0 ∨ v = 1 by omega) with rfl | rfl <;> rfl
theorem zn_upd {σ : Nat → Nat → Nat} (k : Nat) {j v : Nat} (hj : j < 2147483648) {x : Int32} (hx : x = nI v) : upd (fun i => nI (σ k i)) (nI j).toNatClampNeg x = fun i => nI (up σ k j v k i) := by
  funext i
  rw [nI_clamp (by omega), hx]
  unfold upd up
  rw [if_pos rfl]
  by_cases h : i = j
  · rw [if_pos h, if_pos h]
  · rw [if_neg h, if_neg h]
theorem zn_bd {σ : Nat → Nat → Nat} (h : ∀ k j, σ k j < 32768) {k j v : Nat} (hv : v < 32768) : ∀ k' j', up σ k j v k' j' < 32768 := by
  intro k' j'
  unfold up
  split
  · split
    · exact hv
    · exact h _ _
  · exact h _ _
/-- a method's fixed context -/
abbrev zC (p : Program) (m : MethodId) (c : Code) (cc : ByteArray) (nL : Nat) (s : State) (args : Array Value) (own : String) : Prop := CallFix p m c cc nL s args lw_all own
def zW (G : va_G) (tys : List (ClassId × FieldType)) (cf : (Nat → Nat → Nat) → va_W) (A : Nat → Prop) (st : State) (H0 H : Heap) (locs : List Loc) (σ : Nat → Nat → Nat) : Prop :=
  va_K G vwCl tys st ∧ va_P G vwCl (cf σ) H ∧ va_D A (cf σ) ∧ va_S A H0 H locs ∧ (∀ q, H0.size ≤ q → A q) ∧ ∀ k j, σ k j < 32768
def zB (G : va_G) (tys : List (ClassId × FieldType)) (cf : (Nat → Nat → Nat) → va_W) (A : Nat → Prop) (σ : Nat → Nat → Nat) (t : State) : Prop :=
  va_P G vwCl (cf σ) t.heap ∧ va_K G vwCl tys t ∧ va_D A (cf σ) ∧ ∀ k j, σ k j < 32768
def zQi (G : va_G) (tys : List (ClassId × FieldType)) (cf : (Nat → Nat → Nat) → va_W) (A : Nat → Prop) (post : Int32 → (Nat → Nat → Nat) → Prop) : Array Value → State → Outcome → State → Prop := va_Qi post (zB G tys cf A) A
def zQv (G : va_G) (tys : List (ClassId × FieldType)) (cf : (Nat → Nat → Nat) → va_W) (A : Nat → Prop) (post : (Nat → Nat → Nat) → Prop) : Array Value → State → Outcome → State → Prop := va_Qv post (zB G tys cf A) A
def zPc (G : va_G) (tys : List (ClassId × FieldType)) (cf : (Nat → Nat → Nat) → va_W) (av : List Value) (sz : Nat) (σ : Nat → Nat → Nat) : Array Value → State → Prop :=
  va_Pc av (fun U => U.heap.size = sz ∧ va_P G vwCl (cf σ) U.heap ∧ va_K G vwCl tys U ∧ va_D (fun _ => True) (cf σ) ∧ ∀ k j, σ k j < 32768)
/-- a method's contract that answers an int (or boolean), and one that answers nothing -/
def zMi (l : Launch) (y : MethodName) (cc : ByteArray) (nL : Nat) (ret : Option FieldType) (rm : Room) (G : va_G) (tys : List (ClassId × FieldType)) (cf : (Nat → Nat → Nat) → va_W) (av : List Value) (σ : Nat → Nat → Nat) (post : Int32 → (Nat → Nat → Nat) → Prop) : Prop :=
  ∀ sz, Met l y (ws_ y cc nL ret) rm (zPc G tys cf av sz σ) (zQi G tys cf (va_A (cf σ) sz) post) 0 0 (va_A (cf σ) sz)
def zMv (l : Launch) (y : MethodName) (cc : ByteArray) (nL : Nat) (ret : Option FieldType) (rm : Room) (G : va_G) (tys : List (ClassId × FieldType)) (cf : (Nat → Nat → Nat) → va_W) (av : List Value) (σ : Nat → Nat → Nat) (post : (Nat → Nat → Nat) → Prop) : Prop :=
  ∀ sz, Met l y (ws_ y cc nL ret) rm (zPc G tys cf av sz σ) (zQv G tys cf (va_A (cf σ) sz) post) 0 0 (va_A (cf σ) sz)
theorem zMi_of {l : Launch} {y : MethodName} {cc : ByteArray} {nL : Nat} {ret : Option FieldType} {rm : Room} {G : va_G} {tys : List (ClassId × FieldType)} {cf : (Nat → Nat → Nat) → va_W} {av : List Value} {σ : Nat → Nat → Nat} {post : Int32 → (Nat → Nat → Nat) → Prop} {own : String} (hy : plainName y.cls = true) (ho : y.cls = own) (hlen : (lg_sl av).length ≤ nL)
    (body : ∀ (p : Program) (e : Env) (s : State) (m : MethodId) (args : Array Value) (below : List Frame) (meth : Method) (c : Code) (A : Nat → Prop) (ls : Array Slot), zC p m c cc nL s args own → meth.sig.returnType = ret → meth.locks = false → zW G tys cf A s s.heap s.heap [] σ → lv_has ls nL (lv_args 0 av) → W p l e rm s m args below meth c s.heap [] 0 0 (MQ below (zQi G tys cf A post) args s 0 0 A) (F0 m 0 ls [])) : zMi l y cc nL ret rm G tys cf av σ post := by
  intro sz
  refine Met.ofW (cc := cc) (maxL := nL) (ret := ret) hy rfl ?_
  intro p e s m args below meth c s₁ B hml hv
  obtain ⟨rfl, hsz, hP, hK, hD0, hbd⟩ := hv
  have hts := atoms_spec (ws := ws_ y cc nL ret) B.pre
  have hts : ∀ w ∈ lw_all, w.before _ s = true := fun w h => hts w (List.mem_cons_of_mem _ h)
  have hown : s.vm.findClass y.cls = some m.cls := findClass_of_methodNamed B.named
  subst hsz
  subst ho
  have hD := hD0.self (sz := s.heap.size)
  have hl := lv_entry av (n := nL) hlen
  rw [lg_entry_eq]
  exact body p e s m _ below meth c (va_A (cf σ) s.heap.size) _ ⟨B.exec, B.bytes, hml, hown, hts⟩ B.returns B.notSynchronized ⟨hK, hP, hD, va_S.rf, fun q h => Or.inr h, hbd⟩ hl
theorem zMv_of {l : Launch} {y : MethodName} {cc : ByteArray} {nL : Nat} {ret : Option FieldType} {rm : Room} {G : va_G} {tys : List (ClassId × FieldType)} {cf : (Nat → Nat → Nat) → va_W} {av : List Value} {σ : Nat → Nat → Nat} {post : (Nat → Nat → Nat) → Prop} {own : String} (hy : plainName y.cls = true) (ho : y.cls = own) (hlen : (lg_sl av).length ≤ nL)
    (body : ∀ (p : Program) (e : Env) (s : State) (m : MethodId) (args : Array Value) (below : List Frame) (meth : Method) (c : Code) (A : Nat → Prop) (ls : Array Slot), zC p m c cc nL s args own → meth.sig.returnType = ret → meth.locks = false → zW G tys cf A s s.heap s.heap [] σ → lv_has ls nL (lv_args 0 av) → W p l e rm s m args below meth c s.heap [] 0 0 (MQ below (zQv G tys cf A post) args s 0 0 A) (F0 m 0 ls [])) : zMv l y cc nL ret rm G tys cf av σ post := by
  intro sz
  refine Met.ofW (cc := cc) (maxL := nL) (ret := ret) hy rfl ?_
  intro p e s m args below meth c s₁ B hml hv
  obtain ⟨rfl, hsz, hP, hK, hD0, hbd⟩ := hv
  have hts := atoms_spec (ws := ws_ y cc nL ret) B.pre
  have hts : ∀ w ∈ lw_all, w.before _ s = true := fun w h => hts w (List.mem_cons_of_mem _ h)
  have hown : s.vm.findClass y.cls = some m.cls := findClass_of_methodNamed B.named
  subst hsz
  subst ho
  have hD := hD0.self (sz := s.heap.size)
  have hl := lv_entry av (n := nL) hlen
  rw [lg_entry_eq]
  exact body p e s m _ below meth c (va_A (cf σ) s.heap.size) _ ⟨B.exec, B.bytes, hml, hown, hts⟩ B.returns B.notSynchronized ⟨hK, hP, hD, va_S.rf, fun q h => Or.inr h, hbd⟩ hl
section ZR
variable {p : Program} {l : Launch} {e : Env} {R : Room} {s : State} {m : MethodId} {args : Array Value} {below : List Frame} {meth : Method} {c : Code} {H : Heap} {locs : List Loc} {cells slots : Nat} {Q : State → Prop}
variable {cc : ByteArray} {pc nL : Nat} {ls : Array Slot} {rest : List Value} {own : String}
variable {G : va_G} {tys : List (ClassId × FieldType)} {cf : (Nat → Nat → Nat) → va_W} {A : Nat → Prop} {H0 : Heap} {σ : Nat → Nat → Nat}
theorem z_iadd (C : zC p m c cc nL s args own) {a b : Nat}  (hd : decode cc pc = .ok (.iadd, 1))
    (kk : W p l e R s m args below meth c H locs cells slots Q (F0 m (pc + 1) ls (.int (nI (a + b)) :: rest))) : W p l e R s m args below meth c H locs cells slots Q (F0 m pc ls (.int (nI b) :: .int (nI a) :: rest)) := lv_iadd C.1 C.2.1 hd (by rw [nI_add]; exact kk)
theorem z_isub (C : zC p m c cc nL s args own) {a b : Nat} (h : b ≤ a) (hd : decode cc pc = .ok (.isub, 1))
    (kk : W p l e R s m args below meth c H locs cells slots Q (F0 m (pc + 1) ls (.int (nI (a - b)) :: rest))) : W p l e R s m args below meth c H locs cells slots Q (F0 m pc ls (.int (nI b) :: .int (nI a) :: rest)) := lv_isub C.1 C.2.1 hd (by rw [pk_sub h]; exact kk)
theorem z_imul (C : zC p m c cc nL s args own) {a b : Nat}  (hd : decode cc pc = .ok (.imul, 1))
    (kk : W p l e R s m args below meth c H locs cells slots Q (F0 m (pc + 1) ls (.int (nI (a * b)) :: rest))) : W p l e R s m args below meth c H locs cells slots Q (F0 m pc ls (.int (nI b) :: .int (nI a) :: rest)) := lv_imul C.1 C.2.1 hd (by rw [pk_mul]; exact kk)
theorem z_irem (C : zC p m c cc nL s args own) {a b : Nat} (ha : a < 2147483648) (h0 : 0 < b) (hb : b < 2147483648) (hd : decode cc pc = .ok (.irem, 1))
    (kk : W p l e R s m args below meth c H locs cells slots Q (F0 m (pc + 1) ls (.int (nI (a % b)) :: rest))) : W p l e R s m args below meth c H locs cells slots Q (F0 m pc ls (.int (nI b) :: .int (nI a) :: rest)) := lv_irem C.1 C.2.1 hd (nI_ne0 h0 hb) (by rw [pk_rem ha h0 hb]; exact kk)
theorem z_idiv (C : zC p m c cc nL s args own) {a b : Nat} (ha : a < 2147483648) (h0 : 0 < b) (hb : b < 2147483648) (hd : decode cc pc = .ok (.idiv, 1))
    (kk : W p l e R s m args below meth c H locs cells slots Q (F0 m (pc + 1) ls (.int (nI (a / b)) :: rest))) : W p l e R s m args below meth c H locs cells slots Q (F0 m pc ls (.int (nI b) :: .int (nI a) :: rest)) := lv_idiv C.1 C.2.1 hd (nI_ne0 h0 hb) (by rw [pk_div ha h0 hb]; exact kk)
theorem z_i2s (C : zC p m c cc nL s args own) {a : Nat} (h : a < 32768) (hd : decode cc pc = .ok (.i2s, 1))
    (kk : W p l e R s m args below meth c H locs cells slots Q (F0 m (pc + 1) ls (.int (nI a) :: rest))) : W p l e R s m args below meth c H locs cells slots Q (F0 m pc ls (.int (nI a) :: rest)) := lv_i2s C.1 C.2.1 hd (zn_s16 h) kk
theorem z_i2b (C : zC p m c cc nL s args own) {a : Nat} (h : a < 128) (hd : decode cc pc = .ok (.i2b, 1))
    (kk : W p l e R s m args below meth c H locs cells slots Q (F0 m (pc + 1) ls (.int (nI a) :: rest))) : W p l e R s m args below meth c H locs cells slots Q (F0 m pc ls (.int (nI a) :: rest)) := lv_i2b C.1 C.2.1 hd (zn_b8 h) kk
theorem z_cmp_eq (C : zC p m c cc nL s args own) {a b : Nat} {off : Int} {tgt : Nat} (hd : decode cc pc = .ok (.if_icmp .eq off, 3)) (ht : (pc : Int) + off = (tgt : Int)) (ha : a < 2147483648) (hb : b < 2147483648)
    (kt : a = b → W p l e R s m args below meth c H locs cells slots Q (F0 m (tgt) ls (rest))) (kf : a ≠ b → W p l e R s m args below meth c H locs cells slots Q (F0 m (pc + 3) ls (rest))) : W p l e R s m args below meth c H locs cells slots Q (F0 m (pc) ls (.int (nI b) :: .int (nI a) :: rest)) := lv_icmp_eq C.1 C.2.1 hd ht (fun h => kt ((nI_eq ha hb).mp h)) (fun h => kf (fun q => h (by rw [q])))
theorem z_cmp_ne (C : zC p m c cc nL s args own) {a b : Nat} {off : Int} {tgt : Nat} (hd : decode cc pc = .ok (.if_icmp .ne off, 3)) (ht : (pc : Int) + off = (tgt : Int)) (ha : a < 2147483648) (hb : b < 2147483648)
    (kt : a ≠ b → W p l e R s m args below meth c H locs cells slots Q (F0 m (tgt) ls (rest))) (kf : a = b → W p l e R s m args below meth c H locs cells slots Q (F0 m (pc + 3) ls (rest))) : W p l e R s m args below meth c H locs cells slots Q (F0 m (pc) ls (.int (nI b) :: .int (nI a) :: rest)) := lv_icmp_ne C.1 C.2.1 hd ht (fun h => kt (fun q => h (by rw [q]))) (fun h => kf ((nI_eq ha hb).mp h))
theorem z_cmp_lt (C : zC p m c cc nL s args own) {a b : Nat} {off : Int} {tgt : Nat} (hd : decode cc pc = .ok (.if_icmp .lt off, 3)) (ht : (pc : Int) + off = (tgt : Int)) (ha : a < 2147483648) (hb : b < 2147483648)
    (kt : a < b → W p l e R s m args below meth c H locs cells slots Q (F0 m (tgt) ls (rest))) (kf : b ≤ a → W p l e R s m args below meth c H locs cells slots Q (F0 m (pc + 3) ls (rest))) : W p l e R s m args below meth c H locs cells slots Q (F0 m (pc) ls (.int (nI b) :: .int (nI a) :: rest)) := lv_icmp_lt C.1 C.2.1 hd ht (fun h => kt ((nI_ltI ha hb).mp h)) (fun h => kf (Nat.not_lt.mp (fun q => h ((nI_ltI ha hb).mpr q))))
theorem z_cmp_ge (C : zC p m c cc nL s args own) {a b : Nat} {off : Int} {tgt : Nat} (hd : decode cc pc = .ok (.if_icmp .ge off, 3)) (ht : (pc : Int) + off = (tgt : Int)) (ha : a < 2147483648) (hb : b < 2147483648)
    (kt : b ≤ a → W p l e R s m args below meth c H locs cells slots Q (F0 m (tgt) ls (rest))) (kf : a < b → W p l e R s m args below meth c H locs cells slots Q (F0 m (pc + 3) ls (rest))) : W p l e R s m args below meth c H locs cells slots Q (F0 m (pc) ls (.int (nI b) :: .int (nI a) :: rest)) := lv_icmp_ge C.1 C.2.1 hd ht (fun h => kt ((nI_leI hb ha).mp h)) (fun h => kf (Nat.not_le.mp (fun q => h ((nI_leI hb ha).mpr q))))
theorem z_cmp_gt (C : zC p m c cc nL s args own) {a b : Nat} {off : Int} {tgt : Nat} (hd : decode cc pc = .ok (.if_icmp .gt off, 3)) (ht : (pc : Int) + off = (tgt : Int)) (ha : a < 2147483648) (hb : b < 2147483648)
    (kt : b < a → W p l e R s m args below meth c H locs cells slots Q (F0 m (tgt) ls (rest))) (kf : a ≤ b → W p l e R s m args below meth c H locs cells slots Q (F0 m (pc + 3) ls (rest))) : W p l e R s m args below meth c H locs cells slots Q (F0 m (pc) ls (.int (nI b) :: .int (nI a) :: rest)) := lv_icmp_gt C.1 C.2.1 hd ht (fun h => kt ((nI_ltI hb ha).mp h)) (fun h => kf (Nat.not_lt.mp (fun q => h ((nI_ltI hb ha).mpr q))))
theorem z_cmp_le (C : zC p m c cc nL s args own) {a b : Nat} {off : Int} {tgt : Nat} (hd : decode cc pc = .ok (.if_icmp .le off, 3)) (ht : (pc : Int) + off = (tgt : Int)) (ha : a < 2147483648) (hb : b < 2147483648)
    (kt : a ≤ b → W p l e R s m args below meth c H locs cells slots Q (F0 m (tgt) ls (rest))) (kf : b < a → W p l e R s m args below meth c H locs cells slots Q (F0 m (pc + 3) ls (rest))) : W p l e R s m args below meth c H locs cells slots Q (F0 m (pc) ls (.int (nI b) :: .int (nI a) :: rest)) := lv_icmp_le C.1 C.2.1 hd ht (fun h => kt ((nI_leI ha hb).mp h)) (fun h => kf (Nat.not_le.mp (fun q => h ((nI_leI ha hb).mpr q))))
theorem z_if_eq (C : zC p m c cc nL s args own) {a : Nat} {off : Int} {tgt : Nat} (hd : decode cc pc = .ok (.ifCond .eq off, 3)) (ht : (pc : Int) + off = (tgt : Int)) (ha : a < 2147483648)
    (kt : a = 0 → W p l e R s m args below meth c H locs cells slots Q (F0 m (tgt) ls (rest))) (kf : a ≠ 0 → W p l e R s m args below meth c H locs cells slots Q (F0 m (pc + 3) ls (rest))) : W p l e R s m args below meth c H locs cells slots Q (F0 m (pc) ls (.int (nI a) :: rest)) := lv_if_eq C.1 C.2.1 hd ht (fun h => kt ((nI_eq (a := a) (b := 0) ha (by decide)).mp h)) (fun h => kf (fun q => h (by rw [q]; rfl)))
theorem z_if_ne (C : zC p m c cc nL s args own) {a : Nat} {off : Int} {tgt : Nat} (hd : decode cc pc = .ok (.ifCond .ne off, 3)) (ht : (pc : Int) + off = (tgt : Int)) (ha : a < 2147483648)
    (kt : a ≠ 0 → W p l e R s m args below meth c H locs cells slots Q (F0 m (tgt) ls (rest))) (kf : a = 0 → W p l e R s m args below meth c H locs cells slots Q (F0 m (pc + 3) ls (rest))) : W p l e R s m args below meth c H locs cells slots Q (F0 m (pc) ls (.int (nI a) :: rest)) := lv_if_ne C.1 C.2.1 hd ht (fun h => kt (fun q => h (by rw [q]; rfl))) (fun h => kf ((nI_eq (a := a) (b := 0) ha (by decide)).mp h))
theorem z_if_gt (C : zC p m c cc nL s args own) {a : Nat} {off : Int} {tgt : Nat} (hd : decode cc pc = .ok (.ifCond .gt off, 3)) (ht : (pc : Int) + off = (tgt : Int)) (ha : a < 2147483648)
    (kt : 0 < a → W p l e R s m args below meth c H locs cells slots Q (F0 m (tgt) ls (rest))) (kf : a = 0 → W p l e R s m args below meth c H locs cells slots Q (F0 m (pc + 3) ls (rest))) : W p l e R s m args below meth c H locs cells slots Q (F0 m (pc) ls (.int (nI a) :: rest)) := lv_if_gt C.1 C.2.1 hd ht (fun h => kt ((nI_ltI (a := 0) (b := a) (by decide) ha).mp h)) (fun h => kf (Nat.eq_zero_of_not_pos (fun q => h ((nI_ltI (a := 0) (b := a) (by decide) ha).mpr q))))
theorem z_if_le (C : zC p m c cc nL s args own) {a : Nat} {off : Int} {tgt : Nat} (hd : decode cc pc = .ok (.ifCond .le off, 3)) (ht : (pc : Int) + off = (tgt : Int)) (ha : a < 2147483648)
    (kt : a = 0 → W p l e R s m args below meth c H locs cells slots Q (F0 m (tgt) ls (rest))) (kf : 0 < a → W p l e R s m args below meth c H locs cells slots Q (F0 m (pc + 3) ls (rest))) : W p l e R s m args below meth c H locs cells slots Q (F0 m (pc) ls (.int (nI a) :: rest)) := lv_if_le C.1 C.2.1 hd ht (fun h => kt (Nat.le_zero.mp ((nI_leI (a := a) (b := 0) ha (by decide)).mp h))) (fun h => kf (Nat.pos_of_ne_zero (fun q => h (by rw [q]; exact Int32.le_refl _))))
theorem z_if_lt (C : zC p m c cc nL s args own) {a : Nat} {off : Int} {tgt : Nat} (hd : decode cc pc = .ok (.ifCond .lt off, 3)) (ht : (pc : Int) + off = (tgt : Int)) (ha : a < 2147483648)
    (kf : W p l e R s m args below meth c H locs cells slots Q (F0 m (pc + 3) ls (rest))) : W p l e R s m args below meth c H locs cells slots Q (F0 m (pc) ls (.int (nI a) :: rest)) := lv_if_lt C.1 C.2.1 hd ht (fun h => absurd h (nI_pos ha)) (fun _ => kf)
theorem z_if_ge (C : zC p m c cc nL s args own) {a : Nat} {off : Int} {tgt : Nat} (hd : decode cc pc = .ok (.ifCond .ge off, 3)) (ht : (pc : Int) + off = (tgt : Int)) (ha : a < 2147483648)
    (kt : W p l e R s m args below meth c H locs cells slots Q (F0 m (tgt) ls (rest))) : W p l e R s m args below meth c H locs cells slots Q (F0 m (pc) ls (.int (nI a) :: rest)) := lv_if_ge C.1 C.2.1 hd ht (fun _ => kt) (fun h => absurd (nI_pos' ha) h)
theorem z_iret (C : zC p m c cc nL s args own) (hr : meth.sig.returnType = some .int) (hlk : meth.locks = false) (w : zW G tys cf A s s.heap H locs σ) {v : Int32} {post : Int32 → (Nat → Nat → Nat) → Prop} (hp : post v σ) (hd : decode cc pc = .ok (.ireturn, 1)) : W p l e R s m args below meth c H locs 0 0 (MQ below (zQi G tys cf A post) args s 0 0 A) (F0 m pc ls [.int v]) :=
  W.iret C.1 C.2.1 hr (fun t ht hW => ⟨⟨v, σ, rfl, hp, by rw [ht]; exact w.2.1, va_K.moved hW.alike w.1, w.2.2.1, w.2.2.2.2.2⟩, w.2.2.2.1.F ht⟩) w.2.2.2.1.2.2 hd hlk
theorem z_zret (C : zC p m c cc nL s args own) (hr : meth.sig.returnType = some .boolean) (hlk : meth.locks = false) (w : zW G tys cf A s s.heap H locs σ) {v : Nat} (hv : v < 2) {post : Int32 → (Nat → Nat → Nat) → Prop} (hp : post (nI v) σ) (hd : decode cc pc = .ok (.ireturn, 1)) : W p l e R s m args below meth c H locs 0 0 (MQ below (zQi G tys cf A post) args s 0 0 A) (F0 m pc ls [.int (nI v)]) :=
  W.zret C.1 C.2.1 hr (zn_z hv) (fun t ht hW => ⟨⟨nI v, σ, rfl, hp, by rw [ht]; exact w.2.1, va_K.moved hW.alike w.1, w.2.2.1, w.2.2.2.2.2⟩, w.2.2.2.1.F ht⟩) w.2.2.2.1.2.2 hd hlk
theorem z_vret (C : zC p m c cc nL s args own) (hr : meth.sig.returnType = none) (hlk : meth.locks = false) (w : zW G tys cf A s s.heap H locs σ) {post : (Nat → Nat → Nat) → Prop} (hp : post σ) (hd : decode cc pc = .ok (.return_, 1)) : W p l e R s m args below meth c H locs 0 0 (MQ below (zQv G tys cf A post) args s 0 0 A) (F0 m pc ls []) :=
  W.vret C.1 C.2.1 hr (fun t ht hW => ⟨⟨σ, rfl, hp, by rw [ht]; exact w.2.1, va_K.moved hW.alike w.1, w.2.2.1, w.2.2.2.2.2⟩, w.2.2.2.1.F ht⟩) w.2.2.2.1.2.2 hd hlk
theorem z_calli (C : zC p m c cc nL s args own) {y : MethodName} {cc' : ByteArray} {nL' index n h0 : Nat} {ret : Option FieldType} {rm : Room} {As st : List Value} {Cn : String} {post : Int32 → (Nat → Nat → Nat) → Prop} (hM : zMi l y cc' nL' ret rm G tys cf (.ref h0 :: As) σ post) (cw : CallW R s args own Cn index y cc' nL' ret (ws_ y cc' nL' ret) rm 0 0 n) (w : zW G tys cf A s H0 H locs σ)
    (hrc : ∃ cell : Cell, H[h0]? = some cell ∧ cell.vm.isStatics = false ∧ s.vm.findClass Cn = some cell.cls) (hn : As.length = n) (hsize : ls.size = nL) (hst : st = As.reverse ++ .ref h0 :: rest) (hroom : (rest.map fun v => v.category).sum ≤ 8) (hd : decode cc pc = .ok (.invokevirtual index, 3)) (hf : cells ≤ R.cells ∧ slots ≤ R.slots)
    (kk : ∀ (r : Int32) (σ' : Nat → Nat → Nat) (H1 : Heap) (locs1 : List Loc), post r σ' → zW G tys cf A s H0 H1 locs1 σ' → W p l e R s m args below meth c H1 locs1 cells slots Q (F0 m (pc + 3) ls (.int r :: rest))) : W p l e R s m args below meth c H locs cells slots Q (F0 m (pc) ls (st)) := by
  obtain ⟨hK, hP, hD, hS, hA, hbd⟩ := w
  have hF : ∀ q, va_A (cf σ) H.size q → A q := by
    intro q h
    rcases h with ⟨k, e, h⟩ | h
    · exact hD.2 k (q, e) h
    · exact hA q (Nat.le_trans hS.1 h)
  refine va_calli (va_runV (As := As) (rest := rest) C (hM H.size) cw ⟨fun a U g mk q => ?_, hrc, fun U hU hW => ⟨rfl, by rw [hU], by rw [hU]; exact hP, va_K.moved hW.alike hK, hD.weaken (fun _ _ _ _ => trivial), hbd⟩⟩ rfl hn hsize hst (lv_room hroom) hd hf) hS (fun q _ h => hF q h) hF ?_
  · obtain ⟨q0, q1, qP, qK, qD, qb⟩ := q
    exact ⟨q0, q1, qP, va_K.moved (u := U) (U := U.calling g mk a) (Vm.Alike.refl U.vm) qK, qD, qb⟩
  · intro r u t H1 locs1 ht hvm hp hB hz1 hk1 hS1
    obtain ⟨b1, b2, b3, b4⟩ := hB
    exact kk r u H1 locs1 hp ⟨hK, by rw [← ht]; exact b1, b3.weaken (fun k q _ h => hF q.1 h), hS1, hA, b4⟩
theorem z_callv (C : zC p m c cc nL s args own) {y : MethodName} {cc' : ByteArray} {nL' index n h0 : Nat} {ret : Option FieldType} {rm : Room} {As st : List Value} {Cn : String} {post : (Nat → Nat → Nat) → Prop} (hM : zMv l y cc' nL' ret rm G tys cf (.ref h0 :: As) σ post) (cw : CallW R s args own Cn index y cc' nL' ret (ws_ y cc' nL' ret) rm 0 0 n) (w : zW G tys cf A s H0 H locs σ)
    (hrc : ∃ cell : Cell, H[h0]? = some cell ∧ cell.vm.isStatics = false ∧ s.vm.findClass Cn = some cell.cls) (hn : As.length = n) (hsize : ls.size = nL) (hst : st = As.reverse ++ .ref h0 :: rest) (hroom : (rest.map fun v => v.category).sum ≤ 8) (hd : decode cc pc = .ok (.invokevirtual index, 3)) (hf : cells ≤ R.cells ∧ slots ≤ R.slots)
    (kk : ∀ (σ' : Nat → Nat → Nat) (H1 : Heap) (locs1 : List Loc), post σ' → zW G tys cf A s H0 H1 locs1 σ' → W p l e R s m args below meth c H1 locs1 cells slots Q (F0 m (pc + 3) ls (rest))) : W p l e R s m args below meth c H locs cells slots Q (F0 m (pc) ls (st)) := by
  obtain ⟨hK, hP, hD, hS, hA, hbd⟩ := w
  have hF : ∀ q, va_A (cf σ) H.size q → A q := by
    intro q h
    rcases h with ⟨k, e, h⟩ | h
    · exact hD.2 k (q, e) h
    · exact hA q (Nat.le_trans hS.1 h)
  refine va_callv (va_runV (As := As) (rest := rest) C (hM H.size) cw ⟨fun a U g mk q => ?_, hrc, fun U hU hW => ⟨rfl, by rw [hU], by rw [hU]; exact hP, va_K.moved hW.alike hK, hD.weaken (fun _ _ _ _ => trivial), hbd⟩⟩ rfl hn hsize hst (lv_room hroom) hd hf) hS (fun q _ h => hF q h) hF ?_
  · obtain ⟨q0, q1, qP, qK, qD, qb⟩ := q
    exact ⟨q0, q1, qP, va_K.moved (u := U) (U := U.calling g mk a) (Vm.Alike.refl U.vm) qK, qD, qb⟩
  · intro u t H1 locs1 ht hvm hp hB hz1 hk1 hS1
    obtain ⟨b1, b2, b3, b4⟩ := hB
    exact kk u H1 locs1 hp ⟨hK, by rw [← ht]; exact b1, b3.weaken (fun k q _ h => hF q.1 h), hS1, hA, b4⟩
end ZR
def clC (h0 : Nat) (r : Nat → Nat) (d : Nat → ClassId) (σ : Nat → Nat → Nat) : va_W := [(h0, .inr (0, [.int (nI (σ 0 0)), .int (nI (σ 1 0)), .ref (r 2), .int (nI (σ 3 0)), .int (nI (σ 4 0)), .ref (r 5), .ref (r 6), .ref (r 7), .ref (r 8), .ref (r 9), .ref (r 10), .ref (r 11), .ref (r 12), .ref (r 13), .ref (r 14), .ref (r 15), .ref (r 16), .int (nI (σ 17 0)), .int (nI (σ 18 0))])), (r 2, .inl (d 2, 12, .inl (fun j => nI (σ 2 j)))), (r 5, .inl (d 5, 145, .inl (fun j => nI (σ 5 j)))), (r 6, .inl (d 6, 145, .inl (fun j => nI (σ 6 j)))), (r 7, .inl (d 7, 145, .inl (fun j => nI (σ 7 j)))), (r 8, .inl (d 8, 145, .inl (fun j => nI (σ 8 j)))), (r 9, .inl (d 9, 13, .inl (fun j => nI (σ 9 j)))), (r 10, .inl (d 10, 145, .inl (fun j => nI (σ 10 j)))), (r 11, .inl (d 11, 145, .inl (fun j => nI (σ 11 j)))), (r 12, .inl (d 12, 145, .inl (fun j => nI (σ 12 j)))), (r 13, .inl (d 13, 145, .inl (fun j => nI (σ 13 j)))), (r 14, .inl (d 14, 145, .inl (fun j => nI (σ 14 j)))), (r 15, .inl (d 15, 145, .inl (fun j => nI (σ 15 j)))), (r 16, .inl (d 16, 145, .inl (fun j => nI (σ 16 j))))]
def clT (d : Nat → ClassId) : List (ClassId × FieldType) := [(d 2, .int), (d 5, .byte), (d 6, .byte), (d 7, .boolean), (d 8, .short), (d 9, .short), (d 10, .short), (d 11, .byte), (d 12, .short), (d 13, .short), (d 14, .short), (d 15, .short), (d 16, .short)]
abbrev clW (G : va_G) (h0 : Nat) (r : Nat → Nat) (d : Nat → ClassId) (A : Nat → Prop) (st : State) (H0 H : Heap) (locs : List Loc) (σ : Nat → Nat → Nat) : Prop := zW G (clT d) (clC h0 r d) A st H0 H locs σ
section Zcl
variable {p : Program} {l : Launch} {e : Env} {R : Room} {s : State} {m : MethodId} {args : Array Value} {below : List Frame} {meth : Method} {c : Code} {H : Heap} {locs : List Loc} {cells slots : Nat} {Q : State → Prop}
variable {cc : ByteArray} {pc nL : Nat} {ls : Array Slot} {rest : List Value}
variable {G : va_G} {A : Nat → Prop} {H0 : Heap} {σ : Nat → Nat → Nat} {h0 : Nat} {r : Nat → Nat} {d : Nat → ClassId}
theorem cl_rc (w : clW G h0 r d A s H0 H locs σ) : ∃ cell : Cell, H[h0]? = some cell ∧ cell.vm.isStatics = false ∧ s.vm.findClass RX1 = some cell.cls := va_recv w.1 w.2.1 (ci := 0) (q0 := 0) rfl rfl
theorem cl_g0 (C : zC p m c cc nL s args RX1) (w : clW G h0 r d A s H0 H locs σ) (hd : decode cc pc = .ok (.getfield 52, 3)) (kk : W p l e R s m args below meth c H locs cells slots Q (F0 m (pc + 3) ls (.int (nI (σ 0 0)) :: rest))) : W p l e R s m args below meth c H locs cells slots Q (F0 m pc ls (.ref h0 :: rest)) :=
  va_get (D := G) (ci := 0) (v := .int (nI (σ 0 0))) (C := RX1) (T := TX1) (N := 19) C.1 C.2.1 C.2.2.2.2 in_X1 C.2.2.2.1 w.1 w.2.1 0 rfl rfl 0 (by decide) (C.2.2.2.2 _ q37) (fun _ h9 => h9) rfl hd kk
theorem cl_p0 (C : zC p m c cc nL s args RX1) (w : clW G h0 r d A s H0 H locs σ) {v : Nat} (hv : v < 32768) (hd : decode cc pc = .ok (.putfield 52, 3)) (kk : ∀ (H1 : Heap) (locs1 : List Loc), clW G h0 r d A s H0 H1 locs1 (up σ 0 0 v) → W p l e R s m args below meth c H1 locs1 cells slots Q (F0 m (pc + 3) ls rest)) : W p l e R s m args below meth c H locs cells slots Q (F0 m pc ls (.int (nI v) :: .ref h0 :: rest)) :=
  va_put (D := G) (ci := 0) (v := .int (nI v)) (ty := .int) (C := RX1) (T := TX1) (N := 19) C.1 C.2.1 C.2.2.2.2 in_X1 tyX1 tyX1_ok nmX1 C.2.2.2.1 w.1 w.2.1 w.2.2.1 w.2.2.2.1 0 rfl rfl 0 (by decide) (C.2.2.2.2 _ q37) (fun _ h9 => h9) rfl (by decide +kernel) rfl rfl (Nat.le_of_ble_eq_true rfl) hd (fun H1 locs1 hP hD hS => kk H1 locs1 ⟨w.1, hP, hD, hS, w.2.2.2.2.1, zn_bd w.2.2.2.2.2 (by omega)⟩)
theorem cl_g1 (C : zC p m c cc nL s args RX1) (w : clW G h0 r d A s H0 H locs σ) (hd : decode cc pc = .ok (.getfield 56, 3)) (kk : W p l e R s m args below meth c H locs cells slots Q (F0 m (pc + 3) ls (.int (nI (σ 1 0)) :: rest))) : W p l e R s m args below meth c H locs cells slots Q (F0 m pc ls (.ref h0 :: rest)) :=
  va_get (D := G) (ci := 0) (v := .int (nI (σ 1 0))) (C := RX1) (T := TX1) (N := 19) C.1 C.2.1 C.2.2.2.2 in_X1 C.2.2.2.1 w.1 w.2.1 0 rfl rfl 1 (by decide) (C.2.2.2.2 _ q38) (fun _ h9 => h9) rfl hd kk
theorem cl_p1 (C : zC p m c cc nL s args RX1) (w : clW G h0 r d A s H0 H locs σ) {v : Nat} (hv : v < 32768) (hd : decode cc pc = .ok (.putfield 56, 3)) (kk : ∀ (H1 : Heap) (locs1 : List Loc), clW G h0 r d A s H0 H1 locs1 (up σ 1 0 v) → W p l e R s m args below meth c H1 locs1 cells slots Q (F0 m (pc + 3) ls rest)) : W p l e R s m args below meth c H locs cells slots Q (F0 m pc ls (.int (nI v) :: .ref h0 :: rest)) :=
  va_put (D := G) (ci := 0) (v := .int (nI v)) (ty := .int) (C := RX1) (T := TX1) (N := 19) C.1 C.2.1 C.2.2.2.2 in_X1 tyX1 tyX1_ok nmX1 C.2.2.2.1 w.1 w.2.1 w.2.2.1 w.2.2.2.1 0 rfl rfl 1 (by decide) (C.2.2.2.2 _ q38) (fun _ h9 => h9) rfl (by decide +kernel) rfl rfl (Nat.le_of_ble_eq_true rfl) hd (fun H1 locs1 hP hD hS => kk H1 locs1 ⟨w.1, hP, hD, hS, w.2.2.2.2.1, zn_bd w.2.2.2.2.2 (by omega)⟩)
theorem cl_g2 (C : zC p m c cc nL s args RX1) (w : clW G h0 r d A s H0 H locs σ) (hd : decode cc pc = .ok (.getfield 7, 3)) (kk : W p l e R s m args below meth c H locs cells slots Q (F0 m (pc + 3) ls (.ref (r 2) :: rest))) : W p l e R s m args below meth c H locs cells slots Q (F0 m pc ls (.ref h0 :: rest)) :=
  va_get (D := G) (ci := 0) (v := .ref (r 2)) (C := RX1) (T := TX1) (N := 19) C.1 C.2.1 C.2.2.2.2 in_X1 C.2.2.2.1 w.1 w.2.1 0 rfl rfl 2 (by decide) (C.2.2.2.2 _ q39) (fun _ h9 => h9) rfl hd kk
theorem cl_l2 (C : zC p m c cc nL s args RX1) (w : clW G h0 r d A s H0 H locs σ) {j : Nat} (hj : j < 12) (hd : decode cc pc = .ok (.iaload, 1)) (kk : W p l e R s m args below meth c H locs cells slots Q (F0 m (pc + 1) ls (.int (nI (σ 2 j)) :: rest))) : W p l e R s m args below meth c H locs cells slots Q (F0 m pc ls (.int (nI j) :: .ref (r 2) :: rest)) := by
  refine va_iald (f := fun j => nI (σ 2 j)) C.1 C.2.1 w.1 w.2.1 1 0 rfl rfl (vp_in_nI hj (by decide)) hd ?_
  rw [nI_clamp (show j < 2 ^ 31 by omega)]
  exact kk
theorem cl_s2 (C : zC p m c cc nL s args RX1) (w : clW G h0 r d A s H0 H locs σ) {j v : Nat} (hj : j < 12) (hv : v < 32768) (hd : decode cc pc = .ok (.iastore, 1)) (kk : ∀ (H1 : Heap) (locs1 : List Loc), clW G h0 r d A s H0 H1 locs1 (up σ 2 j v) → W p l e R s m args below meth c H1 locs1 cells slots Q (F0 m (pc + 1) ls rest)) : W p l e R s m args below meth c H locs cells slots Q (F0 m pc ls (.int (nI v) :: .int (nI j) :: .ref (r 2) :: rest)) := by
  refine va_iast (f := fun j => nI (σ 2 j)) C.1 C.2.1 w.1 w.2.1 w.2.2.1 w.2.2.2.1 1 0 rfl rfl (vp_in_nI hj (by decide)) hd (fun H1 locs1 hP hD hS => ?_)
  rw [zn_upd 2 (show j < 2147483648 by omega) rfl] at hP hD
  exact kk H1 locs1 ⟨w.1, hP, hD, hS, w.2.2.2.2.1, zn_bd w.2.2.2.2.2 (by omega)⟩
theorem cl_g3 (C : zC p m c cc nL s args RX1) (w : clW G h0 r d A s H0 H locs σ) (hd : decode cc pc = .ok (.getfield 63, 3)) (kk : W p l e R s m args below meth c H locs cells slots Q (F0 m (pc + 3) ls (.int (nI (σ 3 0)) :: rest))) : W p l e R s m args below meth c H locs cells slots Q (F0 m pc ls (.ref h0 :: rest)) :=
  va_get (D := G) (ci := 0) (v := .int (nI (σ 3 0))) (C := RX1) (T := TX1) (N := 19) C.1 C.2.1 C.2.2.2.2 in_X1 C.2.2.2.1 w.1 w.2.1 0 rfl rfl 3 (by decide) (C.2.2.2.2 _ q40) (fun _ h9 => h9) rfl hd kk
theorem cl_p3 (C : zC p m c cc nL s args RX1) (w : clW G h0 r d A s H0 H locs σ) {v : Nat} (hv : v < 2) (hd : decode cc pc = .ok (.putfield 63, 3)) (kk : ∀ (H1 : Heap) (locs1 : List Loc), clW G h0 r d A s H0 H1 locs1 (up σ 3 0 v) → W p l e R s m args below meth c H1 locs1 cells slots Q (F0 m (pc + 3) ls rest)) : W p l e R s m args below meth c H locs cells slots Q (F0 m pc ls (.int (nI v) :: .ref h0 :: rest)) :=
  va_put (D := G) (ci := 0) (v := .int (nI v)) (ty := .boolean) (C := RX1) (T := TX1) (N := 19) C.1 C.2.1 C.2.2.2.2 in_X1 tyX1 tyX1_ok nmX1 C.2.2.2.1 w.1 w.2.1 w.2.2.1 w.2.2.2.1 0 rfl rfl 3 (by decide) (C.2.2.2.2 _ q40) (fun _ h9 => h9) rfl (by decide +kernel) (zn_z hv) (zn_zf hv) (Nat.le_of_ble_eq_true rfl) hd (fun H1 locs1 hP hD hS => kk H1 locs1 ⟨w.1, hP, hD, hS, w.2.2.2.2.1, zn_bd w.2.2.2.2.2 (by omega)⟩)
theorem cl_g4 (C : zC p m c cc nL s args RX1) (w : clW G h0 r d A s H0 H locs σ) (hd : decode cc pc = .ok (.getfield 80, 3)) (kk : W p l e R s m args below meth c H locs cells slots Q (F0 m (pc + 3) ls (.int (nI (σ 4 0)) :: rest))) : W p l e R s m args below meth c H locs cells slots Q (F0 m pc ls (.ref h0 :: rest)) :=
  va_get (D := G) (ci := 0) (v := .int (nI (σ 4 0))) (C := RX1) (T := TX1) (N := 19) C.1 C.2.1 C.2.2.2.2 in_X1 C.2.2.2.1 w.1 w.2.1 0 rfl rfl 4 (by decide) (C.2.2.2.2 _ q41) (fun _ h9 => h9) rfl hd kk
theorem cl_p4 (C : zC p m c cc nL s args RX1) (w : clW G h0 r d A s H0 H locs σ) {v : Nat} (hv : v < 32768) (hd : decode cc pc = .ok (.putfield 80, 3)) (kk : ∀ (H1 : Heap) (locs1 : List Loc), clW G h0 r d A s H0 H1 locs1 (up σ 4 0 v) → W p l e R s m args below meth c H1 locs1 cells slots Q (F0 m (pc + 3) ls rest)) : W p l e R s m args below meth c H locs cells slots Q (F0 m pc ls (.int (nI v) :: .ref h0 :: rest)) :=
  va_put (D := G) (ci := 0) (v := .int (nI v)) (ty := .int) (C := RX1) (T := TX1) (N := 19) C.1 C.2.1 C.2.2.2.2 in_X1 tyX1 tyX1_ok nmX1 C.2.2.2.1 w.1 w.2.1 w.2.2.1 w.2.2.2.1 0 rfl rfl 4 (by decide) (C.2.2.2.2 _ q41) (fun _ h9 => h9) rfl (by decide +kernel) rfl rfl (Nat.le_of_ble_eq_true rfl) hd (fun H1 locs1 hP hD hS => kk H1 locs1 ⟨w.1, hP, hD, hS, w.2.2.2.2.1, zn_bd w.2.2.2.2.2 (by omega)⟩)
theorem cl_g5 (C : zC p m c cc nL s args RX1) (w : clW G h0 r d A s H0 H locs σ) (hd : decode cc pc = .ok (.getfield 13, 3)) (kk : W p l e R s m args below meth c H locs cells slots Q (F0 m (pc + 3) ls (.ref (r 5) :: rest))) : W p l e R s m args below meth c H locs cells slots Q (F0 m pc ls (.ref h0 :: rest)) :=
  va_get (D := G) (ci := 0) (v := .ref (r 5)) (C := RX1) (T := TX1) (N := 19) C.1 C.2.1 C.2.2.2.2 in_X1 C.2.2.2.1 w.1 w.2.1 0 rfl rfl 5 (by decide) (C.2.2.2.2 _ q42) (fun _ h9 => h9) rfl hd kk
theorem cl_l5 (C : zC p m c cc nL s args RX1) (w : clW G h0 r d A s H0 H locs σ) {j : Nat} (hj : j < 145) (hd : decode cc pc = .ok (.baload, 1)) (kk : W p l e R s m args below meth c H locs cells slots Q (F0 m (pc + 1) ls (.int (nI (σ 5 j)) :: rest))) : W p l e R s m args below meth c H locs cells slots Q (F0 m pc ls (.int (nI j) :: .ref (r 5) :: rest)) := by
  refine va_bald (f := fun j => nI (σ 5 j)) C.1 C.2.1 w.1 w.2.1 2 1 rfl rfl (vp_in_nI hj (by decide)) hd ?_
  rw [nI_clamp (show j < 2 ^ 31 by omega)]
  exact kk
theorem cl_s5 (C : zC p m c cc nL s args RX1) (w : clW G h0 r d A s H0 H locs σ) {j v : Nat} (hj : j < 145) (hv : v < 128) (hd : decode cc pc = .ok (.bastore, 1)) (kk : ∀ (H1 : Heap) (locs1 : List Loc), clW G h0 r d A s H0 H1 locs1 (up σ 5 j v) → W p l e R s m args below meth c H1 locs1 cells slots Q (F0 m (pc + 1) ls rest)) : W p l e R s m args below meth c H locs cells slots Q (F0 m pc ls (.int (nI v) :: .int (nI j) :: .ref (r 5) :: rest)) := by
  refine va_bast (f := fun j => nI (σ 5 j)) C.1 C.2.1 w.1 w.2.1 w.2.2.1 w.2.2.2.1 2 1 rfl rfl (vp_in_nI hj (by decide)) hd (fun H1 locs1 hP hD hS => ?_)
  rw [zn_upd 5 (show j < 2147483648 by omega) ((vp_nar_byte _).trans (zn_b8 hv))] at hP hD
  exact kk H1 locs1 ⟨w.1, hP, hD, hS, w.2.2.2.2.1, zn_bd w.2.2.2.2.2 (by omega)⟩
theorem cl_g6 (C : zC p m c cc nL s args RX1) (w : clW G h0 r d A s H0 H locs σ) (hd : decode cc pc = .ok (.getfield 17, 3)) (kk : W p l e R s m args below meth c H locs cells slots Q (F0 m (pc + 3) ls (.ref (r 6) :: rest))) : W p l e R s m args below meth c H locs cells slots Q (F0 m pc ls (.ref h0 :: rest)) :=
  va_get (D := G) (ci := 0) (v := .ref (r 6)) (C := RX1) (T := TX1) (N := 19) C.1 C.2.1 C.2.2.2.2 in_X1 C.2.2.2.1 w.1 w.2.1 0 rfl rfl 6 (by decide) (C.2.2.2.2 _ q43) (fun _ h9 => h9) rfl hd kk
theorem cl_l6 (C : zC p m c cc nL s args RX1) (w : clW G h0 r d A s H0 H locs σ) {j : Nat} (hj : j < 145) (hd : decode cc pc = .ok (.baload, 1)) (kk : W p l e R s m args below meth c H locs cells slots Q (F0 m (pc + 1) ls (.int (nI (σ 6 j)) :: rest))) : W p l e R s m args below meth c H locs cells slots Q (F0 m pc ls (.int (nI j) :: .ref (r 6) :: rest)) := by
  refine va_bald (f := fun j => nI (σ 6 j)) C.1 C.2.1 w.1 w.2.1 3 2 rfl rfl (vp_in_nI hj (by decide)) hd ?_
  rw [nI_clamp (show j < 2 ^ 31 by omega)]
  exact kk
theorem cl_s6 (C : zC p m c cc nL s args RX1) (w : clW G h0 r d A s H0 H locs σ) {j v : Nat} (hj : j < 145) (hv : v < 128) (hd : decode cc pc = .ok (.bastore, 1)) (kk : ∀ (H1 : Heap) (locs1 : List Loc), clW G h0 r d A s H0 H1 locs1 (up σ 6 j v) → W p l e R s m args below meth c H1 locs1 cells slots Q (F0 m (pc + 1) ls rest)) : W p l e R s m args below meth c H locs cells slots Q (F0 m pc ls (.int (nI v) :: .int (nI j) :: .ref (r 6) :: rest)) := by
  refine va_bast (f := fun j => nI (σ 6 j)) C.1 C.2.1 w.1 w.2.1 w.2.2.1 w.2.2.2.1 3 2 rfl rfl (vp_in_nI hj (by decide)) hd (fun H1 locs1 hP hD hS => ?_)
  rw [zn_upd 6 (show j < 2147483648 by omega) ((vp_nar_byte _).trans (zn_b8 hv))] at hP hD
  exact kk H1 locs1 ⟨w.1, hP, hD, hS, w.2.2.2.2.1, zn_bd w.2.2.2.2.2 (by omega)⟩
theorem cl_g7 (C : zC p m c cc nL s args RX1) (w : clW G h0 r d A s H0 H locs σ) (hd : decode cc pc = .ok (.getfield 20, 3)) (kk : W p l e R s m args below meth c H locs cells slots Q (F0 m (pc + 3) ls (.ref (r 7) :: rest))) : W p l e R s m args below meth c H locs cells slots Q (F0 m pc ls (.ref h0 :: rest)) :=
  va_get (D := G) (ci := 0) (v := .ref (r 7)) (C := RX1) (T := TX1) (N := 19) C.1 C.2.1 C.2.2.2.2 in_X1 C.2.2.2.1 w.1 w.2.1 0 rfl rfl 7 (by decide) (C.2.2.2.2 _ q44) (fun _ h9 => h9) rfl hd kk
theorem cl_l7 (C : zC p m c cc nL s args RX1) (w : clW G h0 r d A s H0 H locs σ) {j : Nat} (hj : j < 145) (hd : decode cc pc = .ok (.baload, 1)) (kk : W p l e R s m args below meth c H locs cells slots Q (F0 m (pc + 1) ls (.int (nI (σ 7 j)) :: rest))) : W p l e R s m args below meth c H locs cells slots Q (F0 m pc ls (.int (nI j) :: .ref (r 7) :: rest)) := by
  refine va_zald (f := fun j => nI (σ 7 j)) C.1 C.2.1 w.1 w.2.1 4 3 rfl rfl (vp_in_nI hj (by decide)) hd ?_
  rw [nI_clamp (show j < 2 ^ 31 by omega)]
  exact kk
theorem cl_s7 (C : zC p m c cc nL s args RX1) (w : clW G h0 r d A s H0 H locs σ) {j v : Nat} (hj : j < 145) (hv : v < 2) (hd : decode cc pc = .ok (.bastore, 1)) (kk : ∀ (H1 : Heap) (locs1 : List Loc), clW G h0 r d A s H0 H1 locs1 (up σ 7 j v) → W p l e R s m args below meth c H1 locs1 cells slots Q (F0 m (pc + 1) ls rest)) : W p l e R s m args below meth c H locs cells slots Q (F0 m pc ls (.int (nI v) :: .int (nI j) :: .ref (r 7) :: rest)) := by
  refine va_zast (f := fun j => nI (σ 7 j)) C.1 C.2.1 w.1 w.2.1 w.2.2.1 w.2.2.2.1 4 3 rfl rfl (vp_in_nI hj (by decide)) hd (fun H1 locs1 hP hD hS => ?_)
  rw [zn_upd 7 (show j < 2147483648 by omega) (zn_vz hv)] at hP hD
  exact kk H1 locs1 ⟨w.1, hP, hD, hS, w.2.2.2.2.1, zn_bd w.2.2.2.2.2 (by omega)⟩
theorem cl_g8 (C : zC p m c cc nL s args RX1) (w : clW G h0 r d A s H0 H locs σ) (hd : decode cc pc = .ok (.getfield 24, 3)) (kk : W p l e R s m args below meth c H locs cells slots Q (F0 m (pc + 3) ls (.ref (r 8) :: rest))) : W p l e R s m args below meth c H locs cells slots Q (F0 m pc ls (.ref h0 :: rest)) :=
  va_get (D := G) (ci := 0) (v := .ref (r 8)) (C := RX1) (T := TX1) (N := 19) C.1 C.2.1 C.2.2.2.2 in_X1 C.2.2.2.1 w.1 w.2.1 0 rfl rfl 8 (by decide) (C.2.2.2.2 _ q45) (fun _ h9 => h9) rfl hd kk
theorem cl_l8 (C : zC p m c cc nL s args RX1) (w : clW G h0 r d A s H0 H locs σ) {j : Nat} (hj : j < 145) (hd : decode cc pc = .ok (.saload, 1)) (kk : W p l e R s m args below meth c H locs cells slots Q (F0 m (pc + 1) ls (.int (nI (σ 8 j)) :: rest))) : W p l e R s m args below meth c H locs cells slots Q (F0 m pc ls (.int (nI j) :: .ref (r 8) :: rest)) := by
  refine va_sald (f := fun j => nI (σ 8 j)) C.1 C.2.1 w.1 w.2.1 5 4 rfl rfl (vp_in_nI hj (by decide)) hd ?_
  rw [nI_clamp (show j < 2 ^ 31 by omega)]
  exact kk
theorem cl_s8 (C : zC p m c cc nL s args RX1) (w : clW G h0 r d A s H0 H locs σ) {j v : Nat} (hj : j < 145) (hv : v < 32768) (hd : decode cc pc = .ok (.sastore, 1)) (kk : ∀ (H1 : Heap) (locs1 : List Loc), clW G h0 r d A s H0 H1 locs1 (up σ 8 j v) → W p l e R s m args below meth c H1 locs1 cells slots Q (F0 m (pc + 1) ls rest)) : W p l e R s m args below meth c H locs cells slots Q (F0 m pc ls (.int (nI v) :: .int (nI j) :: .ref (r 8) :: rest)) := by
  refine va_sast (f := fun j => nI (σ 8 j)) C.1 C.2.1 w.1 w.2.1 w.2.2.1 w.2.2.2.1 5 4 rfl rfl (vp_in_nI hj (by decide)) hd (fun H1 locs1 hP hD hS => ?_)
  rw [zn_upd 8 (show j < 2147483648 by omega) ((vp_nar_short _).trans (zn_s16 hv))] at hP hD
  exact kk H1 locs1 ⟨w.1, hP, hD, hS, w.2.2.2.2.1, zn_bd w.2.2.2.2.2 (by omega)⟩
theorem cl_g9 (C : zC p m c cc nL s args RX1) (w : clW G h0 r d A s H0 H locs σ) (hd : decode cc pc = .ok (.getfield 28, 3)) (kk : W p l e R s m args below meth c H locs cells slots Q (F0 m (pc + 3) ls (.ref (r 9) :: rest))) : W p l e R s m args below meth c H locs cells slots Q (F0 m pc ls (.ref h0 :: rest)) :=
  va_get (D := G) (ci := 0) (v := .ref (r 9)) (C := RX1) (T := TX1) (N := 19) C.1 C.2.1 C.2.2.2.2 in_X1 C.2.2.2.1 w.1 w.2.1 0 rfl rfl 9 (by decide) (C.2.2.2.2 _ q46) (fun _ h9 => h9) rfl hd kk
theorem cl_l9 (C : zC p m c cc nL s args RX1) (w : clW G h0 r d A s H0 H locs σ) {j : Nat} (hj : j < 13) (hd : decode cc pc = .ok (.saload, 1)) (kk : W p l e R s m args below meth c H locs cells slots Q (F0 m (pc + 1) ls (.int (nI (σ 9 j)) :: rest))) : W p l e R s m args below meth c H locs cells slots Q (F0 m pc ls (.int (nI j) :: .ref (r 9) :: rest)) := by
  refine va_sald (f := fun j => nI (σ 9 j)) C.1 C.2.1 w.1 w.2.1 6 5 rfl rfl (vp_in_nI hj (by decide)) hd ?_
  rw [nI_clamp (show j < 2 ^ 31 by omega)]
  exact kk
theorem cl_s9 (C : zC p m c cc nL s args RX1) (w : clW G h0 r d A s H0 H locs σ) {j v : Nat} (hj : j < 13) (hv : v < 32768) (hd : decode cc pc = .ok (.sastore, 1)) (kk : ∀ (H1 : Heap) (locs1 : List Loc), clW G h0 r d A s H0 H1 locs1 (up σ 9 j v) → W p l e R s m args below meth c H1 locs1 cells slots Q (F0 m (pc + 1) ls rest)) : W p l e R s m args below meth c H locs cells slots Q (F0 m pc ls (.int (nI v) :: .int (nI j) :: .ref (r 9) :: rest)) := by
  refine va_sast (f := fun j => nI (σ 9 j)) C.1 C.2.1 w.1 w.2.1 w.2.2.1 w.2.2.2.1 6 5 rfl rfl (vp_in_nI hj (by decide)) hd (fun H1 locs1 hP hD hS => ?_)
  rw [zn_upd 9 (show j < 2147483648 by omega) ((vp_nar_short _).trans (zn_s16 hv))] at hP hD
  exact kk H1 locs1 ⟨w.1, hP, hD, hS, w.2.2.2.2.1, zn_bd w.2.2.2.2.2 (by omega)⟩
theorem cl_g10 (C : zC p m c cc nL s args RX1) (w : clW G h0 r d A s H0 H locs σ) (hd : decode cc pc = .ok (.getfield 31, 3)) (kk : W p l e R s m args below meth c H locs cells slots Q (F0 m (pc + 3) ls (.ref (r 10) :: rest))) : W p l e R s m args below meth c H locs cells slots Q (F0 m pc ls (.ref h0 :: rest)) :=
  va_get (D := G) (ci := 0) (v := .ref (r 10)) (C := RX1) (T := TX1) (N := 19) C.1 C.2.1 C.2.2.2.2 in_X1 C.2.2.2.1 w.1 w.2.1 0 rfl rfl 10 (by decide) (C.2.2.2.2 _ q47) (fun _ h9 => h9) rfl hd kk
theorem cl_l10 (C : zC p m c cc nL s args RX1) (w : clW G h0 r d A s H0 H locs σ) {j : Nat} (hj : j < 145) (hd : decode cc pc = .ok (.saload, 1)) (kk : W p l e R s m args below meth c H locs cells slots Q (F0 m (pc + 1) ls (.int (nI (σ 10 j)) :: rest))) : W p l e R s m args below meth c H locs cells slots Q (F0 m pc ls (.int (nI j) :: .ref (r 10) :: rest)) := by
  refine va_sald (f := fun j => nI (σ 10 j)) C.1 C.2.1 w.1 w.2.1 7 6 rfl rfl (vp_in_nI hj (by decide)) hd ?_
  rw [nI_clamp (show j < 2 ^ 31 by omega)]
  exact kk
theorem cl_s10 (C : zC p m c cc nL s args RX1) (w : clW G h0 r d A s H0 H locs σ) {j v : Nat} (hj : j < 145) (hv : v < 32768) (hd : decode cc pc = .ok (.sastore, 1)) (kk : ∀ (H1 : Heap) (locs1 : List Loc), clW G h0 r d A s H0 H1 locs1 (up σ 10 j v) → W p l e R s m args below meth c H1 locs1 cells slots Q (F0 m (pc + 1) ls rest)) : W p l e R s m args below meth c H locs cells slots Q (F0 m pc ls (.int (nI v) :: .int (nI j) :: .ref (r 10) :: rest)) := by
  refine va_sast (f := fun j => nI (σ 10 j)) C.1 C.2.1 w.1 w.2.1 w.2.2.1 w.2.2.2.1 7 6 rfl rfl (vp_in_nI hj (by decide)) hd (fun H1 locs1 hP hD hS => ?_)
  rw [zn_upd 10 (show j < 2147483648 by omega) ((vp_nar_short _).trans (zn_s16 hv))] at hP hD
  exact kk H1 locs1 ⟨w.1, hP, hD, hS, w.2.2.2.2.1, zn_bd w.2.2.2.2.2 (by omega)⟩
theorem cl_g11 (C : zC p m c cc nL s args RX1) (w : clW G h0 r d A s H0 H locs σ) (hd : decode cc pc = .ok (.getfield 34, 3)) (kk : W p l e R s m args below meth c H locs cells slots Q (F0 m (pc + 3) ls (.ref (r 11) :: rest))) : W p l e R s m args below meth c H locs cells slots Q (F0 m pc ls (.ref h0 :: rest)) :=
  va_get (D := G) (ci := 0) (v := .ref (r 11)) (C := RX1) (T := TX1) (N := 19) C.1 C.2.1 C.2.2.2.2 in_X1 C.2.2.2.1 w.1 w.2.1 0 rfl rfl 11 (by decide) (C.2.2.2.2 _ q48) (fun _ h9 => h9) rfl hd kk
theorem cl_l11 (C : zC p m c cc nL s args RX1) (w : clW G h0 r d A s H0 H locs σ) {j : Nat} (hj : j < 145) (hd : decode cc pc = .ok (.baload, 1)) (kk : W p l e R s m args below meth c H locs cells slots Q (F0 m (pc + 1) ls (.int (nI (σ 11 j)) :: rest))) : W p l e R s m args below meth c H locs cells slots Q (F0 m pc ls (.int (nI j) :: .ref (r 11) :: rest)) := by
  refine va_bald (f := fun j => nI (σ 11 j)) C.1 C.2.1 w.1 w.2.1 8 7 rfl rfl (vp_in_nI hj (by decide)) hd ?_
  rw [nI_clamp (show j < 2 ^ 31 by omega)]
  exact kk
theorem cl_s11 (C : zC p m c cc nL s args RX1) (w : clW G h0 r d A s H0 H locs σ) {j v : Nat} (hj : j < 145) (hv : v < 128) (hd : decode cc pc = .ok (.bastore, 1)) (kk : ∀ (H1 : Heap) (locs1 : List Loc), clW G h0 r d A s H0 H1 locs1 (up σ 11 j v) → W p l e R s m args below meth c H1 locs1 cells slots Q (F0 m (pc + 1) ls rest)) : W p l e R s m args below meth c H locs cells slots Q (F0 m pc ls (.int (nI v) :: .int (nI j) :: .ref (r 11) :: rest)) := by
  refine va_bast (f := fun j => nI (σ 11 j)) C.1 C.2.1 w.1 w.2.1 w.2.2.1 w.2.2.2.1 8 7 rfl rfl (vp_in_nI hj (by decide)) hd (fun H1 locs1 hP hD hS => ?_)
  rw [zn_upd 11 (show j < 2147483648 by omega) ((vp_nar_byte _).trans (zn_b8 hv))] at hP hD
  exact kk H1 locs1 ⟨w.1, hP, hD, hS, w.2.2.2.2.1, zn_bd w.2.2.2.2.2 (by omega)⟩
theorem cl_g12 (C : zC p m c cc nL s args RX1) (w : clW G h0 r d A s H0 H locs σ) (hd : decode cc pc = .ok (.getfield 37, 3)) (kk : W p l e R s m args below meth c H locs cells slots Q (F0 m (pc + 3) ls (.ref (r 12) :: rest))) : W p l e R s m args below meth c H locs cells slots Q (F0 m pc ls (.ref h0 :: rest)) :=
  va_get (D := G) (ci := 0) (v := .ref (r 12)) (C := RX1) (T := TX1) (N := 19) C.1 C.2.1 C.2.2.2.2 in_X1 C.2.2.2.1 w.1 w.2.1 0 rfl rfl 12 (by decide) (C.2.2.2.2 _ q49) (fun _ h9 => h9) rfl hd kk
theorem cl_l12 (C : zC p m c cc nL s args RX1) (w : clW G h0 r d A s H0 H locs σ) {j : Nat} (hj : j < 145) (hd : decode cc pc = .ok (.saload, 1)) (kk : W p l e R s m args below meth c H locs cells slots Q (F0 m (pc + 1) ls (.int (nI (σ 12 j)) :: rest))) : W p l e R s m args below meth c H locs cells slots Q (F0 m pc ls (.int (nI j) :: .ref (r 12) :: rest)) := by
  refine va_sald (f := fun j => nI (σ 12 j)) C.1 C.2.1 w.1 w.2.1 9 8 rfl rfl (vp_in_nI hj (by decide)) hd ?_
  rw [nI_clamp (show j < 2 ^ 31 by omega)]
  exact kk
theorem cl_s12 (C : zC p m c cc nL s args RX1) (w : clW G h0 r d A s H0 H locs σ) {j v : Nat} (hj : j < 145) (hv : v < 32768) (hd : decode cc pc = .ok (.sastore, 1)) (kk : ∀ (H1 : Heap) (locs1 : List Loc), clW G h0 r d A s H0 H1 locs1 (up σ 12 j v) → W p l e R s m args below meth c H1 locs1 cells slots Q (F0 m (pc + 1) ls rest)) : W p l e R s m args below meth c H locs cells slots Q (F0 m pc ls (.int (nI v) :: .int (nI j) :: .ref (r 12) :: rest)) := by
  refine va_sast (f := fun j => nI (σ 12 j)) C.1 C.2.1 w.1 w.2.1 w.2.2.1 w.2.2.2.1 9 8 rfl rfl (vp_in_nI hj (by decide)) hd (fun H1 locs1 hP hD hS => ?_)
  rw [zn_upd 12 (show j < 2147483648 by omega) ((vp_nar_short _).trans (zn_s16 hv))] at hP hD
  exact kk H1 locs1 ⟨w.1, hP, hD, hS, w.2.2.2.2.1, zn_bd w.2.2.2.2.2 (by omega)⟩
theorem cl_g13 (C : zC p m c cc nL s args RX1) (w : clW G h0 r d A s H0 H locs σ) (hd : decode cc pc = .ok (.getfield 40, 3)) (kk : W p l e R s m args below meth c H locs cells slots Q (F0 m (pc + 3) ls (.ref (r 13) :: rest))) : W p l e R s m args below meth c H locs cells slots Q (F0 m pc ls (.ref h0 :: rest)) :=
  va_get (D := G) (ci := 0) (v := .ref (r 13)) (C := RX1) (T := TX1) (N := 19) C.1 C.2.1 C.2.2.2.2 in_X1 C.2.2.2.1 w.1 w.2.1 0 rfl rfl 13 (by decide) (C.2.2.2.2 _ q50) (fun _ h9 => h9) rfl hd kk
theorem cl_l13 (C : zC p m c cc nL s args RX1) (w : clW G h0 r d A s H0 H locs σ) {j : Nat} (hj : j < 145) (hd : decode cc pc = .ok (.saload, 1)) (kk : W p l e R s m args below meth c H locs cells slots Q (F0 m (pc + 1) ls (.int (nI (σ 13 j)) :: rest))) : W p l e R s m args below meth c H locs cells slots Q (F0 m pc ls (.int (nI j) :: .ref (r 13) :: rest)) := by
  refine va_sald (f := fun j => nI (σ 13 j)) C.1 C.2.1 w.1 w.2.1 10 9 rfl rfl (vp_in_nI hj (by decide)) hd ?_
  rw [nI_clamp (show j < 2 ^ 31 by omega)]
  exact kk
theorem cl_s13 (C : zC p m c cc nL s args RX1) (w : clW G h0 r d A s H0 H locs σ) {j v : Nat} (hj : j < 145) (hv : v < 32768) (hd : decode cc pc = .ok (.sastore, 1)) (kk : ∀ (H1 : Heap) (locs1 : List Loc), clW G h0 r d A s H0 H1 locs1 (up σ 13 j v) → W p l e R s m args below meth c H1 locs1 cells slots Q (F0 m (pc + 1) ls rest)) : W p l e R s m args below meth c H locs cells slots Q (F0 m pc ls (.int (nI v) :: .int (nI j) :: .ref (r 13) :: rest)) := by
  refine va_sast (f := fun j => nI (σ 13 j)) C.1 C.2.1 w.1 w.2.1 w.2.2.1 w.2.2.2.1 10 9 rfl rfl (vp_in_nI hj (by decide)) hd (fun H1 locs1 hP hD hS => ?_)
  rw [zn_upd 13 (show j < 2147483648 by omega) ((vp_nar_short _).trans (zn_s16 hv))] at hP hD
  exact kk H1 locs1 ⟨w.1, hP, hD, hS, w.2.2.2.2.1, zn_bd w.2.2.2.2.2 (by omega)⟩
theorem cl_g14 (C : zC p m c cc nL s args RX1) (w : clW G h0 r d A s H0 H locs σ) (hd : decode cc pc = .ok (.getfield 43, 3)) (kk : W p l e R s m args below meth c H locs cells slots Q (F0 m (pc + 3) ls (.ref (r 14) :: rest))) : W p l e R s m args below meth c H locs cells slots Q (F0 m pc ls (.ref h0 :: rest)) :=
  va_get (D := G) (ci := 0) (v := .ref (r 14)) (C := RX1) (T := TX1) (N := 19) C.1 C.2.1 C.2.2.2.2 in_X1 C.2.2.2.1 w.1 w.2.1 0 rfl rfl 14 (by decide) (C.2.2.2.2 _ q51) (fun _ h9 => h9) rfl hd kk
theorem cl_l14 (C : zC p m c cc nL s args RX1) (w : clW G h0 r d A s H0 H locs σ) {j : Nat} (hj : j < 145) (hd : decode cc pc = .ok (.saload, 1)) (kk : W p l e R s m args below meth c H locs cells slots Q (F0 m (pc + 1) ls (.int (nI (σ 14 j)) :: rest))) : W p l e R s m args below meth c H locs cells slots Q (F0 m pc ls (.int (nI j) :: .ref (r 14) :: rest)) := by
  refine va_sald (f := fun j => nI (σ 14 j)) C.1 C.2.1 w.1 w.2.1 11 10 rfl rfl (vp_in_nI hj (by decide)) hd ?_
  rw [nI_clamp (show j < 2 ^ 31 by omega)]
  exact kk
theorem cl_s14 (C : zC p m c cc nL s args RX1) (w : clW G h0 r d A s H0 H locs σ) {j v : Nat} (hj : j < 145) (hv : v < 32768) (hd : decode cc pc = .ok (.sastore, 1)) (kk : ∀ (H1 : Heap) (locs1 : List Loc), clW G h0 r d A s H0 H1 locs1 (up σ 14 j v) → W p l e R s m args below meth c H1 locs1 cells slots Q (F0 m (pc + 1) ls rest)) : W p l e R s m args below meth c H locs cells slots Q (F0 m pc ls (.int (nI v) :: .int (nI j) :: .ref (r 14) :: rest)) := by
  refine va_sast (f := fun j => nI (σ 14 j)) C.1 C.2.1 w.1 w.2.1 w.2.2.1 w.2.2.2.1 11 10 rfl rfl (vp_in_nI hj (by decide)) hd (fun H1 locs1 hP hD hS => ?_)
  rw [zn_upd 14 (show j < 2147483648 by omega) ((vp_nar_short _).trans (zn_s16 hv))] at hP hD
  exact kk H1 locs1 ⟨w.1, hP, hD, hS, w.2.2.2.2.1, zn_bd w.2.2.2.2.2 (by omega)⟩
theorem cl_g15 (C : zC p m c cc nL s args RX1) (w : clW G h0 r d A s H0 H locs σ) (hd : decode cc pc = .ok (.getfield 46, 3)) (kk : W p l e R s m args below meth c H locs cells slots Q (F0 m (pc + 3) ls (.ref (r 15) :: rest))) : W p l e R s m args below meth c H locs cells slots Q (F0 m pc ls (.ref h0 :: rest)) :=
  va_get (D := G) (ci := 0) (v := .ref (r 15)) (C := RX1) (T := TX1) (N := 19) C.1 C.2.1 C.2.2.2.2 in_X1 C.2.2.2.1 w.1 w.2.1 0 rfl rfl 15 (by decide) (C.2.2.2.2 _ q52) (fun _ h9 => h9) rfl hd kk
theorem cl_l15 (C : zC p m c cc nL s args RX1) (w : clW G h0 r d A s H0 H locs σ) {j : Nat} (hj : j < 145) (hd : decode cc pc = .ok (.saload, 1)) (kk : W p l e R s m args below meth c H locs cells slots Q (F0 m (pc + 1) ls (.int (nI (σ 15 j)) :: rest))) : W p l e R s m args below meth c H locs cells slots Q (F0 m pc ls (.int (nI j) :: .ref (r 15) :: rest)) := by
  refine va_sald (f := fun j => nI (σ 15 j)) C.1 C.2.1 w.1 w.2.1 12 11 rfl rfl (vp_in_nI hj (by decide)) hd ?_
  rw [nI_clamp (show j < 2 ^ 31 by omega)]
  exact kk
theorem cl_s15 (C : zC p m c cc nL s args RX1) (w : clW G h0 r d A s H0 H locs σ) {j v : Nat} (hj : j < 145) (hv : v < 32768) (hd : decode cc pc = .ok (.sastore, 1)) (kk : ∀ (H1 : Heap) (locs1 : List Loc), clW G h0 r d A s H0 H1 locs1 (up σ 15 j v) → W p l e R s m args below meth c H1 locs1 cells slots Q (F0 m (pc + 1) ls rest)) : W p l e R s m args below meth c H locs cells slots Q (F0 m pc ls (.int (nI v) :: .int (nI j) :: .ref (r 15) :: rest)) := by
  refine va_sast (f := fun j => nI (σ 15 j)) C.1 C.2.1 w.1 w.2.1 w.2.2.1 w.2.2.2.1 12 11 rfl rfl (vp_in_nI hj (by decide)) hd (fun H1 locs1 hP hD hS => ?_)
  rw [zn_upd 15 (show j < 2147483648 by omega) ((vp_nar_short _).trans (zn_s16 hv))] at hP hD
  exact kk H1 locs1 ⟨w.1, hP, hD, hS, w.2.2.2.2.1, zn_bd w.2.2.2.2.2 (by omega)⟩
theorem cl_g16 (C : zC p m c cc nL s args RX1) (w : clW G h0 r d A s H0 H locs σ) (hd : decode cc pc = .ok (.getfield 49, 3)) (kk : W p l e R s m args below meth c H locs cells slots Q (F0 m (pc + 3) ls (.ref (r 16) :: rest))) : W p l e R s m args below meth c H locs cells slots Q (F0 m pc ls (.ref h0 :: rest)) :=
  va_get (D := G) (ci := 0) (v := .ref (r 16)) (C := RX1) (T := TX1) (N := 19) C.1 C.2.1 C.2.2.2.2 in_X1 C.2.2.2.1 w.1 w.2.1 0 rfl rfl 16 (by decide) (C.2.2.2.2 _ q53) (fun _ h9 => h9) rfl hd kk
theorem cl_l16 (C : zC p m c cc nL s args RX1) (w : clW G h0 r d A s H0 H locs σ) {j : Nat} (hj : j < 145) (hd : decode cc pc = .ok (.saload, 1)) (kk : W p l e R s m args below meth c H locs cells slots Q (F0 m (pc + 1) ls (.int (nI (σ 16 j)) :: rest))) : W p l e R s m args below meth c H locs cells slots Q (F0 m pc ls (.int (nI j) :: .ref (r 16) :: rest)) := by
  refine va_sald (f := fun j => nI (σ 16 j)) C.1 C.2.1 w.1 w.2.1 13 12 rfl rfl (vp_in_nI hj (by decide)) hd ?_
  rw [nI_clamp (show j < 2 ^ 31 by omega)]
  exact kk
theorem cl_s16 (C : zC p m c cc nL s args RX1) (w : clW G h0 r d A s H0 H locs σ) {j v : Nat} (hj : j < 145) (hv : v < 32768) (hd : decode cc pc = .ok (.sastore, 1)) (kk : ∀ (H1 : Heap) (locs1 : List Loc), clW G h0 r d A s H0 H1 locs1 (up σ 16 j v) → W p l e R s m args below meth c H1 locs1 cells slots Q (F0 m (pc + 1) ls rest)) : W p l e R s m args below meth c H locs cells slots Q (F0 m pc ls (.int (nI v) :: .int (nI j) :: .ref (r 16) :: rest)) := by
  refine va_sast (f := fun j => nI (σ 16 j)) C.1 C.2.1 w.1 w.2.1 w.2.2.1 w.2.2.2.1 13 12 rfl rfl (vp_in_nI hj (by decide)) hd (fun H1 locs1 hP hD hS => ?_)
  rw [zn_upd 16 (show j < 2147483648 by omega) ((vp_nar_short _).trans (zn_s16 hv))] at hP hD
  exact kk H1 locs1 ⟨w.1, hP, hD, hS, w.2.2.2.2.1, zn_bd w.2.2.2.2.2 (by omega)⟩
theorem cl_g17 (C : zC p m c cc nL s args RX1) (w : clW G h0 r d A s H0 H locs σ) (hd : decode cc pc = .ok (.getfield 70, 3)) (kk : W p l e R s m args below meth c H locs cells slots Q (F0 m (pc + 3) ls (.int (nI (σ 17 0)) :: rest))) : W p l e R s m args below meth c H locs cells slots Q (F0 m pc ls (.ref h0 :: rest)) :=
  va_get (D := G) (ci := 0) (v := .int (nI (σ 17 0))) (C := RX1) (T := TX1) (N := 19) C.1 C.2.1 C.2.2.2.2 in_X1 C.2.2.2.1 w.1 w.2.1 0 rfl rfl 17 (by decide) (C.2.2.2.2 _ q54) (fun _ h9 => h9) rfl hd kk
theorem cl_p17 (C : zC p m c cc nL s args RX1) (w : clW G h0 r d A s H0 H locs σ) {v : Nat} (hv : v < 32768) (hd : decode cc pc = .ok (.putfield 70, 3)) (kk : ∀ (H1 : Heap) (locs1 : List Loc), clW G h0 r d A s H0 H1 locs1 (up σ 17 0 v) → W p l e R s m args below meth c H1 locs1 cells slots Q (F0 m (pc + 3) ls rest)) : W p l e R s m args below meth c H locs cells slots Q (F0 m pc ls (.int (nI v) :: .ref h0 :: rest)) :=
  va_put (D := G) (ci := 0) (v := .int (nI v)) (ty := .int) (C := RX1) (T := TX1) (N := 19) C.1 C.2.1 C.2.2.2.2 in_X1 tyX1 tyX1_ok nmX1 C.2.2.2.1 w.1 w.2.1 w.2.2.1 w.2.2.2.1 0 rfl rfl 17 (by decide) (C.2.2.2.2 _ q54) (fun _ h9 => h9) rfl (by decide +kernel) rfl rfl (Nat.le_of_ble_eq_true rfl) hd (fun H1 locs1 hP hD hS => kk H1 locs1 ⟨w.1, hP, hD, hS, w.2.2.2.2.1, zn_bd w.2.2.2.2.2 (by omega)⟩)
theorem cl_g18 (C : zC p m c cc nL s args RX1) (w : clW G h0 r d A s H0 H locs σ) (hd : decode cc pc = .ok (.getfield 73, 3)) (kk : W p l e R s m args below meth c H locs cells slots Q (F0 m (pc + 3) ls (.int (nI (σ 18 0)) :: rest))) : W p l e R s m args below meth c H locs cells slots Q (F0 m pc ls (.ref h0 :: rest)) :=
  va_get (D := G) (ci := 0) (v := .int (nI (σ 18 0))) (C := RX1) (T := TX1) (N := 19) C.1 C.2.1 C.2.2.2.2 in_X1 C.2.2.2.1 w.1 w.2.1 0 rfl rfl 18 (by decide) (C.2.2.2.2 _ q55) (fun _ h9 => h9) rfl hd kk
theorem cl_p18 (C : zC p m c cc nL s args RX1) (w : clW G h0 r d A s H0 H locs σ) {v : Nat} (hv : v < 32768) (hd : decode cc pc = .ok (.putfield 73, 3)) (kk : ∀ (H1 : Heap) (locs1 : List Loc), clW G h0 r d A s H0 H1 locs1 (up σ 18 0 v) → W p l e R s m args below meth c H1 locs1 cells slots Q (F0 m (pc + 3) ls rest)) : W p l e R s m args below meth c H locs cells slots Q (F0 m pc ls (.int (nI v) :: .ref h0 :: rest)) :=
  va_put (D := G) (ci := 0) (v := .int (nI v)) (ty := .int) (C := RX1) (T := TX1) (N := 19) C.1 C.2.1 C.2.2.2.2 in_X1 tyX1 tyX1_ok nmX1 C.2.2.2.1 w.1 w.2.1 w.2.2.1 w.2.2.2.1 0 rfl rfl 18 (by decide) (C.2.2.2.2 _ q55) (fun _ h9 => h9) rfl (by decide +kernel) rfl rfl (Nat.le_of_ble_eq_true rfl) hd (fun H1 locs1 hP hD hS => kk H1 locs1 ⟨w.1, hP, hD, hS, w.2.2.2.2.1, zn_bd w.2.2.2.2.2 (by omega)⟩)
end Zcl
def mlC (h0 : Nat) (r : Nat → Nat) (d : Nat → ClassId) (σ : Nat → Nat → Nat) : va_W := [(h0, .inr (1, [.int (nI (σ 0 0)), .int (nI (σ 1 0)), .ref (r 2), .ref (r 3), .ref (r 4), .ref (r 5)])), (r 2, .inl (d 2, 196, .inl (fun j => nI (σ 2 j)))), (r 3, .inl (d 3, 196, .inl (fun j => nI (σ 3 j)))), (r 4, .inl (d 4, 196, .inl (fun j => nI (σ 4 j)))), (r 5, .inl (d 5, 196, .inl (fun j => nI (σ 5 j))))]
def mlT (d : Nat → ClassId) : List (ClassId × FieldType) := [(d 2, .boolean), (d 3, .int), (d 4, .int), (d 5, .boolean)]
abbrev mlW (G : va_G) (h0 : Nat) (r : Nat → Nat) (d : Nat → ClassId) (A : Nat → Prop) (st : State) (H0 H : Heap) (locs : List Loc) (σ : Nat → Nat → Nat) : Prop := zW G (mlT d) (mlC h0 r d) A st H0 H locs σ
section Zml
variable {p : Program} {l : Launch} {e : Env} {R : Room} {s : State} {m : MethodId} {args : Array Value} {below : List Frame} {meth : Method} {c : Code} {H : Heap} {locs : List Loc} {cells slots : Nat} {Q : State → Prop}
variable {cc : ByteArray} {pc nL : Nat} {ls : Array Slot} {rest : List Value}
variable {G : va_G} {A : Nat → Prop} {H0 : Heap} {σ : Nat → Nat → Nat} {h0 : Nat} {r : Nat → Nat} {d : Nat → ClassId}
theorem ml_rc (w : mlW G h0 r d A s H0 H locs σ) : ∃ cell : Cell, H[h0]? = some cell ∧ cell.vm.isStatics = false ∧ s.vm.findClass RX2 = some cell.cls := va_recv w.1 w.2.1 (ci := 1) (q0 := 0) rfl rfl
theorem ml_g0 (C : zC p m c cc nL s args RX2) (w : mlW G h0 r d A s H0 H locs σ) (hd : decode cc pc = .ok (.getfield 23, 3)) (kk : W p l e R s m args below meth c H locs cells slots Q (F0 m (pc + 3) ls (.int (nI (σ 0 0)) :: rest))) : W p l e R s m args below meth c H locs cells slots Q (F0 m pc ls (.ref h0 :: rest)) :=
  va_get (D := G) (ci := 1) (v := .int (nI (σ 0 0))) (C := RX2) (T := TX2) (N := 6) C.1 C.2.1 C.2.2.2.2 in_X2 C.2.2.2.1 w.1 w.2.1 0 rfl rfl 0 (by decide) (C.2.2.2.2 _ q196) (fun _ h9 => h9) rfl hd kk
theorem ml_p0 (C : zC p m c cc nL s args RX2) (w : mlW G h0 r d A s H0 H locs σ) {v : Nat} (hv : v < 32768) (hd : decode cc pc = .ok (.putfield 23, 3)) (kk : ∀ (H1 : Heap) (locs1 : List Loc), mlW G h0 r d A s H0 H1 locs1 (up σ 0 0 v) → W p l e R s m args below meth c H1 locs1 cells slots Q (F0 m (pc + 3) ls rest)) : W p l e R s m args below meth c H locs cells slots Q (F0 m pc ls (.int (nI v) :: .ref h0 :: rest)) :=
  va_put (D := G) (ci := 1) (v := .int (nI v)) (ty := .int) (C := RX2) (T := TX2) (N := 6) C.1 C.2.1 C.2.2.2.2 in_X2 tyX2 tyX2_ok nmX2 C.2.2.2.1 w.1 w.2.1 w.2.2.1 w.2.2.2.1 0 rfl rfl 0 (by decide) (C.2.2.2.2 _ q196) (fun _ h9 => h9) rfl (by decide +kernel) rfl rfl (Nat.le_of_ble_eq_true rfl) hd (fun H1 locs1 hP hD hS => kk H1 locs1 ⟨w.1, hP, hD, hS, w.2.2.2.2.1, zn_bd w.2.2.2.2.2 (by omega)⟩)
theorem ml_g1 (C : zC p m c cc nL s args RX2) (w : mlW G h0 r d A s H0 H locs σ) (hd : decode cc pc = .ok (.getfield 27, 3)) (kk : W p l e R s m args below meth c H locs cells slots Q (F0 m (pc + 3) ls (.int (nI (σ 1 0)) :: rest))) : W p l e R s m args below meth c H locs cells slots Q (F0 m pc ls (.ref h0 :: rest)) :=
  va_get (D := G) (ci := 1) (v := .int (nI (σ 1 0))) (C := RX2) (T := TX2) (N := 6) C.1 C.2.1 C.2.2.2.2 in_X2 C.2.2.2.1 w.1 w.2.1 0 rfl rfl 1 (by decide) (C.2.2.2.2 _ q197) (fun _ h9 => h9) rfl hd kk
theorem ml_p1 (C : zC p m c cc nL s args RX2) (w : mlW G h0 r d A s H0 H locs σ) {v : Nat} (hv : v < 32768) (hd : decode cc pc = .ok (.putfield 27, 3)) (kk : ∀ (H1 : Heap) (locs1 : List Loc), mlW G h0 r d A s H0 H1 locs1 (up σ 1 0 v) → W p l e R s m args below meth c H1 locs1 cells slots Q (F0 m (pc + 3) ls rest)) : W p l e R s m args below meth c H locs cells slots Q (F0 m pc ls (.int (nI v) :: .ref h0 :: rest)) :=
  va_put (D := G) (ci := 1) (v := .int (nI v)) (ty := .int) (C := RX2) (T := TX2) (N := 6) C.1 C.2.1 C.2.2.2.2 in_X2 tyX2 tyX2_ok nmX2 C.2.2.2.1 w.1 w.2.1 w.2.2.1 w.2.2.2.1 0 rfl rfl 1 (by decide) (C.2.2.2.2 _ q197) (fun _ h9 => h9) rfl (by decide +kernel) rfl rfl (Nat.le_of_ble_eq_true rfl) hd (fun H1 locs1 hP hD hS => kk H1 locs1 ⟨w.1, hP, hD, hS, w.2.2.2.2.1, zn_bd w.2.2.2.2.2 (by omega)⟩)
theorem ml_g2 (C : zC p m c cc nL s args RX2) (w : mlW G h0 r d A s H0 H locs σ) (hd : decode cc pc = .ok (.getfield 7, 3)) (kk : W p l e R s m args below meth c H locs cells slots Q (F0 m (pc + 3) ls (.ref (r 2) :: rest))) : W p l e R s m args below meth c H locs cells slots Q (F0 m pc ls (.ref h0 :: rest)) :=
  va_get (D := G) (ci := 1) (v := .ref (r 2)) (C := RX2) (T := TX2) (N := 6) C.1 C.2.1 C.2.2.2.2 in_X2 C.2.2.2.1 w.1 w.2.1 0 rfl rfl 2 (by decide) (C.2.2.2.2 _ q198) (fun _ h9 => h9) rfl hd kk
theorem ml_l2 (C : zC p m c cc nL s args RX2) (w : mlW G h0 r d A s H0 H locs σ) {j : Nat} (hj : j < 196) (hd : decode cc pc = .ok (.baload, 1)) (kk : W p l e R s m args below meth c H locs cells slots Q (F0 m (pc + 1) ls (.int (nI (σ 2 j)) :: rest))) : W p l e R s m args below meth c H locs cells slots Q (F0 m pc ls (.int (nI j) :: .ref (r 2) :: rest)) := by
  refine va_zald (f := fun j => nI (σ 2 j)) C.1 C.2.1 w.1 w.2.1 1 0 rfl rfl (vp_in_nI hj (by decide)) hd ?_
  rw [nI_clamp (show j < 2 ^ 31 by omega)]
  exact kk
theorem ml_s2 (C : zC p m c cc nL s args RX2) (w : mlW G h0 r d A s H0 H locs σ) {j v : Nat} (hj : j < 196) (hv : v < 2) (hd : decode cc pc = .ok (.bastore, 1)) (kk : ∀ (H1 : Heap) (locs1 : List Loc), mlW G h0 r d A s H0 H1 locs1 (up σ 2 j v) → W p l e R s m args below meth c H1 locs1 cells slots Q (F0 m (pc + 1) ls rest)) : W p l e R s m args below meth c H locs cells slots Q (F0 m pc ls (.int (nI v) :: .int (nI j) :: .ref (r 2) :: rest)) := by
  refine va_zast (f := fun j => nI (σ 2 j)) C.1 C.2.1 w.1 w.2.1 w.2.2.1 w.2.2.2.1 1 0 rfl rfl (vp_in_nI hj (by decide)) hd (fun H1 locs1 hP hD hS => ?_)
  rw [zn_upd 2 (show j < 2147483648 by omega) (zn_vz hv)] at hP hD
  exact kk H1 locs1 ⟨w.1, hP, hD, hS, w.2.2.2.2.1, zn_bd w.2.2.2.2.2 (by omega)⟩
theorem ml_g3 (C : zC p m c cc nL s args RX2) (w : mlW G h0 r d A s H0 H locs σ) (hd : decode cc pc = .ok (.getfield 13, 3)) (kk : W p l e R s m args below meth c H locs cells slots Q (F0 m (pc + 3) ls (.ref (r 3) :: rest))) : W p l e R s m args below meth c H locs cells slots Q (F0 m pc ls (.ref h0 :: rest)) :=
  va_get (D := G) (ci := 1) (v := .ref (r 3)) (C := RX2) (T := TX2) (N := 6) C.1 C.2.1 C.2.2.2.2 in_X2 C.2.2.2.1 w.1 w.2.1 0 rfl rfl 3 (by decide) (C.2.2.2.2 _ q199) (fun _ h9 => h9) rfl hd kk
theorem ml_l3 (C : zC p m c cc nL s args RX2) (w : mlW G h0 r d A s H0 H locs σ) {j : Nat} (hj : j < 196) (hd : decode cc pc = .ok (.iaload, 1)) (kk : W p l e R s m args below meth c H locs cells slots Q (F0 m (pc + 1) ls (.int (nI (σ 3 j)) :: rest))) : W p l e R s m args below meth c H locs cells slots Q (F0 m pc ls (.int (nI j) :: .ref (r 3) :: rest)) := by
  refine va_iald (f := fun j => nI (σ 3 j)) C.1 C.2.1 w.1 w.2.1 2 1 rfl rfl (vp_in_nI hj (by decide)) hd ?_
  rw [nI_clamp (show j < 2 ^ 31 by omega)]
  exact kk
theorem ml_s3 (C : zC p m c cc nL s args RX2) (w : mlW G h0 r d A s H0 H locs σ) {j v : Nat} (hj : j < 196) (hv : v < 32768) (hd : decode cc pc = .ok (.iastore, 1)) (kk : ∀ (H1 : Heap) (locs1 : List Loc), mlW G h0 r d A s H0 H1 locs1 (up σ 3 j v) → W p l e R s m args below meth c H1 locs1 cells slots Q (F0 m (pc + 1) ls rest)) : W p l e R s m args below meth c H locs cells slots Q (F0 m pc ls (.int (nI v) :: .int (nI j) :: .ref (r 3) :: rest)) := by
  refine va_iast (f := fun j => nI (σ 3 j)) C.1 C.2.1 w.1 w.2.1 w.2.2.1 w.2.2.2.1 2 1 rfl rfl (vp_in_nI hj (by decide)) hd (fun H1 locs1 hP hD hS => ?_)
  rw [zn_upd 3 (show j < 2147483648 by omega) rfl] at hP hD
  exact kk H1 locs1 ⟨w.1, hP, hD, hS, w.2.2.2.2.1, zn_bd w.2.2.2.2.2 (by omega)⟩
theorem ml_g4 (C : zC p m c cc nL s args RX2) (w : mlW G h0 r d A s H0 H locs σ) (hd : decode cc pc = .ok (.getfield 17, 3)) (kk : W p l e R s m args below meth c H locs cells slots Q (F0 m (pc + 3) ls (.ref (r 4) :: rest))) : W p l e R s m args below meth c H locs cells slots Q (F0 m pc ls (.ref h0 :: rest)) :=
  va_get (D := G) (ci := 1) (v := .ref (r 4)) (C := RX2) (T := TX2) (N := 6) C.1 C.2.1 C.2.2.2.2 in_X2 C.2.2.2.1 w.1 w.2.1 0 rfl rfl 4 (by decide) (C.2.2.2.2 _ q200) (fun _ h9 => h9) rfl hd kk
theorem ml_l4 (C : zC p m c cc nL s args RX2) (w : mlW G h0 r d A s H0 H locs σ) {j : Nat} (hj : j < 196) (hd : decode cc pc = .ok (.iaload, 1)) (kk : W p l e R s m args below meth c H locs cells slots Q (F0 m (pc + 1) ls (.int (nI (σ 4 j)) :: rest))) : W p l e R s m args below meth c H locs cells slots Q (F0 m pc ls (.int (nI j) :: .ref (r 4) :: rest)) := by
  refine va_iald (f := fun j => nI (σ 4 j)) C.1 C.2.1 w.1 w.2.1 3 2 rfl rfl (vp_in_nI hj (by decide)) hd ?_
  rw [nI_clamp (show j < 2 ^ 31 by omega)]
  exact kk
theorem ml_s4 (C : zC p m c cc nL s args RX2) (w : mlW G h0 r d A s H0 H locs σ) {j v : Nat} (hj : j < 196) (hv : v < 32768) (hd : decode cc pc = .ok (.iastore, 1)) (kk : ∀ (H1 : Heap) (locs1 : List Loc), mlW G h0 r d A s H0 H1 locs1 (up σ 4 j v) → W p l e R s m args below meth c H1 locs1 cells slots Q (F0 m (pc + 1) ls rest)) : W p l e R s m args below meth c H locs cells slots Q (F0 m pc ls (.int (nI v) :: .int (nI j) :: .ref (r 4) :: rest)) := by
  refine va_iast (f := fun j => nI (σ 4 j)) C.1 C.2.1 w.1 w.2.1 w.2.2.1 w.2.2.2.1 3 2 rfl rfl (vp_in_nI hj (by decide)) hd (fun H1 locs1 hP hD hS => ?_)
  rw [zn_upd 4 (show j < 2147483648 by omega) rfl] at hP hD
  exact kk H1 locs1 ⟨w.1, hP, hD, hS, w.2.2.2.2.1, zn_bd w.2.2.2.2.2 (by omega)⟩
theorem ml_g5 (C : zC p m c cc nL s args RX2) (w : mlW G h0 r d A s H0 H locs σ) (hd : decode cc pc = .ok (.getfield 20, 3)) (kk : W p l e R s m args below meth c H locs cells slots Q (F0 m (pc + 3) ls (.ref (r 5) :: rest))) : W p l e R s m args below meth c H locs cells slots Q (F0 m pc ls (.ref h0 :: rest)) :=
  va_get (D := G) (ci := 1) (v := .ref (r 5)) (C := RX2) (T := TX2) (N := 6) C.1 C.2.1 C.2.2.2.2 in_X2 C.2.2.2.1 w.1 w.2.1 0 rfl rfl 5 (by decide) (C.2.2.2.2 _ q201) (fun _ h9 => h9) rfl hd kk
theorem ml_l5 (C : zC p m c cc nL s args RX2) (w : mlW G h0 r d A s H0 H locs σ) {j : Nat} (hj : j < 196) (hd : decode cc pc = .ok (.baload, 1)) (kk : W p l e R s m args below meth c H locs cells slots Q (F0 m (pc + 1) ls (.int (nI (σ 5 j)) :: rest))) : W p l e R s m args below meth c H locs cells slots Q (F0 m pc ls (.int (nI j) :: .ref (r 5) :: rest)) := by
  refine va_zald (f := fun j => nI (σ 5 j)) C.1 C.2.1 w.1 w.2.1 4 3 rfl rfl (vp_in_nI hj (by decide)) hd ?_
  rw [nI_clamp (show j < 2 ^ 31 by omega)]
  exact kk
theorem ml_s5 (C : zC p m c cc nL s args RX2) (w : mlW G h0 r d A s H0 H locs σ) {j v : Nat} (hj : j < 196) (hv : v < 2) (hd : decode cc pc = .ok (.bastore, 1)) (kk : ∀ (H1 : Heap) (locs1 : List Loc), mlW G h0 r d A s H0 H1 locs1 (up σ 5 j v) → W p l e R s m args below meth c H1 locs1 cells slots Q (F0 m (pc + 1) ls rest)) : W p l e R s m args below meth c H locs cells slots Q (F0 m pc ls (.int (nI v) :: .int (nI j) :: .ref (r 5) :: rest)) := by
  refine va_zast (f := fun j => nI (σ 5 j)) C.1 C.2.1 w.1 w.2.1 w.2.2.1 w.2.2.2.1 4 3 rfl rfl (vp_in_nI hj (by decide)) hd (fun H1 locs1 hP hD hS => ?_)
  rw [zn_upd 5 (show j < 2147483648 by omega) (zn_vz hv)] at hP hD
  exact kk H1 locs1 ⟨w.1, hP, hD, hS, w.2.2.2.2.1, zn_bd w.2.2.2.2.2 (by omega)⟩
end Zml
end
section
/-! ===== the plane law, 1: places, links, components, the tree ===== -/
/-- a counted loop, forward -/
def fwd {σ : Type} (f : Nat → σ → σ) : Nat → Nat → σ → σ
  | 0, _, s => s
  | n + 1, k, s => fwd f n (k + 1) (f k s)
/-- the place in direction d, 196 if there is none -/
def nr (p d : Nat) : Nat := if 1 ≤ p % 14 + d % 3 ∧ p % 14 + d % 3 ≤ 14 ∧ 1 ≤ p / 14 + d / 3 ∧ p / 14 + d / 3 ≤ 14 then 14 * (p / 14 + d / 3 - 1) + (p % 14 + d % 3 - 1) else 196
abbrev stp (b : Nat → Nat) (p q d : Nat) : Prop := b p = b q ∧ (b p ≠ 0 ∨ d % 2 = 1)
def Lk (b : Nat → Nat) (p q : Nat) : Prop := p < 196 ∧ q < 196 ∧ ∃ d, d < 9 ∧ nr p d = q ∧ stp b p q d
def onRing (p : Nat) : Prop := p % 14 = 0 ∨ p % 14 = 13 ∨ p / 14 = 0 ∨ p / 14 = 13
def Pic (b : Nat → Nat) : Prop := (∀ p, p < 196 → onRing p → b p = 0) ∧ ∀ p, b p < 2
def Conn (b : Nat → Nat) (p q : Nat) : Prop := ∀ F : Nat → Prop, (∀ u w, Lk b u w → (F u ↔ F w)) → (F p ↔ F q)
theorem Conn.refl (b : Nat → Nat) (p : Nat) : Conn b p p := fun _ _ => Iff.rfl
theorem Conn.symm {b : Nat → Nat} {p q : Nat} (h : Conn b p q) : Conn b q p := fun F hF => (h F hF).symm
theorem Conn.trans {b : Nat → Nat} {p q r : Nat} (h : Conn b p q) (h2 : Conn b q r) : Conn b p r := fun F hF => (h F hF).trans (h2 F hF)
theorem Conn.of {b : Nat → Nat} {p q : Nat} (h : Lk b p q) : Conn b p q := fun _ hF => hF p q h
noncomputable def rt (b : Nat → Nat) (p : Nat) : Nat := Classical.choose (pk_least (fun q => Conn b p q) ⟨p, Conn.refl b p⟩)
theorem rt_conn (b : Nat → Nat) (p : Nat) : Conn b p (rt b p) := (Classical.choose_spec (pk_least (fun q => Conn b p q) ⟨p, Conn.refl b p⟩)).1
theorem rt_min {b : Nat → Nat} {p q : Nat} (h : Conn b p q) : rt b p ≤ q := by
  rcases Nat.lt_or_ge q (rt b p) with h1 | h1
  · exact absurd h ((Classical.choose_spec (pk_least (fun q => Conn b p q) ⟨p, Conn.refl b p⟩)).2 q h1)
  · exact h1
theorem rt_le (b : Nat → Nat) (p : Nat) : rt b p ≤ p := rt_min (Conn.refl b p)
theorem rt_eq {b : Nat → Nat} {p q : Nat} (h : Conn b p q) : rt b p = rt b q := by
  have h1 := rt_min (h.trans (rt_conn b q))
  have h2 := rt_min (h.symm.trans (rt_conn b p))
  omega
theorem rt_lk {b : Nat → Nat} {p q : Nat} (h : Lk b p q) : rt b p = rt b q := rt_eq (Conn.of h)
theorem rt_rt (b : Nat → Nat) (p : Nat) : rt b (rt b p) = rt b p := (rt_eq (rt_conn b p)).symm
/-- what is the same along links is the same at the root -/
theorem rt_ind {α : Type} {b : Nat → Nat} (F : Nat → α) (hF : ∀ u w, Lk b u w → F u = F w) (p : Nat) : F (rt b p) = F p :=
  (rt_conn b p (fun q => F q = F p) (fun u w h => by rw [hF u w h])).mp rfl
theorem nr_val {p d : Nat} (h : nr p d < 196) : nr p d + 15 = p + 14 * (d / 3) + d % 3 ∧ 1 ≤ p % 14 + d % 3 ∧ p % 14 + d % 3 ≤ 14 ∧ 1 ≤ p / 14 + d / 3 ∧ p / 14 + d / 3 ≤ 14 := by
  unfold nr at h ⊢
  split at h
  · rename_i hi
    rw [if_pos hi]
    omega
  · omega
theorem nr_cases {p d : Nat} (hd : d < 9) (h : nr p d < 196) :
    (d = 0 ∧ nr p d + 15 = p ∧ 1 ≤ p % 14) ∨ (d = 1 ∧ nr p d + 14 = p) ∨ (d = 2 ∧ nr p d + 13 = p ∧ p % 14 ≤ 12) ∨ (d = 3 ∧ nr p d + 1 = p ∧ 1 ≤ p % 14) ∨ (d = 4 ∧ nr p d = p) ∨ (d = 5 ∧ nr p d = p + 1 ∧ p % 14 ≤ 12) ∨ (d = 6 ∧ nr p d = p + 13 ∧ 1 ≤ p % 14) ∨ (d = 7 ∧ nr p d = p + 14) ∨ (d = 8 ∧ nr p d = p + 15 ∧ p % 14 ≤ 12) := by
  have hc : d = 0 ∨ d = 1 ∨ d = 2 ∨ d = 3 ∨ d = 4 ∨ d = 5 ∨ d = 6 ∨ d = 7 ∨ d = 8 := by omega
  obtain ⟨h1, h2, h3, -, -⟩ := nr_val h
  generalize nr p d = q at h1
  rcases hc with rfl | rfl | rfl | rfl | rfl | rfl | rfl | rfl | rfl
  · exact Or.inl ⟨rfl, by omega, by omega⟩
  · exact Or.inr (Or.inl ⟨rfl, by omega⟩)
  · exact Or.inr (Or.inr (Or.inl ⟨rfl, by omega, by omega⟩))
  · exact Or.inr (Or.inr (Or.inr (Or.inl ⟨rfl, by omega, by omega⟩)))
  · exact Or.inr (Or.inr (Or.inr (Or.inr (Or.inl ⟨rfl, by omega⟩))))
  · exact Or.inr (Or.inr (Or.inr (Or.inr (Or.inr (Or.inl ⟨rfl, by omega, by omega⟩)))))
  · exact Or.inr (Or.inr (Or.inr (Or.inr (Or.inr (Or.inr (Or.inl ⟨rfl, by omega, by omega⟩))))))
  · exact Or.inr (Or.inr (Or.inr (Or.inr (Or.inr (Or.inr (Or.inr (Or.inl ⟨rfl, by omega⟩)))))))
  · exact Or.inr (Or.inr (Or.inr (Or.inr (Or.inr (Or.inr (Or.inr (Or.inr ⟨rfl, by omega, by omega⟩)))))))
theorem nr_5 {p : Nat} (hp : p < 196) (h : p % 14 ≤ 12) : nr p 5 = p + 1 := by unfold nr; rw [if_pos (by omega)]; omega
theorem nr_3 {p : Nat} (hp : p < 196) (h : 1 ≤ p % 14) : nr p 3 = p - 1 := by unfold nr; rw [if_pos (by omega)]; omega
theorem nr_7 {p : Nat} (hp : p < 182) : nr p 7 = p + 14 := by unfold nr; rw [if_pos (by omega)]; omega
theorem nr_1 {p : Nat} (hp : p < 196) (h : 14 ≤ p) : nr p 1 = p - 14 := by unfold nr; rw [if_pos (by omega)]; omega
theorem nr_8 {p : Nat} (hp : p < 182) (h : p % 14 ≤ 12) : nr p 8 = p + 15 := by unfold nr; rw [if_pos (by omega)]; omega
theorem nr_6 {p : Nat} (hp : p < 182) (h : 1 ≤ p % 14) : nr p 6 = p + 13 := by unfold nr; rw [if_pos (by omega)]; omega
theorem nr_sym {p d : Nat} (hp : p < 196) (hd : d < 9) (h : nr p d < 196) : nr (nr p d) (8 - d) = p := by
  have hc : d = 0 ∨ d = 1 ∨ d = 2 ∨ d = 3 ∨ d = 4 ∨ d = 5 ∨ d = 6 ∨ d = 7 ∨ d = 8 := by omega
  obtain ⟨h1, h2, h3, h4, h5⟩ := nr_val h
  generalize nr p d = q at h1 h
  unfold nr
  rcases hc with rfl | rfl | rfl | rfl | rfl | rfl | rfl | rfl | rfl <;> rw [if_pos (by omega)] <;> omega
theorem Lk.symm {b : Nat → Nat} {p q : Nat} (h : Lk b p q) : Lk b q p := by
  obtain ⟨hp, hq, d, hd, hn, hs⟩ := h
  subst hn
  refine ⟨hq, hp, 8 - d, by omega, nr_sym hp hd hq, hs.1.symm, ?_⟩
  rcases hs.2 with h | h
  · left; rw [← hs.1]; exact h
  · right; omega
/-- the kinds of link -/
theorem Lk.kinds {b : Nat → Nat} {p q : Nat} (h : Lk b p q) : p < 196 ∧ q < 196 ∧ b p = b q ∧ (q = p ∨ (q = p + 1 ∧ p % 14 ≤ 12) ∨ (p = q + 1 ∧ q % 14 ≤ 12) ∨ q = p + 14 ∨ p = q + 14 ∨ (b p ≠ 0 ∧ ((q = p + 15 ∧ p % 14 ≤ 12) ∨ (p = q + 15 ∧ q % 14 ≤ 12) ∨ (q = p + 13 ∧ 1 ≤ p % 14) ∨ (p = q + 13 ∧ 1 ≤ q % 14)))) := by
  obtain ⟨hp, hq, d, hd, hn, hs⟩ := h
  subst hn
  have hc := nr_cases hd hq
  refine ⟨hp, hq, hs.1, ?_⟩
  have h2 := hs.2
  generalize nr p d = q at hc hq
  rcases hc with ⟨rfl, h⟩ | ⟨rfl, h⟩ | ⟨rfl, h⟩ | ⟨rfl, h⟩ | ⟨rfl, h⟩ | ⟨rfl, h⟩ | ⟨rfl, h⟩ | ⟨rfl, h⟩ | ⟨rfl, h⟩
  · exact Or.inr (Or.inr (Or.inr (Or.inr (Or.inr ⟨by omega, Or.inr (Or.inl ⟨by omega, by omega⟩)⟩))))
  · exact Or.inr (Or.inr (Or.inr (Or.inr (Or.inl (by omega)))))
  · exact Or.inr (Or.inr (Or.inr (Or.inr (Or.inr ⟨by omega, Or.inr (Or.inr (Or.inr ⟨by omega, by omega⟩))⟩))))
  · exact Or.inr (Or.inr (Or.inl ⟨by omega, by omega⟩))
  · exact Or.inl h
  · exact Or.inr (Or.inl h)
  · exact Or.inr (Or.inr (Or.inr (Or.inr (Or.inr ⟨by omega, Or.inr (Or.inr (Or.inl h))⟩))))
  · exact Or.inr (Or.inr (Or.inr (Or.inl h)))
  · exact Or.inr (Or.inr (Or.inr (Or.inr (Or.inr ⟨by omega, Or.inl h⟩))))
theorem lk_h {b : Nat → Nat} {p : Nat} (hp : p < 196) (h : p % 14 ≤ 12) (hb : b p = b (p + 1)) : Lk b p (p + 1) := ⟨hp, by omega, 5, by omega, nr_5 hp h, hb, Or.inr rfl⟩
theorem lk_v {b : Nat → Nat} {p : Nat} (hp : p < 182) (hb : b p = b (p + 14)) : Lk b p (p + 14) := ⟨by omega, by omega, 7, by omega, nr_7 hp, hb, Or.inr rfl⟩
theorem lk_d1 {b : Nat → Nat} {p : Nat} (hp : p < 182) (h : p % 14 ≤ 12) (h0 : b p ≠ 0) (hb : b p = b (p + 15)) : Lk b p (p + 15) := ⟨by omega, by omega, 8, by omega, nr_8 hp h, hb, Or.inl h0⟩
theorem lk_d2 {b : Nat → Nat} {p : Nat} (hp : p < 182) (h : 1 ≤ p % 14) (h0 : b p ≠ 0) (hb : b p = b (p + 13)) : Lk b p (p + 13) := ⟨by omega, by omega, 6, by omega, nr_6 hp h, hb, Or.inl h0⟩
theorem rt_col (b : Nat → Nat) (p : Nat) : b (rt b p) = b p := rt_ind b (fun _ _ h => h.kinds.2.2.1) p
theorem rt_ring {b : Nat → Nat} (hb : Pic b) {p : Nat} (hp : p < 196) (h : onRing p) : rt b p = 0 := by
  have w := hb.1
  have top : ∀ x, x ≤ 13 → rt b x = 0 := by
    intro x
    induction x with
    | zero => intro _; have := rt_le b 0; omega
    | succ x ih =>
      intro hx
      rw [← rt_lk (lk_h (b := b) (p := x) (by omega) (by omega) (by rw [w x (by omega) (Or.inr (Or.inr (Or.inl (by omega)))), w (x + 1) (by omega) (Or.inr (Or.inr (Or.inl (by omega))))]))]
      exact ih (by omega)
  have left : ∀ y, y ≤ 13 → rt b (14 * y) = 0 := by
    intro y
    induction y with
    | zero => intro _; exact top 0 (by omega)
    | succ y ih =>
      intro hy
      have e : 14 * (y + 1) = 14 * y + 14 := by omega
      rw [e, ← rt_lk (lk_v (b := b) (p := 14 * y) (by omega) (by rw [w (14 * y) (by omega) (Or.inl (by omega)), w (14 * y + 14) (by omega) (Or.inl (by omega))]))]
      exact ih (by omega)
  have right : ∀ y, y ≤ 13 → rt b (14 * y + 13) = 0 := by
    intro y
    induction y with
    | zero => intro _; exact top 13 (by omega)
    | succ y ih =>
      intro hy
      have e : 14 * (y + 1) + 13 = 14 * y + 13 + 14 := by omega
      rw [e, ← rt_lk (lk_v (b := b) (p := 14 * y + 13) (by omega) (by rw [w (14 * y + 13) (by omega) (Or.inr (Or.inl (by omega))), w (14 * y + 13 + 14) (by omega) (Or.inr (Or.inl (by omega)))]))]
      exact ih (by omega)
  have bot : ∀ x, x ≤ 13 → rt b (182 + x) = 0 := by
    intro x
    induction x with
    | zero => intro _; exact left 13 (by omega)
    | succ x ih =>
      intro hx
      rw [← Nat.add_assoc, ← rt_lk (lk_h (b := b) (p := 182 + x) (by omega) (by omega) (by rw [w (182 + x) (by omega) (Or.inr (Or.inr (Or.inr (by omega)))), w (182 + x + 1) (by omega) (Or.inr (Or.inr (Or.inr (by omega))))]))]
      exact ih (by omega)
  rcases h with h | h | h | h
  · have := left (p / 14) (by omega)
    rwa [show 14 * (p / 14) = p by omega] at this
  · have := right (p / 14) (by omega)
    rwa [show 14 * (p / 14) + 13 = p by omega] at this
  · exact top p (by omega)
  · have := bot (p - 182) (by omega)
    rwa [show 182 + (p - 182) = p by omega] at this
/-- does a step between components a and b pass between A and B -/
def fv (A B a b : Nat) : Nat := if (a = A ∧ b = B) ∨ (a = B ∧ b = A) then 1 else 0
theorem fv_symm (A B a b : Nat) : fv A B a b = fv A B b a := by
  unfold fv
  by_cases h : (a = A ∧ b = B) ∨ (a = B ∧ b = A)
  · rw [if_pos h, if_pos (by omega)]
  · rw [if_neg h, if_neg (by omega)]
theorem fv_self {A B : Nat} (h : A ≠ B) (a : Nat) : fv A B a a = 0 := by
  unfold fv
  rw [if_neg (by omega)]
theorem fv_one (A B : Nat) : fv A B A B = 1 := by
  unfold fv
  rw [if_pos (Or.inl ⟨rfl, rfl⟩)]
theorem sq_even {A B ra rb rc rd c1 c2 c3 c4 : Nat} (hAB : A ≠ B) (h1 : c1 < 2) (h2 : c2 < 2) (h3 : c3 < 2) (h4 : c4 < 2) (e12 : c1 = c2 → ra = rb) (e13 : c1 = c3 → ra = rc) (e24 : c2 = c4 → rb = rd) (e34 : c3 = c4 → rc = rd) (e14 : c1 ≠ 0 → c1 = c4 → ra = rd) (e23 : c2 ≠ 0 → c2 = c3 → rb = rc) :
    (fv A B ra rb + fv A B rb rd + fv A B rc rd + fv A B ra rc) % 2 = 0 := by
  have za := fv_self hAB ra
  have zb := fv_self hAB rb
  have zc := fv_self hAB rc
  have zd := fv_self hAB rd
  have s1 := fv_symm A B ra rb
  have s2 := fv_symm A B rb rd
  have s3 := fv_symm A B rc rd
  have s4 := fv_symm A B ra rc
  by_cases k12 : c1 = c2
  · have r12 := e12 k12
    by_cases k34 : c3 = c4
    · have r34 := e34 k34
      subst r12; subst r34; omega
    · by_cases k13 : c1 = c3
      · have r13 := e13 k13
        subst r12; subst r13; omega
      · have r24 := e24 (by omega)
        subst r12; subst r24; omega
  · by_cases k13 : c1 = c3
    · have r13 := e13 k13
      by_cases k24 : c2 = c4
      · have r24 := e24 k24
        subst r13; subst r24; omega
      · have r34 := e34 (by omega)
        subst r13; subst r34; omega
    · by_cases k24 : c2 = c4
      · have r24 := e24 k24
        have r34 := e34 (by omega)
        subst r34; subst r24; omega
      · by_cases k1 : c1 = 0
        · have r23 := e23 (by omega) (by omega)
          subst r23; omega
        · have r14 := e14 k1 (by omega)
          subst r14; omega
/-- changes between A and B left of x in a row -/
def gR (f : Nat → Nat → Nat) (row : Nat) : Nat → Nat
  | 0 => 0
  | x + 1 => gR f row x + f (row + x) (row + x + 1)
def gP (f : Nat → Nat → Nat) (p : Nat) : Nat := gR f (14 * (p / 14)) (p % 14)
theorem gP_h (f : Nat → Nat → Nat) {p : Nat} (h : p % 14 ≤ 12) : gP f (p + 1) = gP f p + f p (p + 1) := by
  unfold gP
  rw [show (p + 1) / 14 = p / 14 by omega, show (p + 1) % 14 = p % 14 + 1 by omega]
  show gR f _ (p % 14) + f (14 * (p / 14) + p % 14) (14 * (p / 14) + p % 14 + 1) = _
  rw [show 14 * (p / 14) + p % 14 = p by omega]
end
section
/-! ===== the plane law, 2: the tree of components ===== -/
noncomputable def par (b : Nat → Nat) (c : Nat) : Nat := rt b (c - 1)
theorem par_lt (b : Nat → Nat) {c : Nat} (h : c ≠ 0) : par b c < c := by
  have := rt_le b (c - 1)
  unfold par
  omega
theorem par_rt (b : Nat → Nat) (c : Nat) : rt b (par b c) = par b c := rt_rt b _
theorem root_in {b : Nat → Nat} (hb : Pic b) {c : Nat} (hc : c < 196) (hr : rt b c = c) (h0 : c ≠ 0) : 1 ≤ c % 14 ∧ c % 14 ≤ 12 ∧ 14 ≤ c ∧ c < 182 := by
  have hn : ¬ onRing c := fun h => h0 (by rw [← hr]; exact rt_ring hb hc h)
  unfold onRing at hn
  omega
section Tree
variable {b : Nat → Nat} {A B : Nat} {f : Nat → Nat → Nat}
theorem g_f0 (hAB : A ≠ B) (hf : ∀ u w, f u w = fv A B (rt b u) (rt b w)) {u w : Nat} (e : rt b u = rt b w) : f u w = 0 := by
  rw [hf, e]
  exact fv_self hAB _
theorem g_v (hb : Pic b) (hAB : A ≠ B) (hf : ∀ u w, f u w = fv A B (rt b u) (rt b w)) : ∀ x u, u % 14 = x → u < 182 → (gP f u + gP f (u + 14) + f u (u + 14)) % 2 = 0 := by
  intro x
  induction x with
  | zero =>
    intro u hx hu
    have e1 : gP f u = 0 := by unfold gP; rw [hx]; rfl
    have e2 : gP f (u + 14) = 0 := by unfold gP; rw [show (u + 14) % 14 = 0 by omega]; rfl
    have e3 : f u (u + 14) = 0 := g_f0 hAB hf (by rw [rt_ring hb (p := u) (by omega) (Or.inl hx), rt_ring hb (p := u + 14) (by omega) (Or.inl (by omega))])
    omega
  | succ x ih =>
    intro u hx hu
    obtain ⟨u, rfl⟩ : ∃ z, u = z + 1 := ⟨u - 1, by omega⟩
    have i := ih u (by omega) (by omega)
    have a1 := gP_h f (p := u) (by omega)
    have a2 := gP_h f (p := u + 14) (by omega)
    rw [show u + 1 + 14 = u + 15 by omega]
    rw [show u + 14 + 1 = u + 15 by omega] at a2
    have q := sq_even (A := A) (B := B) (ra := rt b u) (rb := rt b (u + 1)) (rc := rt b (u + 14)) (rd := rt b (u + 15)) (c1 := b u) (c2 := b (u + 1)) (c3 := b (u + 14)) (c4 := b (u + 15)) hAB (hb.2 _) (hb.2 _) (hb.2 _) (hb.2 _)
      (fun h => rt_lk (lk_h (by omega) (by omega) h)) (fun h => rt_lk (lk_v (by omega) h)) (fun h => rt_lk (lk_v (p := u + 1) (by omega) h)) (fun h => rt_lk (lk_h (p := u + 14) (by omega) (by omega) h)) (fun h0 h => rt_lk (lk_d1 (by omega) (by omega) h0 h)) (fun h0 h => rt_lk (lk_d2 (p := u + 1) (by omega) (by omega) h0 h))
    rw [← hf, ← hf, ← hf, ← hf] at q
    omega
theorem g_lk (hb : Pic b) (hAB : A ≠ B) (hf : ∀ u w, f u w = fv A B (rt b u) (rt b w)) {u w : Nat} (h : Lk b u w) : gP f u % 2 = gP f w % 2 := by
  have e := rt_lk h
  obtain ⟨hu, hw, hc, hk⟩ := h.kinds
  have d1 : ∀ z, z < 182 → z % 14 ≤ 12 → rt b z = rt b (z + 15) → gP f z % 2 = gP f (z + 15) % 2 := by
    intro z hz hx ez
    have a1 := gP_h f (p := z) hx
    have a2 := g_v hb hAB hf _ (z + 1) rfl (by omega)
    rw [show z + 1 + 14 = z + 15 by omega] at a2
    have a3 : f (z + 1) (z + 15) = f z (z + 1) := by rw [hf, hf, ez]; exact fv_symm _ _ _ _
    omega
  have d2 : ∀ z, z < 182 → 1 ≤ z % 14 → rt b z = rt b (z + 13) → gP f z % 2 = gP f (z + 13) % 2 := by
    intro z hz hx ez
    obtain ⟨z, rfl⟩ : ∃ y, z = y + 1 := ⟨z - 1, by omega⟩
    have a1 := gP_h f (p := z) (by omega)
    have a2 := g_v hb hAB hf _ z rfl (by omega)
    rw [show z + 1 + 13 = z + 14 by omega] at ez ⊢
    have a3 : f z (z + 14) = f z (z + 1) := by rw [hf, hf, ez]
    omega
  rcases hk with rfl | ⟨rfl, hx⟩ | ⟨rfl, hx⟩ | rfl | rfl | ⟨-, ⟨rfl, hx⟩ | ⟨rfl, hx⟩ | ⟨rfl, hx⟩ | ⟨rfl, hx⟩⟩
  · rfl
  · have a1 := gP_h f hx
    have a2 := g_f0 hAB hf e
    omega
  · have a1 := gP_h f hx
    have a2 := g_f0 hAB hf e.symm
    omega
  · have a1 := g_v hb hAB hf _ u rfl (by omega)
    have a2 := g_f0 hAB hf e
    omega
  · have a1 := g_v hb hAB hf _ w rfl (by omega)
    have a2 := g_f0 hAB hf e.symm
    omega
  · exact d1 u (by omega) hx e
  · exact (d1 w (by omega) hx e.symm).symm
  · exact d2 u (by omega) hx e
  · exact (d2 w (by omega) hx e.symm).symm
theorem g_root (hb : Pic b) (hAB : A ≠ B) (hf : ∀ u w, f u w = fv A B (rt b u) (rt b w)) (n1 : ¬ (A ≠ 0 ∧ par b A = B)) (n2 : ¬ (B ≠ 0 ∧ par b B = A)) : ∀ n c, c ≤ n → c < 196 → rt b c = c → gP f c % 2 = 0 := by
  intro n
  induction n with
  | zero =>
    intro c h _ _
    obtain rfl : c = 0 := by omega
    rfl
  | succ n ih =>
    intro c hn hc hr
    by_cases h0 : c = 0
    · subst h0; rfl
    obtain ⟨hx, -, -, -⟩ := root_in hb hc hr h0
    obtain ⟨c, rfl⟩ : ∃ y, c = y + 1 := ⟨c - 1, by omega⟩
    have hl := rt_le b c
    have i := ih (rt b c) (by omega) (by omega) (rt_rt b c)
    have i2 : gP f (rt b c) % 2 = gP f c % 2 := rt_ind (fun z => gP f z % 2) (fun u w h => g_lk hb hAB hf h) c
    have a1 := gP_h f (p := c) (by omega)
    have a2 : f c (c + 1) = 0 := by
      rw [hf, hr]
      unfold fv
      rw [if_neg]
      rintro (⟨k1, k2⟩ | ⟨k1, k2⟩)
      · exact n2 ⟨by omega, by rw [← k2]; exact k1⟩
      · exact n1 ⟨by omega, by rw [← k2]; exact k1⟩
    omega
end Tree
/-- 4-neighbours of different colour: the component of one hangs in that of the other -/
theorem tree {b : Nat → Nat} (hb : Pic b) {p q : Nat} (hp : p < 196) (hq : q < 196) (ha : (q = p + 1 ∧ p % 14 ≤ 12) ∨ q = p + 14) (hne : b p ≠ b q) : (rt b p ≠ 0 ∧ par b (rt b p) = rt b q) ∨ (rt b q ≠ 0 ∧ par b (rt b q) = rt b p) := by
  have hAB : rt b p ≠ rt b q := fun e => hne (by rw [← rt_col b p, ← rt_col b q, e])
  have main : ¬ (¬ (rt b p ≠ 0 ∧ par b (rt b p) = rt b q) ∧ ¬ (rt b q ≠ 0 ∧ par b (rt b q) = rt b p)) := by
    rintro ⟨n1, n2⟩
    have hf : ∀ u w, (fun u w => fv (rt b p) (rt b q) (rt b u) (rt b w)) u w = fv (rt b p) (rt b q) (rt b u) (rt b w) := fun _ _ => rfl
    generalize hfe : (fun u w => fv (rt b p) (rt b q) (rt b u) (rt b w)) = f at hf
    have l1 := rt_le b p
    have l2 := rt_le b q
    have g1 := g_root hb hAB hf n1 n2 _ (rt b p) (Nat.le_refl _) (by omega) (rt_rt b p)
    have g2 := g_root hb hAB hf n1 n2 _ (rt b q) (Nat.le_refl _) (by omega) (rt_rt b q)
    have g3 : gP f (rt b p) % 2 = gP f p % 2 := rt_ind (fun z => gP f z % 2) (fun u w h => g_lk hb hAB hf h) p
    have g4 : gP f (rt b q) % 2 = gP f q % 2 := rt_ind (fun z => gP f z % 2) (fun u w h => g_lk hb hAB hf h) q
    have e : f p q = 1 := by rw [hf]; exact fv_one _ _
    rcases ha with ⟨rfl, hx⟩ | rfl
    · have a1 := gP_h f hx
      omega
    · have a1 := g_v hb hAB hf _ p rfl (by omega)
      omega
  by_cases h1 : rt b p ≠ 0 ∧ par b (rt b p) = rt b q
  · exact Or.inl h1
  · by_cases h2 : rt b q ≠ 0 ∧ par b (rt b q) = rt b p
    · exact Or.inr h2
    · exact absurd ⟨h1, h2⟩ main
/-- the left neighbour of a root is of the other colour -/
theorem root_left {b : Nat → Nat} (hb : Pic b) {c : Nat} (hc : c < 196) (hr : rt b c = c) (h0 : c ≠ 0) : b (c - 1) ≠ b c := by
  intro e
  obtain ⟨hx, -, -, -⟩ := root_in hb hc hr h0
  obtain ⟨c, rfl⟩ : ∃ y, c = y + 1 := ⟨c - 1, by omega⟩
  have h1 := rt_lk (lk_h (b := b) (p := c) (by omega) (by omega) e)
  have h2 := rt_le b c
  omega
/-- what a component hangs in begins in an earlier row -/
theorem par_row {b : Nat → Nat} (hb : Pic b) {c : Nat} (hc : c < 196) (hr : rt b c = c) (h0 : c ≠ 0) : par b c + 14 ≤ c := by
  have h1 := root_left hb hc hr h0
  obtain ⟨hx, hx2, hy, hy2⟩ := root_in hb hc hr h0
  obtain ⟨u, rfl⟩ : ∃ y, c = y + 15 := ⟨c - 15, by omega⟩
  have hm : par b (u + 15) = rt b (u + 14) := rfl
  rw [show u + 15 - 1 = u + 14 by omega] at h1
  have b0 := hb.2 u
  have b1 := hb.2 (u + 1)
  have b14 := hb.2 (u + 14)
  have b15 := hb.2 (u + 15)
  have l1 := rt_le b (u + 1)
  have l0 := rt_le b u
  have n1 : b (u + 1) ≠ b (u + 15) := by
    intro e
    have := rt_lk (lk_v (b := b) (p := u + 1) (by omega) e)
    rw [show u + 1 + 14 = u + 15 by omega] at this
    omega
  by_cases hk : b (u + 15) = 0
  · have := rt_lk (lk_d2 (b := b) (p := u + 1) (by omega) (by omega) (by omega) (by rw [show u + 1 + 13 = u + 14 by omega]; omega))
    rw [show u + 1 + 13 = u + 14 by omega] at this
    omega
  · have n0 : b u ≠ b (u + 15) := by
      intro e
      have := rt_lk (lk_d1 (b := b) (p := u) (by omega) (by omega) (by omega) e)
      omega
    have r1 := rt_lk (lk_h (b := b) (p := u) (by omega) (by omega) (by omega))
    have r2 := rt_lk (lk_v (b := b) (p := u) (by omega) (by omega))
    omega
end
section
/-! ===== the plane law, 3: levels, ancestors; loops and rounds ===== -/
noncomputable def lev (b : Nat → Nat) (c : Nat) : Nat := if h : c = 0 then 0 else lev b (par b c) + 1
termination_by c
decreasing_by exact par_lt b h
theorem lev_0 (b : Nat → Nat) : lev b 0 = 0 := by rw [lev]; rfl
theorem lev_s (b : Nat → Nat) {c : Nat} (h : c ≠ 0) : lev b c = lev b (par b c) + 1 := by rw [lev, dif_neg h]
/-- the first ancestor (or self) that is at most k -/
noncomputable def anc (b : Nat → Nat) (k c : Nat) : Nat := if h : c ≤ k then c else anc b k (par b c)
termination_by c
decreasing_by exact par_lt b (by omega)
theorem anc_le (b : Nat → Nat) {k c : Nat} (h : c ≤ k) : anc b k c = c := by rw [anc, dif_pos h]
theorem anc_gt (b : Nat → Nat) {k c : Nat} (h : k < c) : anc b k c = anc b k (par b c) := by rw [anc, dif_neg (by omega)]
theorem lev_row {b : Nat → Nat} (hb : Pic b) : ∀ n c, c ≤ n → c < 196 → rt b c = c → lev b c ≤ c / 14 := by
  intro n
  induction n with
  | zero =>
    intro c h _ _
    obtain rfl : c = 0 := by omega
    rw [lev_0]; omega
  | succ n ih =>
    intro c hn hc hr
    by_cases h0 : c = 0
    · subst h0; rw [lev_0]; omega
    · have h1 := par_row hb hc hr h0
      have h2 := ih (par b c) (by omega) (by omega) (par_rt b c)
      rw [lev_s b h0]
      omega
theorem lev_le13 {b : Nat → Nat} (hb : Pic b) {p : Nat} (hp : p < 196) : lev b (rt b p) ≤ 13 := by
  have h1 := rt_le b p
  have := lev_row hb _ (rt b p) (Nat.le_refl _) (by omega) (rt_rt b p)
  omega
/-- neighbours of different colour are one level apart, and which hangs in which -/
theorem tree_lev {b : Nat → Nat} (hb : Pic b) {p q : Nat} (hp : p < 196) (hq : q < 196) (ha : (q = p + 1 ∧ p % 14 ≤ 12) ∨ q = p + 14) (hne : b p ≠ b q) :
    (rt b p ≠ 0 ∧ par b (rt b p) = rt b q ∧ lev b (rt b p) = lev b (rt b q) + 1) ∨ (rt b q ≠ 0 ∧ par b (rt b q) = rt b p ∧ lev b (rt b q) = lev b (rt b p) + 1) := by
  rcases tree hb hp hq ha hne with ⟨h0, h1⟩ | ⟨h0, h1⟩
  · exact Or.inl ⟨h0, h1, by rw [lev_s b h0, h1]⟩
  · exact Or.inr ⟨h0, h1, by rw [lev_s b h0, h1]⟩
/-- 4-neighbours by direction -/
theorem beside {p d : Nat} (hp : p < 196) (hd : d < 9) (ho : d % 2 = 1) (h : nr p d < 196) : ((nr p d = p + 1 ∧ p % 14 ≤ 12) ∨ nr p d = p + 14) ∨ ((p = nr p d + 1 ∧ nr p d % 14 ≤ 12) ∨ p = nr p d + 14) := by
  have hc := nr_cases hd h
  generalize nr p d = q at hc h
  rcases hc with ⟨rfl, h⟩ | ⟨rfl, h⟩ | ⟨rfl, h⟩ | ⟨rfl, h⟩ | ⟨rfl, h⟩ | ⟨rfl, h⟩ | ⟨rfl, h⟩ | ⟨rfl, h⟩ | ⟨rfl, h⟩
  · omega
  · exact Or.inr (Or.inr h.symm)
  · omega
  · exact Or.inr (Or.inl ⟨h.1.symm, by omega⟩)
  · omega
  · exact Or.inl (Or.inl h)
  · omega
  · exact Or.inl (Or.inr h)
  · omega
theorem tree_d {b : Nat → Nat} (hb : Pic b) {p d : Nat} (hp : p < 196) (hd : d < 9) (ho : d % 2 = 1) (h : nr p d < 196) (hne : b p ≠ b (nr p d)) :
    (rt b p ≠ 0 ∧ par b (rt b p) = rt b (nr p d) ∧ lev b (rt b p) = lev b (rt b (nr p d)) + 1) ∨ (rt b (nr p d) ≠ 0 ∧ par b (rt b (nr p d)) = rt b p ∧ lev b (rt b (nr p d)) = lev b (rt b p) + 1) := by
  rcases beside hp hd ho h with k | k
  · exact tree_lev hb hp h k hne
  · exact (tree_lev hb h hp k (Ne.symm hne)).symm
/-- counting -/
noncomputable def ncnt (P : Nat → Prop) : Nat → Nat
  | 0 => 0
  | n + 1 => ncnt P n + @ite _ (P n) (Classical.propDecidable _) 1 0
theorem ncnt_s1 {P : Nat → Prop} {n : Nat} (h : P n) : ncnt P (n + 1) = ncnt P n + 1 := by
  show _ + @ite _ (P n) (Classical.propDecidable _) 1 0 = _
  rw [if_pos h]
theorem ncnt_s0 {P : Nat → Prop} {n : Nat} (h : ¬ P n) : ncnt P (n + 1) = ncnt P n := by
  show _ + @ite _ (P n) (Classical.propDecidable _) 1 0 = _
  rw [if_neg h]; rfl
theorem ncnt_le (P : Nat → Prop) (n : Nat) : ncnt P n ≤ n := by
  induction n with
  | zero => exact Nat.le_refl _
  | succ n ih =>
    by_cases h : P n
    · rw [ncnt_s1 h]; omega
    · rw [ncnt_s0 h]; omega
theorem ncnt_mono {P Q : Nat → Prop} {n : Nat} (h : ∀ p, p < n → P p → Q p) : ncnt P n ≤ ncnt Q n := by
  induction n with
  | zero => exact Nat.le_refl _
  | succ n ih =>
    have i := ih (fun p hp => h p (by omega))
    by_cases k : P n
    · rw [ncnt_s1 k, ncnt_s1 (h n (by omega) k)]; omega
    · rw [ncnt_s0 k]
      by_cases k2 : Q n
      · rw [ncnt_s1 k2]; omega
      · rw [ncnt_s0 k2]; exact i
theorem ncnt_lt {P Q : Nat → Prop} {n w : Nat} (h : ∀ p, p < n → P p → Q p) (hw : w < n) (h1 : Q w) (h2 : ¬ P w) : ncnt P n < ncnt Q n := by
  induction n with
  | zero => omega
  | succ n ih =>
    by_cases e : w = n
    · subst e
      rw [ncnt_s0 h2, ncnt_s1 h1]
      have := ncnt_mono (P := P) (Q := Q) (n := w) (fun p hp => h p (by omega))
      omega
    · have i := ih (fun p hp => h p (by omega)) (by omega)
      by_cases k : P n
      · rw [ncnt_s1 k, ncnt_s1 (h n (by omega) k)]; omega
      · rw [ncnt_s0 k]
        by_cases k2 : Q n
        · rw [ncnt_s1 k2]; omega
        · rw [ncnt_s0 k2]; exact i
theorem ncnt_none {P : Nat → Prop} {n : Nat} (h : ∀ p, p < n → ¬ P p) : ncnt P n = 0 := by
  induction n with
  | zero => rfl
  | succ n ih => rw [ncnt_s0 (h n (by omega))]; exact ih (fun p hp => h p (by omega))
theorem ncnt_zero {P : Nat → Prop} {n : Nat} (h : ncnt P n = 0) : ∀ p, p < n → ¬ P p := by
  induction n with
  | zero => intro p hp; omega
  | succ n ih =>
    intro p hp k
    by_cases e : P n
    · rw [ncnt_s1 e] at h; omega
    · rw [ncnt_s0 e] at h
      by_cases q : p = n
      · subst q; exact e k
      · exact ih h p (by omega) k
/-- rounds until nothing changes -/
def rounds {σ : Type} (f : σ → σ × Nat) : Nat → σ × Nat → σ × Nat
  | 0, t => t
  | n + 1, t => if t.2 = 0 then t else rounds f n (f t.1)
theorem rounds_ok {σ : Type} {f : σ → σ × Nat} (I : σ → Prop) (St : σ → Nat → Prop) (hI : ∀ s, I s → I (f s).1) (hS : ∀ s p, I s → p < 196 → St s p → St (f s).1 p)
    (hP : ∀ s, I s → (∃ p, p < 196 ∧ ¬ St s p) → (f s).2 ≠ 0 ∧ ∃ w, w < 196 ∧ ¬ St s w ∧ St (f s).1 w) :
    ∀ (n : Nat) (t : σ × Nat), I t.1 → (t.2 = 0 → ∀ p, p < 196 → St t.1 p) → ncnt (fun p => ¬ St t.1 p) 196 ≤ n → I (rounds f n t).1 ∧ ∀ p, p < 196 → St (rounds f n t).1 p := by
  intro n
  induction n with
  | zero =>
    intro t h1 h2 h3
    exact ⟨h1, fun p hp => Classical.not_not.mp (ncnt_zero (P := fun p => ¬ St t.1 p) (n := 196) (by omega) p hp)⟩
  | succ n ih =>
    intro t h1 h2 h3
    show I (if t.2 = 0 then t else rounds f n (f t.1)).1 ∧ _
    by_cases hz : t.2 = 0
    · have e : rounds f (n + 1) t = t := if_pos hz
      rw [if_pos hz, e]
      exact ⟨h1, h2 hz⟩
    · have e : rounds f (n + 1) t = rounds f n (f t.1) := if_neg hz
      rw [if_neg hz, e]
      by_cases hu : ∃ p, p < 196 ∧ ¬ St t.1 p
      · obtain ⟨k0, w, k1, k2, k3⟩ := hP t.1 h1 hu
        refine ih (f t.1) (hI _ h1) (fun q => absurd q k0) ?_
        have := ncnt_lt (P := fun p => ¬ St (f t.1).1 p) (Q := fun p => ¬ St t.1 p) (n := 196) (w := w) (fun p hp q r => q (hS _ p h1 hp r)) k1 k2 (fun q => q k3)
        omega
      · have all : ∀ p, p < 196 → St t.1 p := fun p hp => Classical.not_not.mp (fun q => hu ⟨p, hp, q⟩)
        refine ih (f t.1) (hI _ h1) (fun _ p hp => hS _ p h1 hp (all p hp)) ?_
        rw [ncnt_none (fun p hp q => q (hS _ p h1 hp (all p hp)))]
        omega
theorem fwd_inv {σ : Type} {f : Nat → σ → σ} (I : σ → Prop) : ∀ (n k : Nat) (s : σ), I s → (∀ j s, k ≤ j → j < k + n → I s → I (f j s)) → I (fwd f n k s) := by
  intro n
  induction n with
  | zero => intro k s h _; exact h
  | succ n ih =>
    intro k s h hs
    exact ih (k + 1) (f k s) (hs k s (by omega) (by omega) h) (fun j s h1 h2 h3 => hs j s (by omega) (by omega) h3)
theorem fwd_at {σ : Type} {f : Nat → σ → σ} (I J : σ → Prop) (w : Nat) : ∀ (n k : Nat) (s : σ), k ≤ w → w < k + n → I s → (∀ j s, k ≤ j → j < k + n → I s → I (f j s)) → (∀ s, I s → J (f w s)) → (∀ j s, k ≤ j → j < k + n → I s → J s → J (f j s)) → J (fwd f n k s) := by
  intro n
  induction n with
  | zero => intro k s h1 h2; omega
  | succ n ih =>
    intro k s h1 h2 h hI hJ hK
    show J (fwd f n (k + 1) (f k s))
    by_cases e : w = k
    · subst e
      exact (fwd_inv (fun s => I s ∧ J s) n (w + 1) (f w s) ⟨hI w s (by omega) (by omega) h, hJ s h⟩ (fun j s a b c => ⟨hI j s (by omega) (by omega) c.1, hK j s (by omega) (by omega) c.1 c.2⟩)).2
    · exact ih (k + 1) (f k s) (by omega) (by omega) (hI k s (by omega) (by omega) h) (fun j s a b c => hI j s (by omega) (by omega) c) hJ (fun j s a b c d => hK j s (by omega) (by omega) c d)
/-- one sweep over all places and directions -/
def sweep {σ : Type} (S : Nat → Nat → σ × Nat → σ × Nat) (nd : Nat) (s : σ) : σ × Nat := fwd (fun p t => fwd (S p) nd 0 t) 196 0 (s, 0)
theorem sweep_inv {σ : Type} {S : Nat → Nat → σ × Nat → σ × Nat} {nd : Nat} (K : σ × Nat → Prop) (hK : ∀ p d t, p < 196 → d < nd → K t → K (S p d t)) (s : σ) (h : K (s, 0)) : K (sweep S nd s) :=
  fwd_inv K 196 0 (s, 0) h (fun p t _ h2 ht => fwd_inv K nd 0 t ht (fun d t _ h3 ht => hK p d t (by omega) (by omega) ht))
theorem sweep_at {σ : Type} {S : Nat → Nat → σ × Nat → σ × Nat} {nd : Nat} (K J : σ × Nat → Prop) {p d : Nat} (hp : p < 196) (hd : d < nd) (hK : ∀ p d t, p < 196 → d < nd → K t → K (S p d t)) (hJ : ∀ t, K t → J (S p d t)) (hKJ : ∀ p d t, p < 196 → d < nd → K t → J t → J (S p d t)) (s : σ) (h : K (s, 0)) : J (sweep S nd s) := by
  refine fwd_at K J p 196 0 (s, 0) (by omega) (by omega) h (fun p t _ h2 ht => fwd_inv K nd 0 t ht (fun d t _ h3 ht => hK p d t (by omega) (by omega) ht)) ?_ ?_
  · intro t ht
    exact fwd_at K J d nd 0 t (by omega) (by omega) ht (fun d t _ h3 ht => hK p d t hp (by omega) ht) hJ (fun d t _ h3 h4 h5 => hKJ p d t hp (by omega) h4 h5)
  · intro p t _ h2 h3 h4
    exact (fwd_inv (fun t => K t ∧ J t) nd 0 t ⟨h3, h4⟩ (fun d t _ h5 h6 => ⟨hK p d t (by omega) (by omega) h6.1, hKJ p d t (by omega) (by omega) h6.1 h6.2⟩)).2
/-- sweeps settle -/
theorem sweeps {σ : Type} {S : Nat → Nat → σ × Nat → σ × Nat} {nd : Nat} (I : σ → Prop) (St : σ → Nat → Prop)
    (hI : ∀ p d t, p < 196 → d < nd → I t.1 → I (S p d t).1)
    (hSt : ∀ p d t w, p < 196 → d < nd → w < 196 → I t.1 → St t.1 w → St (S p d t).1 w)
    (hfl : ∀ p d t, S p d t = t ∨ (S p d t).2 ≠ 0)
    (hImp : ∀ s, I s → (∃ p, p < 196 ∧ ¬ St s p) → ∃ u w p d, u < 196 ∧ w < 196 ∧ p < 196 ∧ d < nd ∧ ¬ St s w ∧ St s u ∧ ∀ t : σ × Nat, I t.1 → St t.1 u → St (S p d t).1 w)
    (N : Nat) (hN : 196 ≤ N) (s : σ) (h : I s) : I (rounds (sweep S nd) N (s, 1)).1 ∧ ∀ p, p < 196 → St (rounds (sweep S nd) N (s, 1)).1 p := by
  refine rounds_ok I St ?_ ?_ ?_ N (s, 1) h (fun q => by cases q) (Nat.le_trans (ncnt_le _ _) hN)
  · intro s hs
    exact sweep_inv (fun t => I t.1) (fun p d t h1 h2 h3 => hI p d t h1 h2 h3) s hs
  · intro s w hs hw hw2
    exact (sweep_inv (fun t => I t.1 ∧ St t.1 w) (fun p d t h1 h2 h3 => ⟨hI p d t h1 h2 h3.1, hSt p d t w h1 h2 hw h3.1 h3.2⟩) s ⟨hs, hw2⟩).2
  · intro s hs hu
    obtain ⟨u, w, p, d, k1, k2, k3, k4, k5, k6, k7⟩ := hImp s hs hu
    have hw : St (sweep S nd s).1 w := sweep_at (fun t => I t.1 ∧ St t.1 u) (fun t => St t.1 w) k3 k4 (fun p d t h1 h2 h3 => ⟨hI p d t h1 h2 h3.1, hSt p d t u h1 h2 k1 h3.1 h3.2⟩) (fun t ht => k7 t ht.1 ht.2) (fun p d t h1 h2 h3 h4 => hSt p d t w h1 h2 k2 h3.1 h4) s ⟨hs, k6⟩
    refine ⟨fun hz => ?_, w, k2, k5, hw⟩
    have hsame : (sweep S nd s).2 = 0 → (sweep S nd s).1 = s := by
      refine sweep_inv (fun t => t.2 = 0 → t.1 = s) (fun p d t _ _ ht => ?_) s (fun _ => rfl)
      rcases hfl p d t with e | e
      · rw [e]; exact ht
      · exact fun q => absurd q e
    rw [hsame hz] at hw
    exact k5 hw
end
section
/-! ===== the plane law, 4: what the reference's loops compute ===== -/
theorem up_eq (s : Nat → Nat → Nat) (k j v : Nat) : up s k j v k j = v := by unfold up; rw [if_pos rfl, if_pos rfl]
theorem up_ne {s : Nat → Nat → Nat} {k j v k' j' : Nat} (h : k' ≠ k ∨ j' ≠ j) : up s k j v k' j' = s k' j' := by
  unfold up
  by_cases e : k' = k
  · rw [if_pos e, if_neg (by omega)]
  · rw [if_neg e]
theorem up_row {s : Nat → Nat → Nat} {k j v k' : Nat} (h : k' ≠ k) : up s k j v k' = s k' := by
  funext j'
  exact up_ne (Or.inl h)
def srS (p d : Nat) (t : (Nat → Nat → Nat) × Nat) : (Nat → Nat → Nat) × Nat :=
  if nr p d < 196 ∧ stp (t.1 2) p (nr p d) d ∧ t.1 3 (nr p d) < t.1 3 p then (up t.1 3 p (t.1 3 (nr p d)), 1) else t
def frI (s : Nat → Nat → Nat) : Nat → Nat → Nat := fwd (fun p s => up s 3 p p) 196 0 s
def frN (N : Nat) (s : Nat → Nat → Nat) : Nat → Nat → Nat := (rounds (sweep srS 9) N (s, 1)).1
def frF (s : Nat → Nat → Nat) : Nat → Nat → Nat := frN 197 (frI s)
theorem frI_ok (s : Nat → Nat → Nat) : ∀ n k, k + n = 196 → ∀ s' : Nat → Nat → Nat, (∀ k', k' ≠ 3 → s' k' = s k') → (∀ p, p < k → s' 3 p = p) → (∀ k', k' ≠ 3 → fwd (fun p s => up s 3 p p) n k s' k' = s k') ∧ ∀ p, p < 196 → fwd (fun p s => up s 3 p p) n k s' 3 p = p := by
  intro n
  induction n with
  | zero =>
    intro k hk s' h1 h2
    exact ⟨h1, fun p hp => h2 p (by omega)⟩
  | succ n ih =>
    intro k hk s' h1 h2
    refine ih (k + 1) (by omega) (up s' 3 k k) (fun k' hk' => by rw [up_row hk']; exact h1 k' hk') (fun p hp => ?_)
    by_cases e : p = k
    · subst e; exact up_eq _ _ _ _
    · rw [up_ne (Or.inr e)]; exact h2 p (by omega)
theorem frF_core (s s0 : Nat → Nat → Nat) (N : Nat) (hN : 196 ≤ N) (i1 : ∀ k', k' ≠ 3 → s0 k' = s k') (i2 : ∀ p, p < 196 → s0 3 p = p) : (∀ k', k' ≠ 3 → frN N s0 k' = s k') ∧ ∀ p, p < 196 → frN N s0 3 p = rt (s 2) p := by
  unfold frN
  have key := sweeps (S := srS) (nd := 9) (fun t => (∀ k', k' ≠ 3 → t k' = s k') ∧ ∀ p, p < 196 → Conn (s 2) p (t 3 p) ∧ t 3 p ≤ p) (fun t p => t 3 p = rt (s 2) p) ?_ ?_ ?_ ?_ N hN s0 ⟨i1, fun p hp => by rw [i2 p hp]; exact ⟨Conn.refl _ _, Nat.le_refl _⟩⟩
  · exact ⟨key.1.1, key.2⟩
  · intro p d t hp hd ht
    unfold srS
    split
    · rename_i h
      obtain ⟨h1, h2, h3⟩ := h
      rw [ht.1 2 (by decide)] at h2
      refine ⟨fun k' hk' => by dsimp only; rw [up_row hk']; exact ht.1 k' hk', fun w hw => ?_⟩
      dsimp only
      by_cases e : w = p
      · subst e
        rw [up_eq]
        exact ⟨(Conn.of ⟨hp, h1, d, hd, rfl, h2⟩).trans (ht.2 _ h1).1, by have := (ht.2 w hw).2; omega⟩
      · rw [up_ne (Or.inr e)]; exact ht.2 w hw
    · exact ht
  · intro p d t w hp hd hw ht hs
    unfold srS
    split
    · rename_i h
      obtain ⟨h1, h2, h3⟩ := h
      rw [ht.1 2 (by decide)] at h2
      dsimp only
      by_cases e : w = p
      · subst e
        have := rt_min ((Conn.of ⟨hp, h1, d, hd, rfl, h2⟩).trans (ht.2 _ h1).1)
        omega
      · rw [up_ne (Or.inr e)]; exact hs
    · exact hs
  · intro p d t
    unfold srS
    split
    · exact Or.inr (Nat.succ_ne_zero 0)
    · exact Or.inl rfl
  · intro t ht hu
    obtain ⟨p, hp, hup⟩ := hu
    have hr : t 3 (rt (s 2) p) = rt (s 2) (rt (s 2) p) := by
      have h1 := rt_le (s 2) p
      have h2 := ht.2 (rt (s 2) p) (by omega)
      have h3 := rt_min h2.1
      have h4 := rt_rt (s 2) p
      omega
    have hex : ∃ u w, Lk (s 2) w u ∧ t 3 u = rt (s 2) u ∧ ¬ t 3 w = rt (s 2) w := by
      apply Classical.not_not.mp
      intro hn
      refine hup ((rt_conn (s 2) p (fun u => t 3 u = rt (s 2) u) (fun u w h => ⟨fun a => ?_, fun a => ?_⟩)).mpr hr)
      · exact Classical.not_not.mp (fun b => hn ⟨u, w, h.symm, a, b⟩)
      · exact Classical.not_not.mp (fun b => hn ⟨w, u, h, a, b⟩)
    obtain ⟨u, w, hl, h1, h2⟩ := hex
    have hrt := rt_lk hl
    obtain ⟨hw, hu, d, hd, hn, hs⟩ := hl
    refine ⟨u, w, w, d, hu, hw, hw, hd, h2, h1, fun t' ht' hs' => ?_⟩
    unfold srS
    subst hn
    split
    · dsimp only
      rw [up_eq, hrt]; exact hs'
    · rename_i h
      rw [ht'.1 2 (by decide)] at h
      have h3 := rt_min (ht'.2 w hw).1
      have h4 : ¬ t'.1 3 (nr w d) < t'.1 3 w := fun q => h ⟨hu, hs, q⟩
      rw [hs'] at h4
      omega
theorem frF_ok (s : Nat → Nat → Nat) : (∀ k', k' ≠ 3 → frF s k' = s k') ∧ ∀ p, p < 196 → frF s 3 p = rt (s 2) p := by
  have ii := frI_ok s 196 0 rfl s (fun _ _ => rfl) (fun p hp => by omega)
  exact frF_core s (frI s) 197 (by omega) ii.1 ii.2
/-- colour changes -/
def cst (b : Nat → Nat) (p q d : Nat) : Nat := if stp b p q d then 0 else if b p ≠ b q ∧ d % 2 = 1 then 1 else 1000
def scS (p d : Nat) (t : (Nat → Nat → Nat) × Nat) : (Nat → Nat → Nat) × Nat :=
  if nr p d < 196 ∧ t.1 4 (nr p d) + cst (t.1 2) p (nr p d) d < t.1 4 p then (up t.1 4 p (t.1 4 (nr p d) + cst (t.1 2) p (nr p d) d), 1) else t
def fcI (s : Nat → Nat → Nat) : Nat → Nat → Nat := fwd (fun p s => up s 4 p (if p = 0 then 0 else 500)) 196 0 s
def fcN (N : Nat) (s : Nat → Nat → Nat) : Nat → Nat → Nat := (rounds (sweep scS 9) N (s, 1)).1
def fcF (s : Nat → Nat → Nat) : Nat → Nat → Nat := fcN 197 (fcI s)
theorem fcI_ok (s : Nat → Nat → Nat) : ∀ n k, k + n = 196 → ∀ s' : Nat → Nat → Nat, (∀ k', k' ≠ 4 → s' k' = s k') → (∀ p, p < k → s' 4 p = if p = 0 then 0 else 500) → (∀ k', k' ≠ 4 → fwd (fun p s => up s 4 p (if p = 0 then 0 else 500)) n k s' k' = s k') ∧ ∀ p, p < 196 → fwd (fun p s => up s 4 p (if p = 0 then 0 else 500)) n k s' 4 p = if p = 0 then 0 else 500 := by
  intro n
  induction n with
  | zero =>
    intro k hk s' h1 h2
    exact ⟨h1, fun p hp => h2 p (by omega)⟩
  | succ n ih =>
    intro k hk s' h1 h2
    refine ih (k + 1) (by omega) (up s' 4 k (if k = 0 then 0 else 500)) (fun k' hk' => by rw [up_row hk']; exact h1 k' hk') (fun p hp => ?_)
    by_cases e : p = k
    · subst e; exact up_eq _ _ _ _
    · rw [up_ne (Or.inr e)]; exact h2 p (by omega)
theorem cst_le {b : Nat → Nat} (hb : Pic b) {p d : Nat} (hp : p < 196) (hd : d < 9) (h : nr p d < 196) : lev b (rt b p) ≤ lev b (rt b (nr p d)) + cst b p (nr p d) d := by
  unfold cst
  split
  · rename_i k
    rw [rt_lk ⟨hp, h, d, hd, rfl, k⟩]; omega
  · split
    · rename_i k1 k
      rcases tree_d hb hp hd k.2 h k.1 with q | q <;> omega
    · have := lev_le13 hb hp
      omega
theorem fcF_core (s s0 : Nat → Nat → Nat) (N : Nat) (hN : 196 ≤ N) (hb : Pic (s 2)) (i1 : ∀ k', k' ≠ 4 → s0 k' = s k') (i2 : ∀ p, p < 196 → s0 4 p = if p = 0 then 0 else 500) : (∀ k', k' ≠ 4 → fcN N s0 k' = s k') ∧ ∀ p, p < 196 → fcN N s0 4 p = lev (s 2) (rt (s 2) p) := by
  have r0 : rt (s 2) 0 = 0 := by have := rt_le (s 2) 0; omega
  unfold fcN
  have key := sweeps (S := scS) (nd := 9) (fun t => (∀ k', k' ≠ 4 → t k' = s k') ∧ t 4 0 = 0 ∧ ∀ p, p < 196 → lev (s 2) (rt (s 2) p) ≤ t 4 p) (fun t p => t 4 p = lev (s 2) (rt (s 2) p)) ?_ ?_ ?_ ?_ N hN s0 ⟨i1, by rw [i2 0 (by decide)]; rfl, fun p hp => by
    rw [i2 p hp]
    by_cases e : p = 0
    · subst e; rw [r0, lev_0]; exact Nat.zero_le _
    · rw [if_neg e]; have := lev_le13 hb hp; omega⟩
  · exact ⟨key.1.1, key.2⟩
  · intro p d t hp hd ht
    unfold scS
    split
    · rename_i h
      obtain ⟨h1, h3⟩ := h
      rw [ht.1 2 (by decide)] at h3 ⊢
      have h4 := cst_le hb hp hd h1
      have h5 := ht.2.2 (nr p d) h1
      refine ⟨fun k' hk' => by dsimp only; rw [up_row hk']; exact ht.1 k' hk', ?_, fun w hw => ?_⟩
      · dsimp only
        by_cases e : 0 = p
        · subst e; have := ht.2.1; omega
        · rw [up_ne (Or.inr e)]; exact ht.2.1
      · dsimp only
        by_cases e : w = p
        · subst e
          rw [up_eq]
          omega
        · rw [up_ne (Or.inr e)]; exact ht.2.2 w hw
    · exact ht
  · intro p d t w hp hd hw ht hs
    unfold scS
    split
    · rename_i h
      obtain ⟨h1, h3⟩ := h
      rw [ht.1 2 (by decide)] at h3 ⊢
      have h4 := cst_le hb hp hd h1
      have h5 := ht.2.2 (nr p d) h1
      dsimp only
      by_cases e : w = p
      · subst e; omega
      · rw [up_ne (Or.inr e)]; exact hs
    · exact hs
  · intro p d t
    unfold scS
    split
    · exact Or.inr (Nat.succ_ne_zero 0)
    · exact Or.inl rfl
  · intro t ht hu
    have fin : ∀ u w d, u < 196 → w < 196 → d < 9 → nr w d = u → lev (s 2) (rt (s 2) w) = lev (s 2) (rt (s 2) u) + cst (s 2) w u d → ∀ t' : (Nat → Nat → Nat) × Nat, ((∀ k', k' ≠ 4 → t'.1 k' = s k') ∧ t'.1 4 0 = 0 ∧ ∀ p, p < 196 → lev (s 2) (rt (s 2) p) ≤ t'.1 4 p) → t'.1 4 u = lev (s 2) (rt (s 2) u) → (scS w d t').1 4 w = lev (s 2) (rt (s 2) w) := by
      intro u w d hu hw hd hn he t' ht' hs'
      subst hn
      unfold scS
      split
      · dsimp only
        rw [up_eq, ht'.1 2 (by decide), he, hs']
      · rename_i h
        rw [ht'.1 2 (by decide)] at h
        have h3 := ht'.2.2 w hw
        have h4 : ¬ t'.1 4 (nr w d) + cst (s 2) w (nr w d) d < t'.1 4 w := fun q => h ⟨hu, q⟩
        omega
    obtain ⟨p, hp, hup⟩ := hu
    have main : ∀ n p, p ≤ n → p < 196 → ¬ t 4 p = lev (s 2) (rt (s 2) p) → ∃ u w p d, u < 196 ∧ w < 196 ∧ p < 196 ∧ d < 9 ∧ ¬ t 4 w = lev (s 2) (rt (s 2) w) ∧ t 4 u = lev (s 2) (rt (s 2) u) ∧ ∀ t' : (Nat → Nat → Nat) × Nat, ((∀ k', k' ≠ 4 → t'.1 k' = s k') ∧ t'.1 4 0 = 0 ∧ ∀ p, p < 196 → lev (s 2) (rt (s 2) p) ≤ t'.1 4 p) → t'.1 4 u = lev (s 2) (rt (s 2) u) → (scS p d t').1 4 w = lev (s 2) (rt (s 2) w) := by
      intro n
      induction n with
      | zero =>
        intro p hn hp hup
        obtain rfl : p = 0 := by omega
        exact absurd (by rw [r0, lev_0]; exact ht.2.1) hup
      | succ n ih =>
        intro p hn hp hup
        have hl := rt_le (s 2) p
        by_cases hr : t 4 (rt (s 2) p) = lev (s 2) (rt (s 2) (rt (s 2) p))
        · have hex : ∃ u w, Lk (s 2) w u ∧ t 4 u = lev (s 2) (rt (s 2) u) ∧ ¬ t 4 w = lev (s 2) (rt (s 2) w) := by
            apply Classical.not_not.mp
            intro hn
            refine hup ((rt_conn (s 2) p (fun u => t 4 u = lev (s 2) (rt (s 2) u)) (fun u w h => ⟨fun a => ?_, fun a => ?_⟩)).mpr hr)
            · exact Classical.not_not.mp (fun b => hn ⟨u, w, h.symm, a, b⟩)
            · exact Classical.not_not.mp (fun b => hn ⟨w, u, h, a, b⟩)
          obtain ⟨u, w, hl, h1, h2⟩ := hex
          have hrt := rt_lk hl
          obtain ⟨hw, hu, d, hd, hn, hs⟩ := hl
          refine ⟨u, w, w, d, hu, hw, hw, hd, h2, h1, fin u w d hu hw hd hn ?_⟩
          rw [hrt]
          unfold cst
          rw [if_pos hs]; rfl
        · generalize hc : rt (s 2) p = c at hr hl
          have hcc : rt (s 2) c = c := by rw [← hc]; exact rt_rt _ _
          have h0 : c ≠ 0 := by
            intro e
            subst e
            exact hr (by rw [r0, lev_0]; exact ht.2.1)
          obtain ⟨hx, -, hy, hy2⟩ := root_in hb (by omega) hcc h0
          have hle := root_left hb (by omega) hcc h0
          by_cases hq : t 4 (c - 1) = lev (s 2) (rt (s 2) (c - 1))
          · refine ⟨c - 1, c, c, 3, by omega, by omega, by omega, by omega, hr, hq, fin (c - 1) c 3 (by omega) (by omega) (by omega) (nr_3 (by omega) hx) ?_⟩
            unfold cst
            rw [if_neg (fun q => hle q.1.symm), if_pos ⟨Ne.symm hle, rfl⟩, hcc, lev_s _ h0]
            rfl
          · exact ih (c - 1) (by omega) (by omega) hq
    exact main p p (Nat.le_refl _) hp hup
theorem fcF_ok (s : Nat → Nat → Nat) (hb : Pic (s 2)) : (∀ k', k' ≠ 4 → fcF s k' = s k') ∧ ∀ p, p < 196 → fcF s 4 p = lev (s 2) (rt (s 2) p) := by
  have ii := fcI_ok s 196 0 rfl s (fun _ _ => rfl) (fun p hp => by omega)
  exact fcF_core s (fcI s) 197 (by omega) hb ii.1 ii.2
end
section
/-! ===== the plane law, 5: what is reached from outside when a component is avoided ===== -/
def saS (av p i : Nat) (t : (Nat → Nat → Nat) × Nat) : (Nat → Nat → Nat) × Nat :=
  if nr p (2 * i + 1) < 196 ∧ t.1 5 p ≠ 0 ∧ t.1 5 (nr p (2 * i + 1)) = 0 ∧ t.1 3 (nr p (2 * i + 1)) ≠ av then (up t.1 5 (nr p (2 * i + 1)) 1, 1) else t
def faI (s : Nat → Nat → Nat) : Nat → Nat → Nat := fwd (fun p s => up s 5 p (if p = 0 then 1 else 0)) 196 0 s
def faN (av N : Nat) (s : Nat → Nat → Nat) : Nat → Nat → Nat := (rounds (sweep (saS av) 4) N (s, 1)).1
def faF (av : Nat) (s : Nat → Nat → Nat) : Nat → Nat → Nat := faN av 197 (faI s)
theorem faI_ok (s : Nat → Nat → Nat) : ∀ n k, k + n = 196 → ∀ s' : Nat → Nat → Nat, (∀ k', k' ≠ 5 → s' k' = s k') → (∀ p, p < k → s' 5 p = if p = 0 then 1 else 0) → (∀ k', k' ≠ 5 → fwd (fun p s => up s 5 p (if p = 0 then 1 else 0)) n k s' k' = s k') ∧ ∀ p, p < 196 → fwd (fun p s => up s 5 p (if p = 0 then 1 else 0)) n k s' 5 p = if p = 0 then 1 else 0 := by
  intro n
  induction n with
  | zero =>
    intro k hk s' h1 h2
    exact ⟨h1, fun p hp => h2 p (by omega)⟩
  | succ n ih =>
    intro k hk s' h1 h2
    refine ih (k + 1) (by omega) (up s' 5 k (if k = 0 then 1 else 0)) (fun k' hk' => by rw [up_row hk']; exact h1 k' hk') (fun p hp => ?_)
    by_cases e : p = k
    · subst e; exact up_eq _ _ _ _
    · rw [up_ne (Or.inr e)]; exact h2 p (by omega)
theorem anc_self (b : Nat → Nat) (k : Nat) : anc b k k = k := anc_le b (Nat.le_refl _)
/-- parent of what is not below av is not below av -/
theorem anc_par {b : Nat → Nat} {av c : Nat} (h0 : c ≠ 0) (h : anc b av c ≠ av) : anc b av (par b c) ≠ av := by
  have hl := par_lt b h0
  by_cases k : c ≤ av
  · rw [anc_le b k] at h
    rw [anc_le b (by omega)]
    omega
  · rw [anc_gt b (by omega)] at h
    exact h
theorem anc_child {b : Nat → Nat} {av c : Nat} (hc : c ≠ av) (h : anc b av (par b c) ≠ av) : anc b av c ≠ av := by
  by_cases k : c ≤ av
  · rw [anc_le b k]; exact hc
  · rw [anc_gt b (by omega)]; exact h
theorem sub_step {b : Nat → Nat} (hb : Pic b) {av p i : Nat} (hp : p < 196) (hi : i < 4) (h : nr p (2 * i + 1) < 196) (hg : anc b av (rt b p) ≠ av) (hr : rt b (nr p (2 * i + 1)) ≠ av) : anc b av (rt b (nr p (2 * i + 1))) ≠ av := by
  by_cases e : b p = b (nr p (2 * i + 1))
  · rw [← rt_lk ⟨hp, h, 2 * i + 1, by omega, rfl, e, Or.inr (by omega)⟩]
    exact hg
  · rcases tree_d hb hp (by omega) (by omega) h e with ⟨k0, k1, -⟩ | ⟨k0, k1, -⟩
    · rw [← k1]
      exact anc_par k0 hg
    · refine anc_child hr ?_
      rw [k1]
      exact hg
theorem diag_mid {u d : Nat} (hu : u < 196) (hd : d < 9) (ho : d % 2 = 0) (h : nr u d < 196) (hne : nr u d ≠ u) : ∃ q i j, q < 196 ∧ i < 4 ∧ j < 4 ∧ nr u (2 * i + 1) = q ∧ nr q (2 * j + 1) = nr u d := by
  have hc := nr_cases hd h
  obtain ⟨w, hw⟩ : ∃ w, w = nr u d := ⟨_, rfl⟩
  rw [← hw] at hc h hne ⊢
  rcases hc with ⟨rfl, k⟩ | ⟨rfl, k⟩ | ⟨rfl, k⟩ | ⟨rfl, k⟩ | ⟨rfl, k⟩ | ⟨rfl, k⟩ | ⟨rfl, k⟩ | ⟨rfl, k⟩ | ⟨rfl, k⟩
  · exact ⟨u - 1, 1, 0, by omega, by omega, by omega, nr_3 hu k.2, by rw [nr_1 (by omega) (by omega)]; omega⟩
  · omega
  · exact ⟨u + 1, 2, 0, by omega, by omega, by omega, nr_5 hu k.2, by rw [nr_1 (by omega) (by omega)]; omega⟩
  · omega
  · omega
  · omega
  · exact ⟨u - 1, 1, 3, by omega, by omega, by omega, nr_3 hu k.2, by rw [nr_7 (by omega)]; omega⟩
  · omega
  · exact ⟨u + 1, 2, 3, by omega, by omega, by omega, nr_5 hu k.2, by rw [nr_7 (by omega)]; omega⟩
theorem faF_core (s s0 : Nat → Nat → Nat) (av N : Nat) (hN : 196 ≤ N) (hb : Pic (s 2)) (hρ : ∀ p, p < 196 → s 3 p = rt (s 2) p) (ha : av < 196) (hbl : s 2 av ≠ 0) (i1 : ∀ k', k' ≠ 5 → s0 k' = s k') (i2 : ∀ p, p < 196 → s0 5 p = if p = 0 then 1 else 0) :
    (∀ k', k' ≠ 5 → faN av N s0 k' = s k') ∧ ∀ p, p < 196 → (faN av N s0 5 p ≠ 0 ↔ anc (s 2) av (rt (s 2) p) ≠ av) := by
  unfold faN
  have r0 : rt (s 2) 0 = 0 := by have := rt_le (s 2) 0; omega
  have a0 : av ≠ 0 := fun e => by rw [e, hb.1 0 (by omega) (Or.inl rfl)] at hbl; exact hbl rfl
  have key := sweeps (S := saS av) (nd := 4) (fun t => (∀ k', k' ≠ 5 → t k' = s k') ∧ t 5 0 ≠ 0 ∧ ∀ p, p < 196 → t 5 p ≠ 0 → anc (s 2) av (rt (s 2) p) ≠ av) (fun t p => anc (s 2) av (rt (s 2) p) ≠ av → t 5 p ≠ 0) ?_ ?_ ?_ ?_ N hN s0 ⟨i1, by rw [i2 0 (by decide)]; decide, fun p hp => by
    rw [i2 p hp]
    by_cases e : p = 0
    · intro _
      rw [e, r0, anc_le _ (by omega)]
      omega
    · rw [if_neg e]; intro h; exact absurd rfl h⟩
  · exact ⟨key.1.1, fun p hp => ⟨fun h => key.1.2.2 p hp h, fun h => key.2 p hp h⟩⟩
  · intro p i t hp hi ht
    unfold saS
    split
    · rename_i h
      obtain ⟨h1, h2, h3, h4⟩ := h
      rw [ht.1 3 (by decide), hρ _ h1] at h4
      refine ⟨fun k' hk' => by dsimp only; rw [up_row hk']; exact ht.1 k' hk', ?_, fun w hw => ?_⟩
      · dsimp only
        by_cases e : 0 = nr p (2 * i + 1)
        · rw [← e, up_eq]; exact Nat.succ_ne_zero 0
        · rw [up_ne (Or.inr e)]; exact ht.2.1
      · dsimp only
        by_cases e : w = nr p (2 * i + 1)
        · intro _
          rw [e]
          exact sub_step hb hp hi h1 (ht.2.2 p hp h2) h4
        · rw [up_ne (Or.inr e)]; exact ht.2.2 w hw
    · exact ht
  · intro p i t w hp hi hw ht hs
    unfold saS
    split
    · dsimp only
      intro hg
      by_cases e : w = nr p (2 * i + 1)
      · rw [e, up_eq]; exact Nat.succ_ne_zero 0
      · rw [up_ne (Or.inr e)]; exact hs hg
    · exact hs
  · intro p d t
    unfold saS
    split
    · exact Or.inr (Nat.succ_ne_zero 0)
    · exact Or.inl rfl
  · intro t ht hu
    have fin : ∀ u w i, u < 196 → w < 196 → i < 4 → nr u (2 * i + 1) = w → anc (s 2) av (rt (s 2) u) ≠ av → rt (s 2) w ≠ av → t 5 u ≠ 0 → t 5 w = 0 → ∃ u w p d, u < 196 ∧ w < 196 ∧ p < 196 ∧ d < 4 ∧ ¬ (anc (s 2) av (rt (s 2) w) ≠ av → t 5 w ≠ 0) ∧ (anc (s 2) av (rt (s 2) u) ≠ av → t 5 u ≠ 0) ∧ ∀ t' : (Nat → Nat → Nat) × Nat, ((∀ k', k' ≠ 5 → t'.1 k' = s k') ∧ t'.1 5 0 ≠ 0 ∧ ∀ p, p < 196 → t'.1 5 p ≠ 0 → anc (s 2) av (rt (s 2) p) ≠ av) → (anc (s 2) av (rt (s 2) u) ≠ av → t'.1 5 u ≠ 0) → (anc (s 2) av (rt (s 2) w) ≠ av → (saS av p d t').1 5 w ≠ 0) := by
      intro u w i hu hw hi hn hg hr k1 k2
      subst hn
      have hg2 := sub_step hb hu hi hw hg hr
      refine ⟨u, nr u (2 * i + 1), u, i, hu, hw, hu, hi, fun q => q hg2 k2, fun _ => k1, fun t' ht' hs' _ => ?_⟩
      unfold saS
      split
      · dsimp only; rw [up_eq]; exact Nat.succ_ne_zero 0
      · rename_i h
        intro hz
        exact h ⟨hw, hs' hg, hz, by rw [ht'.1 3 (by decide), hρ _ hw]; exact hr⟩
    obtain ⟨p, hp, hup⟩ := hu
    have main : ∀ n p, p ≤ n → p < 196 → anc (s 2) av (rt (s 2) p) ≠ av → t 5 p = 0 → ∃ u w p d, u < 196 ∧ w < 196 ∧ p < 196 ∧ d < 4 ∧ ¬ (anc (s 2) av (rt (s 2) w) ≠ av → t 5 w ≠ 0) ∧ (anc (s 2) av (rt (s 2) u) ≠ av → t 5 u ≠ 0) ∧ ∀ t' : (Nat → Nat → Nat) × Nat, ((∀ k', k' ≠ 5 → t'.1 k' = s k') ∧ t'.1 5 0 ≠ 0 ∧ ∀ p, p < 196 → t'.1 5 p ≠ 0 → anc (s 2) av (rt (s 2) p) ≠ av) → (anc (s 2) av (rt (s 2) u) ≠ av → t'.1 5 u ≠ 0) → (anc (s 2) av (rt (s 2) w) ≠ av → (saS av p d t').1 5 w ≠ 0) := by
      intro n
      induction n with
      | zero =>
        intro p hn hp hg hz
        obtain rfl : p = 0 := by omega
        exact absurd hz ht.2.1
      | succ n ih =>
        intro p hn hp hg hz
        have hl := rt_le (s 2) p
        by_cases hr : t 5 (rt (s 2) p) = 0
        · generalize hc : rt (s 2) p = c at hr hl hg
          have hcc : rt (s 2) c = c := by rw [← hc]; exact rt_rt _ _
          have h0 : c ≠ 0 := by
            intro e
            subst e
            exact ht.2.1 hr
          obtain ⟨hx, -, hy, hy2⟩ := root_in hb (by omega) hcc h0
          have hg2 : anc (s 2) av (rt (s 2) (c - 1)) ≠ av := anc_par h0 hg
          have hca : c ≠ av := fun e => hg (by rw [e]; exact anc_self _ _)
          by_cases hq : t 5 (c - 1) = 0
          · exact ih (c - 1) (by omega) (by omega) hg2 hq
          · exact fin (c - 1) c 2 (by omega) (by omega) (by omega) (by rw [nr_5 (by omega) (by omega)]; omega) hg2 (by rw [hcc]; exact hca) hq hr
        · have hex : ∃ u w, Lk (s 2) u w ∧ t 5 u ≠ 0 ∧ t 5 w = 0 := by
            apply Classical.not_not.mp
            intro hn
            refine ((rt_conn (s 2) p (fun u => t 5 u ≠ 0) (fun u w h => ⟨fun a => ?_, fun a => ?_⟩)).mpr hr) hz
            · exact fun b => hn ⟨u, w, h, a, b⟩
            · exact fun b => hn ⟨w, u, h.symm, a, b⟩
          obtain ⟨u, w, hlk, h1, h2⟩ := hex
          have hrt := rt_lk hlk
          obtain ⟨hu, hw, d, hd, hn, hs⟩ := hlk
          have hgu := ht.2.2 u hu h1
          have hru : rt (s 2) u ≠ av := fun e => hgu (by rw [e]; exact anc_self _ _)
          have hrw : rt (s 2) w ≠ av := by rw [← hrt]; exact hru
          subst hn
          by_cases ho : d % 2 = 1
          · exact fin u (nr u d) (d / 2) hu hw (by omega) (by rw [show 2 * (d / 2) + 1 = d by omega]) hgu hrw h1 h2
          · obtain ⟨q, i, j, hq, hi, hj, e1, e2⟩ := diag_mid hu hd (by omega) hw (fun e => by rw [e] at h2; exact h1 h2)
            have hrq : rt (s 2) q ≠ av := by
              by_cases hbq : s 2 q = 0
              · intro e
                have := rt_col (s 2) q
                rw [e, hbq] at this
                exact hbl this
              · have hbu : s 2 u ≠ 0 := by rcases hs.2 with k | k; exact k; exact absurd k ho
                have c1 := hb.2 q
                have c2 := hb.2 u
                rw [← rt_lk (b := s 2) (p := u) (q := q) ⟨hu, hq, 2 * i + 1, by omega, e1, by omega, Or.inr (by omega)⟩]
                exact hru
            by_cases hqz : t 5 q = 0
            · exact fin u q i hu hq hi e1 hgu hrq h1 hqz
            · exact fin q (nr u d) j hq hw hj e2 (ht.2.2 q hq hqz) hrw hqz h2
    have hg : anc (s 2) av (rt (s 2) p) ≠ av := fun e => hup (fun q => absurd e q)
    exact main p p (Nat.le_refl _) hp hg (Classical.not_not.mp (fun q => hup (fun _ => q)))
theorem faF_ok (s : Nat → Nat → Nat) (av : Nat) (hb : Pic (s 2)) (hρ : ∀ p, p < 196 → s 3 p = rt (s 2) p) (ha : av < 196) (hbl : s 2 av ≠ 0) : (∀ k', k' ≠ 5 → faF av s k' = s k') ∧ ∀ p, p < 196 → (faF av s 5 p ≠ 0 ↔ anc (s 2) av (rt (s 2) p) ≠ av) := by
  have ii := faI_ok s 196 0 rfl s (fun _ _ => rfl) (fun p hp => by omega)
  exact faF_core s (faI s) av 197 (by omega) hb hρ ha hbl ii.1 ii.2
end
section
set_option maxRecDepth 100000
/-! ===== CompLabel: first, unite ===== -/
abbrev rmF (f k : Nat) : Room := { frames := f, cells := 0, slots := 0, locals := k }
def fstF (lead : Nat → Nat) : Nat → Nat → Nat
  | 0, r => r
  | n + 1, r => if lead r = r then r else fstF lead n (lead r)
def fst (lead : Nat → Nat) (r : Nat) : Nat := fstF lead r r
def uniteF (s : Nat → Nat → Nat) (a b : Nat) : Nat → Nat → Nat := if fst (s 8) a < fst (s 8) b then up s 8 (fst (s 8) b) (fst (s 8) a) else up s 8 (fst (s 8) a) (fst (s 8) b)
theorem fstF_le {lead : Nat → Nat} (h : ∀ i, lead i ≤ i) : ∀ n r, fstF lead n r ≤ r := by
  intro n
  induction n with
  | zero => intro r; exact Nat.le_refl _
  | succ n ih =>
    intro r
    show (if lead r = r then r else fstF lead n (lead r)) ≤ r
    split
    · exact Nat.le_refl _
    · exact Nat.le_trans (ih _) (h r)
theorem fst_le {lead : Nat → Nat} (h : ∀ i, lead i ≤ i) (r : Nat) : fst lead r ≤ r := fstF_le h r r
section
variable {p : Program} {l : Launch} {e : Env} {R : Room} {s : State} {m : MethodId} {args : Array Value} {below : List Frame} {meth : Method} {c : Code} {H : Heap} {locs : List Loc} {Q : State → Prop}
variable {G : va_G} {A : Nat → Prop} {H0 : Heap} {σ : Nat → Nat → Nat} {h0 : Nat} {r : Nat → Nat} {d : Nat → ClassId}
theorem first_loop {a : Nat} (C : zC p m c cX1_first 3 s args RX1) (w : clW G h0 r d A s H0 H locs σ) (hF : ∀ i, σ 8 i ≤ i) : ∀ n k, k ≤ n → k < 145 → ∀ ls, lv_has ls 3 [(2, .int (nI k)), (0, .ref h0), (1, .int (nI a))] → (∀ ls, lv_has ls 3 [(2, .int (nI (fstF (σ 8) n k))), (0, .ref h0), (1, .int (nI a))] → W p l e R s m args below meth c H locs 0 0 Q (F0 m 22 ls [])) → W p l e R s m args below meth c H locs 0 0 Q (F0 m 2 ls []) := by
  have hbd := w.2.2.2.2.2
  intro n
  induction n with
  | zero =>
    intro k hk hk2 ls hl K
    have h1 := hF k
    have h2 := hbd 8 k
    refine lv_aload_n C.1 C.2.1 dX1_first_2 rfl (lv_at hl 1 rfl) ?_
    refine cl_g8 C w dX1_first_3 ?_
    refine lv_iload_n C.1 C.2.1 dX1_first_6 rfl (lv_at hl 0 rfl) ?_
    refine cl_l8 C w (by omega) dX1_first_7 ?_
    refine lv_iload_n C.1 C.2.1 dX1_first_8 rfl (lv_at hl 0 rfl) ?_
    refine z_cmp_eq (tgt := 22) C dX1_first_9 (by decide) (by omega) (by omega) (fun c_9 => ?_) (fun c_9 => ?_)
    · exact K ls hl
    · exact absurd (by omega) c_9
  | succ n ih =>
    intro k hk hk2 ls hl K
    have h1 := hF k
    have h2 := hbd 8 k
    refine lv_aload_n C.1 C.2.1 dX1_first_2 rfl (lv_at hl 1 rfl) ?_
    refine cl_g8 C w dX1_first_3 ?_
    refine lv_iload_n C.1 C.2.1 dX1_first_6 rfl (lv_at hl 0 rfl) ?_
    refine cl_l8 C w (by omega) dX1_first_7 ?_
    refine lv_iload_n C.1 C.2.1 dX1_first_8 rfl (lv_at hl 0 rfl) ?_
    refine z_cmp_eq (tgt := 22) C dX1_first_9 (by decide) (by omega) (by omega) (fun c_9 => ?_) (fun c_9 => ?_)
    · have e1 : fstF (σ 8) (n + 1) k = k := if_pos c_9
      rw [e1] at K
      exact K ls hl
    · refine lv_aload_n C.1 C.2.1 dX1_first_12 rfl (lv_at hl 1 rfl) ?_
      refine cl_g8 C w dX1_first_13 ?_
      refine lv_iload_n C.1 C.2.1 dX1_first_16 rfl (lv_at hl 0 rfl) ?_
      refine cl_l8 C w (by omega) dX1_first_17 ?_
      refine lv_istore_n (lv' := [(2, .int (nI (σ 8 k))), (0, .ref h0), (1, .int (nI a))]) C.1 C.2.1 dX1_first_18 rfl hl (by decide) rfl (fun ls hl => ?_)
      refine lv_goto (tgt := 2) C.1 C.2.1 dX1_first_19 (by decide) ?_
      have e1 : fstF (σ 8) (n + 1) k = fstF (σ 8) n (σ 8 k) := if_neg c_9
      rw [e1] at K
      exact ih (σ 8 k) (by omega) (by omega) ls (lv_sub hl [0, 1, 2] rfl) K
end
theorem m_first (l : Launch) (G : va_G) (h0 : Nat) (r : Nat → Nat) (d : Nat → ClassId) (σ : Nat → Nat → Nat) (a : Nat) (ha : a < 145) (hF : ∀ i, σ 8 i ≤ i) : zMi l yX1_first cX1_first 3 (some .int) (rmF 0 0) G (clT d) (clC h0 r d) [.ref h0, .int (nI a)] σ (fun v σ' => v = nI (fst (σ 8) a) ∧ σ' = σ) := by
  refine zMi_of (own := RX1) (by decide) rfl (Nat.le_of_ble_eq_true rfl) ?_
  intro p e s m args below meth c A ls C hr hlk w hl
  have hl : lv_has ls 3 [(0, .ref h0), (1, .int (nI a))] := hl
  refine lv_iload_n C.1 C.2.1 dX1_first_0 rfl (lv_at hl 1 rfl) ?_
  refine lv_istore_n (lv' := [(2, .int (nI a)), (0, .ref h0), (1, .int (nI a))]) C.1 C.2.1 dX1_first_1 rfl hl (by decide) rfl (fun ls hl => ?_)
  refine first_loop C w hF a a (Nat.le_refl _) ha ls (lv_sub hl [0, 1, 2] rfl) (fun ls hl => ?_)
  refine lv_iload_n C.1 C.2.1 dX1_first_22 rfl (lv_at hl 0 rfl) ?_
  exact z_iret C hr hlk w ⟨rfl, rfl⟩ dX1_first_23
theorem m_unite (l : Launch) (G : va_G) (h0 : Nat) (r : Nat → Nat) (d : Nat → ClassId) (σ : Nat → Nat → Nat) (a b : Nat) (ha : a < 145) (hb : b < 145) (hF : ∀ i, σ 8 i ≤ i) : zMv l yX1_unite cX1_unite 5 none (rmF 1 22) G (clT d) (clC h0 r d) [.ref h0, .int (nI a), .int (nI b)] σ (fun σ' => σ' = uniteF σ a b) := by
  refine zMv_of (own := RX1) (by decide) rfl (Nat.le_of_ble_eq_true rfl) ?_
  intro p e s m args below meth c A ls C hr hlk w hl
  have hl : lv_has ls 5 [(0, .ref h0), (1, .int (nI a)), (2, .int (nI b))] := hl
  have h1 := fst_le hF a
  have h2 := fst_le hF b
  refine lv_aload_n C.1 C.2.1 dX1_unite_0 rfl (lv_at hl 0 rfl) ?_
  refine lv_iload_n C.1 C.2.1 dX1_unite_1 rfl (lv_at hl 1 rfl) ?_
  refine z_calli (As := [.int (nI a)]) C (m_first l G h0 r d σ a (by omega) hF) (cwV 1 C.2.2.2.2 (lw_V q135 q137 qs5 q27 q138) rfl rfl rfl (by decide +kernel) ⟨Nat.le_of_ble_eq_true rfl, Nat.le_of_ble_eq_true rfl⟩) w (cl_rc w) rfl hl.1 rfl (Nat.le_of_ble_eq_true rfl) dX1_unite_2 ⟨Nat.le_refl _, Nat.le_refl _⟩ (fun v1 s1 H locs hp w => ?_)
  obtain ⟨hv, hσ⟩ := hp
  subst hv
  rw [hσ] at w
  refine lv_istore_n (lv' := [(3, .int (nI (fst (σ 8) a))), (0, .ref h0), (1, .int (nI a)), (2, .int (nI b))]) C.1 C.2.1 dX1_unite_5 rfl hl (by decide) rfl (fun ls hl => ?_)
  refine lv_aload_n C.1 C.2.1 dX1_unite_6 rfl (lv_at hl 1 rfl) ?_
  refine lv_iload_n C.1 C.2.1 dX1_unite_7 rfl (lv_at hl 3 rfl) ?_
  refine z_calli (As := [.int (nI b)]) C (m_first l G h0 r d σ b (by omega) hF) (cwV 1 C.2.2.2.2 (lw_V q135 q137 qs5 q27 q138) rfl rfl rfl (by decide +kernel) ⟨Nat.le_of_ble_eq_true rfl, Nat.le_of_ble_eq_true rfl⟩) w (cl_rc w) rfl hl.1 rfl (Nat.le_of_ble_eq_true rfl) dX1_unite_8 ⟨Nat.le_refl _, Nat.le_refl _⟩ (fun v2 s2 H locs hp w => ?_)
  obtain ⟨hv, hσ⟩ := hp
  subst hv
  rw [hσ] at w
  refine lv_istore (lv' := [(4, .int (nI (fst (σ 8) b))), (3, .int (nI (fst (σ 8) a))), (0, .ref h0), (1, .int (nI a)), (2, .int (nI b))]) C.1 C.2.1 dX1_unite_11 hl (by decide) rfl (fun ls hl => ?_)
  refine lv_iload_n C.1 C.2.1 dX1_unite_13 rfl (lv_at hl 1 rfl) ?_
  refine lv_iload C.1 C.2.1 dX1_unite_14 (lv_at hl 0 rfl) ?_
  refine z_cmp_ge (tgt := 31) C dX1_unite_16 (by decide) (by omega) (by omega) (fun c_16 => ?_) (fun c_16 => ?_)
  · refine lv_aload_n C.1 C.2.1 dX1_unite_31 rfl (lv_at hl 2 rfl) ?_
    refine cl_g8 C w dX1_unite_32 ?_
    refine lv_iload_n C.1 C.2.1 dX1_unite_35 rfl (lv_at hl 1 rfl) ?_
    refine lv_iload C.1 C.2.1 dX1_unite_36 (lv_at hl 0 rfl) ?_
    refine z_i2s C (by omega) dX1_unite_38 ?_
    refine cl_s8 C w (by omega) (by omega) dX1_unite_39 (fun H locs w => ?_)
    refine z_vret C hr hlk w ?_ dX1_unite_40
    unfold uniteF
    rw [if_neg (by omega)]
  · refine lv_aload_n C.1 C.2.1 dX1_unite_19 rfl (lv_at hl 2 rfl) ?_
    refine cl_g8 C w dX1_unite_20 ?_
    refine lv_iload C.1 C.2.1 dX1_unite_23 (lv_at hl 0 rfl) ?_
    refine lv_iload_n C.1 C.2.1 dX1_unite_25 rfl (lv_at hl 1 rfl) ?_
    refine z_i2s C (by omega) dX1_unite_26 ?_
    refine cl_s8 C w (by omega) (by omega) dX1_unite_27 (fun H locs w => ?_)
    refine lv_goto (tgt := 40) C.1 C.2.1 dX1_unite_28 (by decide) ?_
    refine z_vret C hr hlk w ?_ dX1_unite_40
    unfold uniteF
    rw [if_pos c_16]
end
section
set_option maxRecDepth 100000
/-! ===== CompLabel: inPicture, runAt, cutRow ===== -/
abbrev inP (w h : Nat) (X Y : Int32) : Prop := ¬ X < 0 ∧ ¬ nI w ≤ X ∧ ¬ Y < 0 ∧ ¬ nI h ≤ Y
theorem inP_nat {w h : Nat} {X Y : Int32} (hw : w < 2147483648) (hh : h < 2147483648) (q : inP w h X Y) : ∃ x y, X = nI x ∧ Y = nI y ∧ x < w ∧ y < h := by
  obtain ⟨q1, q2, q3, q4⟩ := q
  obtain ⟨x, hx, rfl⟩ := nI_of q1
  obtain ⟨y, hy, rfl⟩ := nI_of q3
  exact ⟨x, y, rfl, rfl, Nat.not_le.mp (fun k => q2 ((nI_leI hw hx).mpr k)), Nat.not_le.mp (fun k => q4 ((nI_leI hh hy).mpr k))⟩
theorem z_sl : ∀ n, n < 32 → ((nI n &&& 31).toBitVec.smod 32).toNat = n := by decide +kernel
def bit (v x : Nat) : Nat := v / 2 ^ x % 2
theorem bit_lt (v x : Nat) : bit v x < 2 := Nat.mod_lt _ (by decide)
section
variable {p : Program} {l : Launch} {e : Env} {R : Room} {s : State} {m : MethodId} {args : Array Value} {below : List Frame} {meth : Method} {c : Code} {H : Heap} {locs : List Loc} {cells slots : Nat} {Q : State → Prop}
variable {cc : ByteArray} {pc nL : Nat} {ls : Array Slot} {rest : List Value} {own : String}
theorem z_ishr (C : zC p m c cc nL s args own) {a x : Nat} (ha : a < 2147483648) (hx : x < 32) (hd : decode cc pc = .ok (.ishr, 1)) (kk : W p l e R s m args below meth c H locs cells slots Q (F0 m (pc + 1) ls (.int (nI (a / 2 ^ x)) :: rest))) : W p l e R s m args below meth c H locs cells slots Q (F0 m pc ls (.int (nI x) :: .int (nI a) :: rest)) :=
  lv_ishr C.1 C.2.1 hd (by rw [pk_shrN ha _ x (z_sl x hx)]; exact kk)
theorem z_iand1 (C : zC p m c cc nL s args own) {a : Nat} (ha : a < 2147483648) (hd : decode cc pc = .ok (.iand, 1)) (kk : W p l e R s m args below meth c H locs cells slots Q (F0 m (pc + 1) ls (.int (nI (a % 2)) :: rest))) : W p l e R s m args below meth c H locs cells slots Q (F0 m pc ls (.int (nI 1) :: .int (nI a) :: rest)) :=
  lv_iand C.1 C.2.1 hd (by rw [pk_andN (m := nI 1) (by omega) 1 rfl]; exact kk)
theorem z_bit (C : zC p m c cc nL s args own) {v x : Nat} (hv : v < 2147483648) (hx : x < 32) (hd : decode cc pc = .ok (.ishr, 1)) (hd1 : decode cc (pc + 1) = .ok (.iconst 1, 1)) (hd2 : decode cc (pc + 2) = .ok (.iand, 1)) (kk : W p l e R s m args below meth c H locs cells slots Q (F0 m (pc + 3) ls (.int (nI (bit v x)) :: rest))) : W p l e R s m args below meth c H locs cells slots Q (F0 m pc ls (.int (nI x) :: .int (nI v) :: rest)) := by
  refine z_ishr C hv hx hd ?_
  refine lv_iconst (v := nI 1) C.1 C.2.1 hd1 (by decide) ?_
  exact z_iand1 C (Nat.lt_of_le_of_lt (Nat.div_le_self _ _) hv) hd2 kk
end
theorem m_inPicture (l : Launch) (G : va_G) (h0 : Nat) (r : Nat → Nat) (d : Nat → ClassId) (σ : Nat → Nat → Nat) (X Y : Int32)  : zMi l yX1_inPicture cX1_inPicture 3 (some .boolean) (rmF 0 0) G (clT d) (clC h0 r d) [.ref h0, .int X, .int Y] σ (fun v σ' => v = nI (if inP (σ 0 0) (σ 1 0) X Y then 1 else 0) ∧ σ' = σ) := by
  refine zMi_of (own := RX1) (by decide) rfl (Nat.le_of_ble_eq_true rfl) ?_
  intro p e s m args below meth c A ls C hr hlk w hl
  have hl : lv_has ls 3 [(0, .ref h0), (1, .int X), (2, .int Y)] := hl
  have hbd := w.2.2.2.2.2
  refine lv_iload_n C.1 C.2.1 dX1_inPicture_0 rfl (lv_at hl 1 rfl) ?_
  refine lv_if_lt (tgt := 28) C.1 C.2.1 dX1_inPicture_1 (by decide) (fun c_1 => ?_) (fun c_1 => ?_)
  · refine lv_iconst (v := nI 0) C.1 C.2.1 dX1_inPicture_28 (by decide) ?_
    exact z_zret C hr hlk w (by decide) ⟨by rw [if_neg (fun q => q.1 c_1)], rfl⟩ dX1_inPicture_29
  · refine lv_iload_n C.1 C.2.1 dX1_inPicture_4 rfl (lv_at hl 1 rfl) ?_
    refine lv_aload_n C.1 C.2.1 dX1_inPicture_5 rfl (lv_at hl 0 rfl) ?_
    refine cl_g0 C w dX1_inPicture_6 ?_
    refine lv_icmp_ge (tgt := 28) C.1 C.2.1 dX1_inPicture_9 (by decide) (fun c_9 => ?_) (fun c_9 => ?_)
    · refine lv_iconst (v := nI 0) C.1 C.2.1 dX1_inPicture_28 (by decide) ?_
      exact z_zret C hr hlk w (by decide) ⟨by rw [if_neg (fun q => q.2.1 c_9)], rfl⟩ dX1_inPicture_29
    · refine lv_iload_n C.1 C.2.1 dX1_inPicture_12 rfl (lv_at hl 2 rfl) ?_
      refine lv_if_lt (tgt := 28) C.1 C.2.1 dX1_inPicture_13 (by decide) (fun c_13 => ?_) (fun c_13 => ?_)
      · refine lv_iconst (v := nI 0) C.1 C.2.1 dX1_inPicture_28 (by decide) ?_
        exact z_zret C hr hlk w (by decide) ⟨by rw [if_neg (fun q => q.2.2.1 c_13)], rfl⟩ dX1_inPicture_29
      · refine lv_iload_n C.1 C.2.1 dX1_inPicture_16 rfl (lv_at hl 2 rfl) ?_
        refine lv_aload_n C.1 C.2.1 dX1_inPicture_17 rfl (lv_at hl 0 rfl) ?_
        refine cl_g1 C w dX1_inPicture_18 ?_
        refine lv_icmp_ge (tgt := 28) C.1 C.2.1 dX1_inPicture_21 (by decide) (fun c_21 => ?_) (fun c_21 => ?_)
        · refine lv_iconst (v := nI 0) C.1 C.2.1 dX1_inPicture_28 (by decide) ?_
          exact z_zret C hr hlk w (by decide) ⟨by rw [if_neg (fun q => q.2.2.2 c_21)], rfl⟩ dX1_inPicture_29
        · refine lv_iconst (v := nI 1) C.1 C.2.1 dX1_inPicture_24 (by decide) ?_
          refine lv_goto (tgt := 29) C.1 C.2.1 dX1_inPicture_25 (by decide) ?_
          exact z_zret C hr hlk w (by decide) ⟨by rw [if_pos ⟨c_1, c_9, c_13, c_21⟩], rfl⟩ dX1_inPicture_29
def rAF (s : Nat → Nat → Nat) (x y : Nat) : Nat → Nat → Nat
  | 0, k => k
  | n + 1, k => if k + 1 < s 9 (y + 1) ∧ s 6 k < x then rAF s x y n (k + 1) else k
section
variable {p : Program} {l : Launch} {e : Env} {R : Room} {s : State} {m : MethodId} {args : Array Value} {below : List Frame} {meth : Method} {c : Code} {H : Heap} {locs : List Loc} {Q : State → Prop}
variable {G : va_G} {A : Nat → Prop} {H0 : Heap} {σ : Nat → Nat → Nat} {h0 : Nat} {r : Nat → Nat} {d : Nat → ClassId}
theorem runAt_loop {x y : Nat} (C : zC p m c cX1_runAt 4 s args RX1) (w : clW G h0 r d A s H0 H locs σ) (hx : x < 12) (hy : y < 12) (h1 : 1 ≤ σ 9 (y + 1)) (h2 : σ 9 (y + 1) ≤ 145) : ∀ n k, σ 9 (y + 1) ≤ k + n + 1 → k < 145 → ∀ ls, lv_has ls 4 [(3, .int (nI k)), (0, .ref h0), (1, .int (nI x)), (2, .int (nI y))] → (∀ ls, lv_has ls 4 [(3, .int (nI (rAF σ x y n k))), (0, .ref h0), (1, .int (nI x)), (2, .int (nI y))] → W p l e R s m args below meth c H locs 0 0 Q (F0 m 37 ls [])) → W p l e R s m args below meth c H locs 0 0 Q (F0 m 7 ls []) := by
  have hbd := w.2.2.2.2.2
  intro n
  induction n with
  | zero =>
    intro k hk hk2 ls hl K
    have b6 := hbd 6 k
    refine lv_iload_n C.1 C.2.1 dX1_runAt_7 rfl (lv_at hl 0 rfl) ?_
    refine lv_aload_n C.1 C.2.1 dX1_runAt_8 rfl (lv_at hl 1 rfl) ?_
    refine cl_g9 C w dX1_runAt_9 ?_
    refine lv_iload_n C.1 C.2.1 dX1_runAt_12 rfl (lv_at hl 3 rfl) ?_
    refine lv_iconst (v := nI 1) C.1 C.2.1 dX1_runAt_13 (by decide) ?_
    refine z_iadd C dX1_runAt_14 ?_
    refine cl_l9 C w (by omega) dX1_runAt_15 ?_
    refine lv_iconst (v := nI 1) C.1 C.2.1 dX1_runAt_16 (by decide) ?_
    refine z_isub C (by omega) dX1_runAt_17 ?_
    refine z_cmp_ge (tgt := 37) C dX1_runAt_18 (by decide) (by omega) (by omega) (fun c_18 => ?_) (fun c_18 => ?_)
    · exact K ls hl
    · exact absurd c_18 (by omega)
  | succ n ih =>
    intro k hk hk2 ls hl K
    have b6 := hbd 6 k
    refine lv_iload_n C.1 C.2.1 dX1_runAt_7 rfl (lv_at hl 0 rfl) ?_
    refine lv_aload_n C.1 C.2.1 dX1_runAt_8 rfl (lv_at hl 1 rfl) ?_
    refine cl_g9 C w dX1_runAt_9 ?_
    refine lv_iload_n C.1 C.2.1 dX1_runAt_12 rfl (lv_at hl 3 rfl) ?_
    refine lv_iconst (v := nI 1) C.1 C.2.1 dX1_runAt_13 (by decide) ?_
    refine z_iadd C dX1_runAt_14 ?_
    refine cl_l9 C w (by omega) dX1_runAt_15 ?_
    refine lv_iconst (v := nI 1) C.1 C.2.1 dX1_runAt_16 (by decide) ?_
    refine z_isub C (by omega) dX1_runAt_17 ?_
    refine z_cmp_ge (tgt := 37) C dX1_runAt_18 (by decide) (by omega) (by omega) (fun c_18 => ?_) (fun c_18 => ?_)
    · have e1 : rAF σ x y (n + 1) k = k := if_neg (by omega)
      rw [e1] at K
      exact K ls hl
    · refine lv_aload_n C.1 C.2.1 dX1_runAt_21 rfl (lv_at hl 1 rfl) ?_
      refine cl_g6 C w dX1_runAt_22 ?_
      refine lv_iload_n C.1 C.2.1 dX1_runAt_25 rfl (lv_at hl 0 rfl) ?_
      refine cl_l6 C w (by omega) dX1_runAt_26 ?_
      refine lv_iload_n C.1 C.2.1 dX1_runAt_27 rfl (lv_at hl 2 rfl) ?_
      refine z_cmp_ge (tgt := 37) C dX1_runAt_28 (by decide) (by omega) (by omega) (fun c_28 => ?_) (fun c_28 => ?_)
      · have e1 : rAF σ x y (n + 1) k = k := if_neg (by omega)
        rw [e1] at K
        exact K ls hl
      · refine lv_iinc (lv' := [(3, .int (nI (k + 1))), (0, .ref h0), (1, .int (nI x)), (2, .int (nI y))]) C.1 C.2.1 dX1_runAt_31 hl (k := 0) rfl (nI_add _ _) (by decide) rfl (fun ls hl => ?_)
        refine lv_goto (tgt := 7) C.1 C.2.1 dX1_runAt_34 (by decide) ?_
        have e1 : rAF σ x y (n + 1) k = rAF σ x y n (k + 1) := if_pos ⟨by omega, by omega⟩
        rw [e1] at K
        exact ih (k + 1) (by omega) (by omega) ls hl K
end
theorem m_runAt (l : Launch) (G : va_G) (h0 : Nat) (r : Nat → Nat) (d : Nat → ClassId) (σ : Nat → Nat → Nat) (x y : Nat) (hx : x < 12) (hy : y < 12) (h1 : 1 ≤ σ 9 (y + 1)) (h2 : σ 9 (y + 1) ≤ 145) (h3 : σ 9 y < 145) : zMi l yX1_runAt cX1_runAt 4 (some .int) (rmF 0 0) G (clT d) (clC h0 r d) [.ref h0, .int (nI x), .int (nI y)] σ (fun v σ' => v = nI (rAF σ x y (σ 9 (y + 1)) (σ 9 y)) ∧ σ' = σ) := by
  refine zMi_of (own := RX1) (by decide) rfl (Nat.le_of_ble_eq_true rfl) ?_
  intro p e s m args below meth c A ls C hr hlk w hl
  have hl : lv_has ls 4 [(0, .ref h0), (1, .int (nI x)), (2, .int (nI y))] := hl
  have hbd := w.2.2.2.2.2
  refine lv_aload_n C.1 C.2.1 dX1_runAt_0 rfl (lv_at hl 0 rfl) ?_
  refine cl_g9 C w dX1_runAt_1 ?_
  refine lv_iload_n C.1 C.2.1 dX1_runAt_4 rfl (lv_at hl 2 rfl) ?_
  refine cl_l9 C w (by omega) dX1_runAt_5 ?_
  refine lv_istore_n (lv' := [(3, .int (nI (σ 9 y))), (0, .ref h0), (1, .int (nI x)), (2, .int (nI y))]) C.1 C.2.1 dX1_runAt_6 rfl hl (by decide) rfl (fun ls hl => ?_)
  refine runAt_loop C w hx hy h1 h2 (σ 9 (y + 1)) (σ 9 y) (by omega) h3 ls hl (fun ls hl => ?_)
  refine lv_iload_n C.1 C.2.1 dX1_runAt_37 rfl (lv_at hl 0 rfl) ?_
  exact z_iret C hr hlk w ⟨rfl, rfl⟩ dX1_runAt_38
def endF (v w c : Nat) : Nat → Nat → Nat
  | 0, e => e
  | n + 1, e => if e + 1 < w ∧ bit v (e + 1) = c then endF v w c n (e + 1) else e
def cutS (v x : Nat) (s : Nat → Nat → Nat) : Nat → Nat → Nat :=
  up (up (up (up (up s 5 (s 4 0) x) 6 (s 4 0) (endF v (s 0 0) (bit v x) 12 x)) 7 (s 4 0) (bit v x)) 8 (s 4 0) (s 4 0)) 4 0 (s 4 0 + 1)
def cutF (v : Nat) : Nat → Nat → (Nat → Nat → Nat) → Nat → Nat → Nat
  | 0, _, s => s
  | n + 1, x, s => if x < s 0 0 then cutF v n (endF v (s 0 0) (bit v x) 12 x + 1) (cutS v x s) else s
theorem endF_ge (v w c : Nat) : ∀ n e, e ≤ endF v w c n e := by
  intro n
  induction n with
  | zero => intro e; exact Nat.le_refl _
  | succ n ih =>
    intro e
    show e ≤ if e + 1 < w ∧ bit v (e + 1) = c then endF v w c n (e + 1) else e
    split
    · exact Nat.le_trans (by omega) (ih (e + 1))
    · exact Nat.le_refl _
theorem endF_lt (v w c : Nat) : ∀ n e, e < w → endF v w c n e < w := by
  intro n
  induction n with
  | zero => intro e h; exact h
  | succ n ih =>
    intro e h
    show (if e + 1 < w ∧ bit v (e + 1) = c then endF v w c n (e + 1) else e) < w
    split
    · rename_i k; exact ih (e + 1) k.1
    · exact h
section
variable {p : Program} {l : Launch} {e : Env} {R : Room} {s : State} {m : MethodId} {args : Array Value} {below : List Frame} {meth : Method} {c : Code} {H : Heap} {locs : List Loc} {Q : State → Prop}
variable {G : va_G} {A : Nat → Prop} {H0 : Heap} {σ : Nat → Nat → Nat} {h0 : Nat} {r : Nat → Nat} {d : Nat → ClassId}
theorem cut_in {x v co : Nat} (C : zC p m c cX1_cutRow 5 s args RX1) (w : clW G h0 r d A s H0 H locs σ) (hv : v < 2147483648) (hco : co < 2) (hw : σ 0 0 ≤ 12) : ∀ n k, σ 0 0 ≤ k + n + 1 → k < 12 → ∀ ls, lv_has ls 5 [(4, .int (nI k)), (3, .int (nI co)), (2, .int (nI x)), (0, .ref h0), (1, .int (nI v))] → (∀ ls, lv_has ls 5 [(4, .int (nI (endF v (σ 0 0) co n k))), (3, .int (nI co)), (2, .int (nI x)), (0, .ref h0), (1, .int (nI v))] → W p l e R s m args below meth c H locs 0 0 Q (F0 m 48 ls [])) → W p l e R s m args below meth c H locs 0 0 Q (F0 m 19 ls []) := by
  intro n
  induction n with
  | zero =>
    intro k hk hk2 ls hl K
    refine lv_iload C.1 C.2.1 dX1_cutRow_19 (lv_at hl 0 rfl) ?_
    refine lv_iconst (v := nI 1) C.1 C.2.1 dX1_cutRow_21 (by decide) ?_
    refine z_iadd C dX1_cutRow_22 ?_
    refine lv_aload_n C.1 C.2.1 dX1_cutRow_23 rfl (lv_at hl 3 rfl) ?_
    refine cl_g0 C w dX1_cutRow_24 ?_
    refine z_cmp_ge (tgt := 48) C dX1_cutRow_27 (by decide) (by omega) (by omega) (fun c_27 => ?_) (fun c_27 => ?_)
    · exact K ls hl
    · exact absurd c_27 (by omega)
  | succ n ih =>
    intro k hk hk2 ls hl K
    have b1 := bit_lt v (k + 1)
    refine lv_iload C.1 C.2.1 dX1_cutRow_19 (lv_at hl 0 rfl) ?_
    refine lv_iconst (v := nI 1) C.1 C.2.1 dX1_cutRow_21 (by decide) ?_
    refine z_iadd C dX1_cutRow_22 ?_
    refine lv_aload_n C.1 C.2.1 dX1_cutRow_23 rfl (lv_at hl 3 rfl) ?_
    refine cl_g0 C w dX1_cutRow_24 ?_
    refine z_cmp_ge (tgt := 48) C dX1_cutRow_27 (by decide) (by omega) (by omega) (fun c_27 => ?_) (fun c_27 => ?_)
    · have e1 : endF v (σ 0 0) co (n + 1) k = k := if_neg (by omega)
      rw [e1] at K
      exact K ls hl
    · refine lv_iload_n C.1 C.2.1 dX1_cutRow_30 rfl (lv_at hl 4 rfl) ?_
      refine lv_iload C.1 C.2.1 dX1_cutRow_31 (lv_at hl 0 rfl) ?_
      refine lv_iconst (v := nI 1) C.1 C.2.1 dX1_cutRow_33 (by decide) ?_
      refine z_iadd C dX1_cutRow_34 ?_
      refine z_bit C (by omega) (by omega) dX1_cutRow_35 dX1_cutRow_36 dX1_cutRow_37 ?_
      refine lv_iload_n C.1 C.2.1 dX1_cutRow_38 rfl (lv_at hl 1 rfl) ?_
      refine z_cmp_ne (tgt := 48) C dX1_cutRow_39 (by decide) (by omega) (by omega) (fun c_39 => ?_) (fun c_39 => ?_)
      · have e1 : endF v (σ 0 0) co (n + 1) k = k := if_neg (by omega)
        rw [e1] at K
        exact K ls hl
      · refine lv_iinc (lv' := [(4, .int (nI (k + 1))), (3, .int (nI co)), (2, .int (nI x)), (0, .ref h0), (1, .int (nI v))]) C.1 C.2.1 dX1_cutRow_42 hl (k := 0) rfl (nI_add _ _) (by decide) rfl (fun ls hl => ?_)
        refine lv_goto (tgt := 19) C.1 C.2.1 dX1_cutRow_45 (by decide) ?_
        have e1 : endF v (σ 0 0) co (n + 1) k = endF v (σ 0 0) co n (k + 1) := if_pos ⟨by omega, by omega⟩
        rw [e1] at K
        exact ih (k + 1) (by omega) (by omega) ls hl K
theorem cut_out {v : Nat} (C : zC p m c cX1_cutRow 5 s args RX1) (hv : v < 2147483648) : ∀ n x σ H locs, clW G h0 r d A s H0 H locs σ → σ 0 0 ≤ 12 → σ 0 0 ≤ x + n → σ 4 0 + σ 0 0 ≤ 145 + x → x ≤ 12 → ∀ ls, lv_has ls 5 [(2, .int (nI x)), (0, .ref h0), (1, .int (nI v))] → (∀ H locs ls, clW G h0 r d A s H0 H locs (cutF v n x σ) → W p l e R s m args below meth c H locs 0 0 Q (F0 m 121 ls [])) → W p l e R s m args below meth c H locs 0 0 Q (F0 m 2 ls []) := by
  intro n
  induction n with
  | zero =>
    intro x σ H locs w hw hn hr hx ls hl K
    refine lv_iload_n C.1 C.2.1 dX1_cutRow_2 rfl (lv_at hl 0 rfl) ?_
    refine lv_aload_n C.1 C.2.1 dX1_cutRow_3 rfl (lv_at hl 1 rfl) ?_
    refine cl_g0 C w dX1_cutRow_4 ?_
    refine z_cmp_ge (tgt := 121) C dX1_cutRow_7 (by decide) (by omega) (by omega) (fun c_7 => ?_) (fun c_7 => ?_)
    · exact K H locs ls w
    · exact absurd c_7 (by omega)
  | succ n ih =>
    intro x σ H locs w hw hn hr hx ls hl K
    have b0 := bit_lt v x
    have b1 := endF_ge v (σ 0 0) (bit v x) 12 x
    have b2 := endF_lt v (σ 0 0) (bit v x) 12 x
    have b4 := w.2.2.2.2.2 4 0
    refine lv_iload_n C.1 C.2.1 dX1_cutRow_2 rfl (lv_at hl 0 rfl) ?_
    refine lv_aload_n C.1 C.2.1 dX1_cutRow_3 rfl (lv_at hl 1 rfl) ?_
    refine cl_g0 C w dX1_cutRow_4 ?_
    refine z_cmp_ge (tgt := 121) C dX1_cutRow_7 (by decide) (by omega) (by omega) (fun c_7 => ?_) (fun c_7 => ?_)
    · have e1 : cutF v (n + 1) x σ = σ := if_neg (by omega)
      rw [e1] at K
      exact K H locs ls w
    · refine lv_iload_n C.1 C.2.1 dX1_cutRow_10 rfl (lv_at hl 2 rfl) ?_
      refine lv_iload_n C.1 C.2.1 dX1_cutRow_11 rfl (lv_at hl 0 rfl) ?_
      refine z_bit C (by omega) (by omega) dX1_cutRow_12 dX1_cutRow_13 dX1_cutRow_14 ?_
      refine lv_istore_n (lv' := [(3, .int (nI (bit v x))), (2, .int (nI x)), (0, .ref h0), (1, .int (nI v))]) C.1 C.2.1 dX1_cutRow_15 rfl hl (by decide) rfl (fun ls hl => ?_)
      refine lv_iload_n C.1 C.2.1 dX1_cutRow_16 rfl (lv_at hl 1 rfl) ?_
      refine lv_istore (lv' := [(4, .int (nI x)), (3, .int (nI (bit v x))), (2, .int (nI x)), (0, .ref h0), (1, .int (nI v))]) C.1 C.2.1 dX1_cutRow_17 hl (by decide) rfl (fun ls hl => ?_)
      have b3 := b2 (by omega)
      refine cut_in C w hv b0 hw 12 x (by omega) (by omega) ls hl (fun ls hl => ?_)
      refine lv_aload_n C.1 C.2.1 dX1_cutRow_48 rfl (lv_at hl 3 rfl) ?_
      refine cl_g5 C w dX1_cutRow_49 ?_
      refine lv_aload_n C.1 C.2.1 dX1_cutRow_52 rfl (lv_at hl 3 rfl) ?_
      refine cl_g4 C w dX1_cutRow_53 ?_
      refine lv_iload_n C.1 C.2.1 dX1_cutRow_56 rfl (lv_at hl 2 rfl) ?_
      refine z_i2b C (by omega) dX1_cutRow_57 ?_
      refine cl_s5 C w (by omega) (by omega) dX1_cutRow_58 (fun H locs w => ?_)
      refine lv_aload_n C.1 C.2.1 dX1_cutRow_59 rfl (lv_at hl 3 rfl) ?_
      refine cl_g6 C w dX1_cutRow_60 ?_
      refine lv_aload_n C.1 C.2.1 dX1_cutRow_63 rfl (lv_at hl 3 rfl) ?_
      refine cl_g4 C w dX1_cutRow_64 ?_
      refine W.eq (g2 := F0 m 67 ls [.int (nI (σ 4 0)), .ref (r 6)]) rfl ?_
      refine lv_iload C.1 C.2.1 dX1_cutRow_67 (lv_at hl 0 rfl) ?_
      refine z_i2b C (by omega) dX1_cutRow_69 ?_
      refine cl_s6 C w (by omega) (by omega) dX1_cutRow_70 (fun H locs w => ?_)
      refine lv_aload_n C.1 C.2.1 dX1_cutRow_71 rfl (lv_at hl 3 rfl) ?_
      refine cl_g7 C w dX1_cutRow_72 ?_
      refine lv_aload_n C.1 C.2.1 dX1_cutRow_75 rfl (lv_at hl 3 rfl) ?_
      refine cl_g4 C w dX1_cutRow_76 ?_
      refine W.eq (g2 := F0 m 79 ls [.int (nI (σ 4 0)), .ref (r 7)]) rfl ?_
      refine lv_iload_n C.1 C.2.1 dX1_cutRow_79 rfl (lv_at hl 1 rfl) ?_
      refine z_if_eq (tgt := 87) C dX1_cutRow_80 (by decide) (by omega) (fun c_80 => ?_) (fun c_80 => ?_)
      · refine lv_iconst (v := nI 0) C.1 C.2.1 dX1_cutRow_87 (by decide) ?_
        refine cl_s7 C w (by omega) (by omega) dX1_cutRow_88 (fun H locs w => ?_)
        refine lv_aload_n C.1 C.2.1 dX1_cutRow_89 rfl (lv_at hl 3 rfl) ?_
        refine cl_g8 C w dX1_cutRow_90 ?_
        refine lv_aload_n C.1 C.2.1 dX1_cutRow_93 rfl (lv_at hl 3 rfl) ?_
        refine cl_g4 C w dX1_cutRow_94 ?_
        refine W.eq (g2 := F0 m 97 ls [.int (nI (σ 4 0)), .ref (r 8)]) rfl ?_
        refine lv_aload_n C.1 C.2.1 dX1_cutRow_97 rfl (lv_at hl 3 rfl) ?_
        refine cl_g4 C w dX1_cutRow_98 ?_
        refine W.eq (g2 := F0 m 101 ls [.int (nI (σ 4 0)), .int (nI (σ 4 0)), .ref (r 8)]) rfl ?_
        refine z_i2s C (by omega) dX1_cutRow_101 ?_
        refine cl_s8 C w (by omega) (by omega) dX1_cutRow_102 (fun H locs w => ?_)
        refine lv_aload_n C.1 C.2.1 dX1_cutRow_103 rfl (lv_at hl 3 rfl) ?_
        refine lv_dup C.1 C.2.1 dX1_cutRow_104 rfl ?_
        refine cl_g4 C w dX1_cutRow_105 ?_
        refine W.eq (g2 := F0 m 108 ls [.int (nI (σ 4 0)), .ref h0]) rfl ?_
        refine lv_iconst (v := nI 1) C.1 C.2.1 dX1_cutRow_108 (by decide) ?_
        refine z_iadd C dX1_cutRow_109 ?_
        refine cl_p4 C w (by omega) dX1_cutRow_110 (fun H locs w => ?_)
        refine lv_iload C.1 C.2.1 dX1_cutRow_113 (lv_at hl 0 rfl) ?_
        refine lv_iconst (v := nI 1) C.1 C.2.1 dX1_cutRow_115 (by decide) ?_
        refine z_iadd C dX1_cutRow_116 ?_
        refine lv_istore_n (lv' := [(2, .int (nI ((endF v (σ 0 0) (bit v x) 12 x) + 1))), (4, .int (nI (endF v (σ 0 0) (bit v x) 12 x))), (3, .int (nI (bit v x))), (0, .ref h0), (1, .int (nI v))]) C.1 C.2.1 dX1_cutRow_117 rfl hl (by decide) rfl (fun ls hl => ?_)
        refine lv_goto (tgt := 2) C.1 C.2.1 dX1_cutRow_118 (by decide) ?_
        have e0 : bit v x = 0 := by omega
        have e1 : cutF v (n + 1) x σ = cutF v n (endF v (σ 0 0) (bit v x) 12 x + 1) (cutS v x σ) := if_pos (by omega)
        rw [e1] at K
        have e2 : cutS v x σ = up (up (up (up (up σ 5 (σ 4 0) x) 6 (σ 4 0) (endF v (σ 0 0) (bit v x) 12 x)) 7 (σ 4 0) 0) 8 (σ 4 0) (σ 4 0)) 4 0 ((σ 4 0) + 1) := congrArg (fun z => up (up (up (up (up σ 5 (σ 4 0) x) 6 (σ 4 0) (endF v (σ 0 0) (bit v x) 12 x)) 7 (σ 4 0) z) 8 (σ 4 0) (σ 4 0)) 4 0 (σ 4 0 + 1)) e0
        rw [← e2] at w
        exact ih (endF v (σ 0 0) (bit v x) 12 x + 1) (cutS v x σ) H locs w hw (show σ 0 0 ≤ _ by omega) (show σ 4 0 + 1 + σ 0 0 ≤ _ by omega) (by omega) ls (lv_sub hl [0, 3, 4] rfl) K
      · refine lv_iconst (v := nI 1) C.1 C.2.1 dX1_cutRow_83 (by decide) ?_
        refine lv_goto (tgt := 88) C.1 C.2.1 dX1_cutRow_84 (by decide) ?_
        refine cl_s7 C w (by omega) (by omega) dX1_cutRow_88 (fun H locs w => ?_)
        refine lv_aload_n C.1 C.2.1 dX1_cutRow_89 rfl (lv_at hl 3 rfl) ?_
        refine cl_g8 C w dX1_cutRow_90 ?_
        refine lv_aload_n C.1 C.2.1 dX1_cutRow_93 rfl (lv_at hl 3 rfl) ?_
        refine cl_g4 C w dX1_cutRow_94 ?_
        refine W.eq (g2 := F0 m 97 ls [.int (nI (σ 4 0)), .ref (r 8)]) rfl ?_
        refine lv_aload_n C.1 C.2.1 dX1_cutRow_97 rfl (lv_at hl 3 rfl) ?_
        refine cl_g4 C w dX1_cutRow_98 ?_
        refine W.eq (g2 := F0 m 101 ls [.int (nI (σ 4 0)), .int (nI (σ 4 0)), .ref (r 8)]) rfl ?_
        refine z_i2s C (by omega) dX1_cutRow_101 ?_
        refine cl_s8 C w (by omega) (by omega) dX1_cutRow_102 (fun H locs w => ?_)
        refine lv_aload_n C.1 C.2.1 dX1_cutRow_103 rfl (lv_at hl 3 rfl) ?_
        refine lv_dup C.1 C.2.1 dX1_cutRow_104 rfl ?_
        refine cl_g4 C w dX1_cutRow_105 ?_
        refine W.eq (g2 := F0 m 108 ls [.int (nI (σ 4 0)), .ref h0]) rfl ?_
        refine lv_iconst (v := nI 1) C.1 C.2.1 dX1_cutRow_108 (by decide) ?_
        refine z_iadd C dX1_cutRow_109 ?_
        refine cl_p4 C w (by omega) dX1_cutRow_110 (fun H locs w => ?_)
        refine lv_iload C.1 C.2.1 dX1_cutRow_113 (lv_at hl 0 rfl) ?_
        refine lv_iconst (v := nI 1) C.1 C.2.1 dX1_cutRow_115 (by decide) ?_
        refine z_iadd C dX1_cutRow_116 ?_
        refine lv_istore_n (lv' := [(2, .int (nI ((endF v (σ 0 0) (bit v x) 12 x) + 1))), (4, .int (nI (endF v (σ 0 0) (bit v x) 12 x))), (3, .int (nI (bit v x))), (0, .ref h0), (1, .int (nI v))]) C.1 C.2.1 dX1_cutRow_117 rfl hl (by decide) rfl (fun ls hl => ?_)
        refine lv_goto (tgt := 2) C.1 C.2.1 dX1_cutRow_118 (by decide) ?_
        have e0 : bit v x = 1 := by omega
        have e1 : cutF v (n + 1) x σ = cutF v n (endF v (σ 0 0) (bit v x) 12 x + 1) (cutS v x σ) := if_pos (by omega)
        rw [e1] at K
        have e2 : cutS v x σ = up (up (up (up (up σ 5 (σ 4 0) x) 6 (σ 4 0) (endF v (σ 0 0) (bit v x) 12 x)) 7 (σ 4 0) 1) 8 (σ 4 0) (σ 4 0)) 4 0 ((σ 4 0) + 1) := congrArg (fun z => up (up (up (up (up σ 5 (σ 4 0) x) 6 (σ 4 0) (endF v (σ 0 0) (bit v x) 12 x)) 7 (σ 4 0) z) 8 (σ 4 0) (σ 4 0)) 4 0 (σ 4 0 + 1)) e0
        rw [← e2] at w
        exact ih (endF v (σ 0 0) (bit v x) 12 x + 1) (cutS v x σ) H locs w hw (show σ 0 0 ≤ _ by omega) (show σ 4 0 + 1 + σ 0 0 ≤ _ by omega) (by omega) ls (lv_sub hl [0, 3, 4] rfl) K
end
theorem m_cutRow (l : Launch) (G : va_G) (h0 : Nat) (r : Nat → Nat) (d : Nat → ClassId) (σ : Nat → Nat → Nat) (v : Nat) (hv : v < 2147483648) (hw : σ 0 0 ≤ 12) (hr4 : σ 4 0 + σ 0 0 ≤ 145) : zMv l yX1_cutRow cX1_cutRow 5 none (rmF 0 0) G (clT d) (clC h0 r d) [.ref h0, .int (nI v)] σ (fun σ' => σ' = cutF v 12 0 σ) := by
  refine zMv_of (own := RX1) (by decide) rfl (Nat.le_of_ble_eq_true rfl) ?_
  intro p e s m args below meth c A ls C hr hlk w hl
  have hl : lv_has ls 5 [(0, .ref h0), (1, .int (nI v))] := hl
  have hbd := w.2.2.2.2.2
  refine lv_iconst (v := nI 0) C.1 C.2.1 dX1_cutRow_0 (by decide) ?_
  refine lv_istore_n (lv' := [(2, .int (nI 0)), (0, .ref h0), (1, .int (nI v))]) C.1 C.2.1 dX1_cutRow_1 rfl hl (by decide) rfl (fun ls hl => ?_)
  refine cut_out C hv 12 0 σ _ _ w hw (by omega) (by omega) (by omega) ls hl (fun H locs ls w => ?_)
  exact z_vret C hr hlk w rfl dX1_cutRow_121
end
section
set_option maxRecDepth 100000
/-! ===== CompLabel: openBorders, cornerAbove, touchAbove ===== -/
theorem uniteF_row (s : Nat → Nat → Nat) (a b : Nat) {k : Nat} (h : k ≠ 8) : uniteF s a b k = s k := by
  unfold uniteF
  split
  · exact up_row h
  · exact up_row h
theorem uniteF_fo {s : Nat → Nat → Nat} (hF : ∀ i, s 8 i ≤ i) (a b : Nat) : ∀ i, uniteF s a b 8 i ≤ i := by
  intro i
  unfold uniteF
  split
  · by_cases e : i = fst (s 8) b
    · rw [e, up_eq]; omega
    · rw [up_ne (Or.inr e)]; exact hF i
  · by_cases e : i = fst (s 8) a
    · rw [e, up_eq]; omega
    · rw [up_ne (Or.inr e)]; exact hF i
def obS (e k : Nat) (s : Nat → Nat → Nat) : Nat → Nat → Nat := if s 7 k ≠ 0 then s else if e ≠ 0 ∨ s 5 k = 0 ∨ s 6 k = s 0 0 - 1 then uniteF s 0 k else s
theorem obS_row (e k : Nat) (s : Nat → Nat → Nat) {k' : Nat} (h : k' ≠ 8) : obS e k s k' = s k' := by
  unfold obS
  split
  · rfl
  · split
    · exact uniteF_row _ _ _ h
    · rfl
theorem obS_fo {s : Nat → Nat → Nat} (hF : ∀ i, s 8 i ≤ i) (e k : Nat) : ∀ i, obS e k s 8 i ≤ i := by
  unfold obS
  split
  · exact hF
  · split
    · exact uniteF_fo hF _ _
    · exact hF
def obE (y : Nat) (s : Nat → Nat → Nat) : Nat := if y = 0 ∨ y = s 1 0 - 1 then 1 else 0
def obF (y : Nat) (s : Nat → Nat → Nat) : Nat → Nat → Nat := fwd (obS (obE y s)) (s 9 (y + 1) - s 9 y) (s 9 y) s
section
variable {p : Program} {l : Launch} {e : Env} {R : Room} {s : State} {m : MethodId} {args : Array Value} {below : List Frame} {meth : Method} {c : Code} {H : Heap} {locs : List Loc} {Q : State → Prop}
variable {G : va_G} {A : Nat → Prop} {H0 : Heap} {σ : Nat → Nat → Nat} {h0 : Nat} {r : Nat → Nat} {d : Nat → ClassId}
theorem ob_loop {y b : Nat} (C : zC p m c cX1_openBorders 4 s args RX1) (hy : y < 12) (hb : b < 2) : ∀ n k σ H locs, clW G h0 r d A s H0 H locs σ → (∀ i, σ 8 i ≤ i) → σ 9 (y + 1) = k + n → k + n ≤ 145 → 1 ≤ σ 0 0 → ∀ ls, lv_has ls 4 [(3, .int (nI k)), (2, .int (nI b)), (0, .ref h0), (1, .int (nI y))] → (∀ H locs ls, clW G h0 r d A s H0 H locs (fwd (obS b) n k σ) → W p l e (rmF 2 46) s m args below meth c H locs 0 0 Q (F0 m 91 ls [])) → W p l e (rmF 2 46) s m args below meth c H locs 0 0 Q (F0 m 27 ls []) := by
  intro n
  induction n with
  | zero =>
    intro k σ H locs w hF hE hn hw ls hl K
    have b9 := w.2.2.2.2.2 9 (y + 1)
    refine lv_iload_n C.1 C.2.1 dX1_openBorders_27 rfl (lv_at hl 0 rfl) ?_
    refine lv_aload_n C.1 C.2.1 dX1_openBorders_28 rfl (lv_at hl 2 rfl) ?_
    refine cl_g9 C w dX1_openBorders_29 ?_
    refine lv_iload_n C.1 C.2.1 dX1_openBorders_32 rfl (lv_at hl 3 rfl) ?_
    refine lv_iconst (v := nI 1) C.1 C.2.1 dX1_openBorders_33 (by decide) ?_
    refine z_iadd C dX1_openBorders_34 ?_
    refine cl_l9 C w (by omega) dX1_openBorders_35 ?_
    refine z_cmp_ge (tgt := 91) C dX1_openBorders_36 (by decide) (by omega) (by omega) (fun c_36 => ?_) (fun c_36 => ?_)
    · exact K H locs ls w
    · exact absurd c_36 (by omega)
  | succ n ih =>
    intro k σ H locs w hF hE hn hw ls hl K
    have b9 := w.2.2.2.2.2 9 (y + 1)
    have b7 := w.2.2.2.2.2 7 k
    have b5 := w.2.2.2.2.2 5 k
    have b6 := w.2.2.2.2.2 6 k
    have b0 := w.2.2.2.2.2 0 0
    refine lv_iload_n C.1 C.2.1 dX1_openBorders_27 rfl (lv_at hl 0 rfl) ?_
    refine lv_aload_n C.1 C.2.1 dX1_openBorders_28 rfl (lv_at hl 2 rfl) ?_
    refine cl_g9 C w dX1_openBorders_29 ?_
    refine lv_iload_n C.1 C.2.1 dX1_openBorders_32 rfl (lv_at hl 3 rfl) ?_
    refine lv_iconst (v := nI 1) C.1 C.2.1 dX1_openBorders_33 (by decide) ?_
    refine z_iadd C dX1_openBorders_34 ?_
    refine cl_l9 C w (by omega) dX1_openBorders_35 ?_
    refine z_cmp_ge (tgt := 91) C dX1_openBorders_36 (by decide) (by omega) (by omega) (fun c_36 => ?_) (fun c_36 => ?_)
    · exact absurd c_36 (by omega)
    · refine lv_aload_n C.1 C.2.1 dX1_openBorders_39 rfl (lv_at hl 2 rfl) ?_
      refine cl_g7 C w dX1_openBorders_40 ?_
      refine lv_iload_n C.1 C.2.1 dX1_openBorders_43 rfl (lv_at hl 0 rfl) ?_
      refine cl_l7 C w (by omega) dX1_openBorders_44 ?_
      refine z_if_eq (tgt := 51) C dX1_openBorders_45 (by decide) (by omega) (fun c_45 => ?_) (fun c_45 => ?_)
      · refine lv_iload_n C.1 C.2.1 dX1_openBorders_51 rfl (lv_at hl 1 rfl) ?_
        refine z_if_ne (tgt := 79) C dX1_openBorders_52 (by decide) (by omega) (fun c_52 => ?_) (fun c_52 => ?_)
        · refine lv_aload_n C.1 C.2.1 dX1_openBorders_79 rfl (lv_at hl 2 rfl) ?_
          refine lv_iconst (v := nI 0) C.1 C.2.1 dX1_openBorders_80 (by decide) ?_
          refine lv_iload_n C.1 C.2.1 dX1_openBorders_81 rfl (lv_at hl 0 rfl) ?_
          refine z_callv (As := [.int (nI 0), .int (nI k)]) C (m_unite l G h0 r d σ 0 k (by omega) (by omega) hF) (cwV 2 C.2.2.2.2 (lw_V q131 q133 qs4 q27 q134) rfl rfl rfl (by decide +kernel) ⟨Nat.le_of_ble_eq_true rfl, Nat.le_of_ble_eq_true rfl⟩) w (cl_rc w) rfl hl.1 rfl (Nat.le_of_ble_eq_true rfl) dX1_openBorders_82 ⟨Nat.le_refl _, Nat.le_refl _⟩ (fun s1 H locs hp w => ?_)
          have hσ := hp
          rw [hσ] at w
          refine lv_iinc (lv' := [(3, .int (nI (k + 1))), (2, .int (nI b)), (0, .ref h0), (1, .int (nI y))]) C.1 C.2.1 dX1_openBorders_85 hl (k := 0) rfl (nI_add _ _) (by decide) rfl (fun ls hl => ?_)
          refine lv_goto (tgt := 27) C.1 C.2.1 dX1_openBorders_88 (by decide) ?_
          have e1 : obS b k σ = uniteF σ 0 k := by unfold obS; split <;> (try split) <;> first | rfl | omega
          exact ih (k + 1) (obS b k σ) H locs (by rw [e1]; exact w) (obS_fo hF b k) (by rw [obS_row b k σ (by decide)]; omega) (by omega) (by rw [obS_row b k σ (by decide)]; exact hw) ls hl K
        · refine lv_aload_n C.1 C.2.1 dX1_openBorders_55 rfl (lv_at hl 2 rfl) ?_
          refine cl_g5 C w dX1_openBorders_56 ?_
          refine lv_iload_n C.1 C.2.1 dX1_openBorders_59 rfl (lv_at hl 0 rfl) ?_
          refine cl_l5 C w (by omega) dX1_openBorders_60 ?_
          refine z_if_eq (tgt := 79) C dX1_openBorders_61 (by decide) (by omega) (fun c_61 => ?_) (fun c_61 => ?_)
          · refine lv_aload_n C.1 C.2.1 dX1_openBorders_79 rfl (lv_at hl 2 rfl) ?_
            refine lv_iconst (v := nI 0) C.1 C.2.1 dX1_openBorders_80 (by decide) ?_
            refine lv_iload_n C.1 C.2.1 dX1_openBorders_81 rfl (lv_at hl 0 rfl) ?_
            refine z_callv (As := [.int (nI 0), .int (nI k)]) C (m_unite l G h0 r d σ 0 k (by omega) (by omega) hF) (cwV 2 C.2.2.2.2 (lw_V q131 q133 qs4 q27 q134) rfl rfl rfl (by decide +kernel) ⟨Nat.le_of_ble_eq_true rfl, Nat.le_of_ble_eq_true rfl⟩) w (cl_rc w) rfl hl.1 rfl (Nat.le_of_ble_eq_true rfl) dX1_openBorders_82 ⟨Nat.le_refl _, Nat.le_refl _⟩ (fun s2 H locs hp w => ?_)
            have hσ := hp
            rw [hσ] at w
            refine lv_iinc (lv' := [(3, .int (nI (k + 1))), (2, .int (nI b)), (0, .ref h0), (1, .int (nI y))]) C.1 C.2.1 dX1_openBorders_85 hl (k := 0) rfl (nI_add _ _) (by decide) rfl (fun ls hl => ?_)
            refine lv_goto (tgt := 27) C.1 C.2.1 dX1_openBorders_88 (by decide) ?_
            have e1 : obS b k σ = uniteF σ 0 k := by unfold obS; split <;> (try split) <;> first | rfl | omega
            exact ih (k + 1) (obS b k σ) H locs (by rw [e1]; exact w) (obS_fo hF b k) (by rw [obS_row b k σ (by decide)]; omega) (by omega) (by rw [obS_row b k σ (by decide)]; exact hw) ls hl K
          · refine lv_aload_n C.1 C.2.1 dX1_openBorders_64 rfl (lv_at hl 2 rfl) ?_
            refine cl_g6 C w dX1_openBorders_65 ?_
            refine lv_iload_n C.1 C.2.1 dX1_openBorders_68 rfl (lv_at hl 0 rfl) ?_
            refine cl_l6 C w (by omega) dX1_openBorders_69 ?_
            refine lv_aload_n C.1 C.2.1 dX1_openBorders_70 rfl (lv_at hl 2 rfl) ?_
            refine cl_g0 C w dX1_openBorders_71 ?_
            refine lv_iconst (v := nI 1) C.1 C.2.1 dX1_openBorders_74 (by decide) ?_
            refine z_isub C (by omega) dX1_openBorders_75 ?_
            refine z_cmp_ne (tgt := 85) C dX1_openBorders_76 (by decide) (by omega) (by omega) (fun c_76 => ?_) (fun c_76 => ?_)
            · refine lv_iinc (lv' := [(3, .int (nI (k + 1))), (2, .int (nI b)), (0, .ref h0), (1, .int (nI y))]) C.1 C.2.1 dX1_openBorders_85 hl (k := 0) rfl (nI_add _ _) (by decide) rfl (fun ls hl => ?_)
              refine lv_goto (tgt := 27) C.1 C.2.1 dX1_openBorders_88 (by decide) ?_
              have e1 : obS b k σ = σ := by unfold obS; split <;> (try split) <;> first | rfl | omega
              exact ih (k + 1) (obS b k σ) H locs (by rw [e1]; exact w) (obS_fo hF b k) (by rw [obS_row b k σ (by decide)]; omega) (by omega) (by rw [obS_row b k σ (by decide)]; exact hw) ls hl K
            · refine lv_aload_n C.1 C.2.1 dX1_openBorders_79 rfl (lv_at hl 2 rfl) ?_
              refine lv_iconst (v := nI 0) C.1 C.2.1 dX1_openBorders_80 (by decide) ?_
              refine lv_iload_n C.1 C.2.1 dX1_openBorders_81 rfl (lv_at hl 0 rfl) ?_
              refine z_callv (As := [.int (nI 0), .int (nI k)]) C (m_unite l G h0 r d σ 0 k (by omega) (by omega) hF) (cwV 2 C.2.2.2.2 (lw_V q131 q133 qs4 q27 q134) rfl rfl rfl (by decide +kernel) ⟨Nat.le_of_ble_eq_true rfl, Nat.le_of_ble_eq_true rfl⟩) w (cl_rc w) rfl hl.1 rfl (Nat.le_of_ble_eq_true rfl) dX1_openBorders_82 ⟨Nat.le_refl _, Nat.le_refl _⟩ (fun s3 H locs hp w => ?_)
              have hσ := hp
              rw [hσ] at w
              refine lv_iinc (lv' := [(3, .int (nI (k + 1))), (2, .int (nI b)), (0, .ref h0), (1, .int (nI y))]) C.1 C.2.1 dX1_openBorders_85 hl (k := 0) rfl (nI_add _ _) (by decide) rfl (fun ls hl => ?_)
              refine lv_goto (tgt := 27) C.1 C.2.1 dX1_openBorders_88 (by decide) ?_
              have e1 : obS b k σ = uniteF σ 0 k := by unfold obS; split <;> (try split) <;> first | rfl | omega
              exact ih (k + 1) (obS b k σ) H locs (by rw [e1]; exact w) (obS_fo hF b k) (by rw [obS_row b k σ (by decide)]; omega) (by omega) (by rw [obS_row b k σ (by decide)]; exact hw) ls hl K
      · refine lv_goto (tgt := 85) C.1 C.2.1 dX1_openBorders_48 (by decide) ?_
        refine lv_iinc (lv' := [(3, .int (nI (k + 1))), (2, .int (nI b)), (0, .ref h0), (1, .int (nI y))]) C.1 C.2.1 dX1_openBorders_85 hl (k := 0) rfl (nI_add _ _) (by decide) rfl (fun ls hl => ?_)
        refine lv_goto (tgt := 27) C.1 C.2.1 dX1_openBorders_88 (by decide) ?_
        have e1 : obS b k σ = σ := by unfold obS; split <;> (try split) <;> first | rfl | omega
        exact ih (k + 1) (obS b k σ) H locs (by rw [e1]; exact w) (obS_fo hF b k) (by rw [obS_row b k σ (by decide)]; omega) (by omega) (by rw [obS_row b k σ (by decide)]; exact hw) ls hl K
end
theorem m_openBorders (l : Launch) (G : va_G) (h0 : Nat) (r : Nat → Nat) (d : Nat → ClassId) (σ : Nat → Nat → Nat) (y : Nat) (hy : y < 12) (hF : ∀ i, σ 8 i ≤ i) (hw : 1 ≤ σ 0 0) (hh : 1 ≤ σ 1 0) (h1 : σ 9 y ≤ σ 9 (y + 1)) (h2 : σ 9 (y + 1) ≤ 145) : zMv l yX1_openBorders cX1_openBorders 4 none (rmF 2 46) G (clT d) (clC h0 r d) [.ref h0, .int (nI y)] σ (fun σ' => σ' = obF y σ) := by
  refine zMv_of (own := RX1) (by decide) rfl (Nat.le_of_ble_eq_true rfl) ?_
  intro p e s m args below meth c A ls C hr hlk w hl
  have hl : lv_has ls 4 [(0, .ref h0), (1, .int (nI y))] := hl
  have hbd := w.2.2.2.2.2
  have b1 := hbd 1 0
  refine lv_iload_n C.1 C.2.1 dX1_openBorders_0 rfl (lv_at hl 1 rfl) ?_
  refine z_if_eq (tgt := 14) C dX1_openBorders_1 (by decide) (by omega) (fun c_1 => ?_) (fun c_1 => ?_)
  · refine lv_iconst (v := nI 1) C.1 C.2.1 dX1_openBorders_14 (by decide) ?_
    refine lv_goto (tgt := 19) C.1 C.2.1 dX1_openBorders_15 (by decide) ?_
    refine lv_istore_n (lv' := [(2, .int (nI 1)), (0, .ref h0), (1, .int (nI y))]) C.1 C.2.1 dX1_openBorders_19 rfl hl (by decide) rfl (fun ls hl => ?_)
    refine lv_aload_n C.1 C.2.1 dX1_openBorders_20 rfl (lv_at hl 1 rfl) ?_
    refine cl_g9 C w dX1_openBorders_21 ?_
    refine lv_iload_n C.1 C.2.1 dX1_openBorders_24 rfl (lv_at hl 2 rfl) ?_
    refine cl_l9 C w (by omega) dX1_openBorders_25 ?_
    refine lv_istore_n (lv' := [(3, .int (nI (σ 9 y))), (2, .int (nI 1)), (0, .ref h0), (1, .int (nI y))]) C.1 C.2.1 dX1_openBorders_26 rfl hl (by decide) rfl (fun ls hl => ?_)
    have e1 : obE y σ = 1 := by unfold obE; rw [if_pos (by omega)]
    refine ob_loop C hy (b := 1) (by decide) (σ 9 (y + 1) - σ 9 y) (σ 9 y) σ _ _ w hF (by omega) (by omega) hw ls hl (fun H locs ls w => ?_)
    exact z_vret C hr hlk w (show _ = obF y σ by unfold obF; rw [e1]) dX1_openBorders_91
  · refine lv_iload_n C.1 C.2.1 dX1_openBorders_4 rfl (lv_at hl 1 rfl) ?_
    refine lv_aload_n C.1 C.2.1 dX1_openBorders_5 rfl (lv_at hl 0 rfl) ?_
    refine cl_g1 C w dX1_openBorders_6 ?_
    refine lv_iconst (v := nI 1) C.1 C.2.1 dX1_openBorders_9 (by decide) ?_
    refine z_isub C (by omega) dX1_openBorders_10 ?_
    refine z_cmp_ne (tgt := 18) C dX1_openBorders_11 (by decide) (by omega) (by omega) (fun c_11 => ?_) (fun c_11 => ?_)
    · refine lv_iconst (v := nI 0) C.1 C.2.1 dX1_openBorders_18 (by decide) ?_
      refine lv_istore_n (lv' := [(2, .int (nI 0)), (0, .ref h0), (1, .int (nI y))]) C.1 C.2.1 dX1_openBorders_19 rfl hl (by decide) rfl (fun ls hl => ?_)
      refine lv_aload_n C.1 C.2.1 dX1_openBorders_20 rfl (lv_at hl 1 rfl) ?_
      refine cl_g9 C w dX1_openBorders_21 ?_
      refine lv_iload_n C.1 C.2.1 dX1_openBorders_24 rfl (lv_at hl 2 rfl) ?_
      refine cl_l9 C w (by omega) dX1_openBorders_25 ?_
      refine lv_istore_n (lv' := [(3, .int (nI (σ 9 y))), (2, .int (nI 0)), (0, .ref h0), (1, .int (nI y))]) C.1 C.2.1 dX1_openBorders_26 rfl hl (by decide) rfl (fun ls hl => ?_)
      have e1 : obE y σ = 0 := by unfold obE; rw [if_neg (by omega)]
      refine ob_loop C hy (b := 0) (by decide) (σ 9 (y + 1) - σ 9 y) (σ 9 y) σ _ _ w hF (by omega) (by omega) hw ls hl (fun H locs ls w => ?_)
      exact z_vret C hr hlk w (show _ = obF y σ by unfold obF; rw [e1]) dX1_openBorders_91
    · refine lv_iconst (v := nI 1) C.1 C.2.1 dX1_openBorders_14 (by decide) ?_
      refine lv_goto (tgt := 19) C.1 C.2.1 dX1_openBorders_15 (by decide) ?_
      refine lv_istore_n (lv' := [(2, .int (nI 1)), (0, .ref h0), (1, .int (nI y))]) C.1 C.2.1 dX1_openBorders_19 rfl hl (by decide) rfl (fun ls hl => ?_)
      refine lv_aload_n C.1 C.2.1 dX1_openBorders_20 rfl (lv_at hl 1 rfl) ?_
      refine cl_g9 C w dX1_openBorders_21 ?_
      refine lv_iload_n C.1 C.2.1 dX1_openBorders_24 rfl (lv_at hl 2 rfl) ?_
      refine cl_l9 C w (by omega) dX1_openBorders_25 ?_
      refine lv_istore_n (lv' := [(3, .int (nI (σ 9 y))), (2, .int (nI 1)), (0, .ref h0), (1, .int (nI y))]) C.1 C.2.1 dX1_openBorders_26 rfl hl (by decide) rfl (fun ls hl => ?_)
      have e1 : obE y σ = 1 := by unfold obE; rw [if_pos (by omega)]
      refine ob_loop C hy (b := 1) (by decide) (σ 9 (y + 1) - σ 9 y) (σ 9 y) σ _ _ w hF (by omega) (by omega) hw ls hl (fun H locs ls w => ?_)
      exact z_vret C hr hlk w (show _ = obF y σ by unfold obF; rw [e1]) dX1_openBorders_91
def cr1 (y u v : Nat) (s : Nat → Nat → Nat) : Nat → Nat → Nat := if s 7 u = 0 ∧ u + 1 < s 9 y ∧ s 5 (u + 1) = s 6 v + 1 then uniteF s (u + 1) v else s
def cr2 (y u v : Nat) (s : Nat → Nat → Nat) : Nat → Nat → Nat := if s 7 v = 0 ∧ v + 1 < s 9 (y + 1) ∧ s 5 (v + 1) = s 6 u + 1 then uniteF s u (v + 1) else s
def crF (y u v : Nat) (s : Nat → Nat → Nat) : Nat → Nat → Nat := cr2 y u v (cr1 y u v s)
theorem cr1_row (y u v : Nat) (s : Nat → Nat → Nat) {k' : Nat} (h : k' ≠ 8) : cr1 y u v s k' = s k' := by
  unfold cr1
  split
  · exact uniteF_row _ _ _ h
  · rfl
theorem cr2_row (y u v : Nat) (s : Nat → Nat → Nat) {k' : Nat} (h : k' ≠ 8) : cr2 y u v s k' = s k' := by
  unfold cr2
  split
  · exact uniteF_row _ _ _ h
  · rfl
theorem cr1_fo {s : Nat → Nat → Nat} (hF : ∀ i, s 8 i ≤ i) (y u v : Nat) : ∀ i, cr1 y u v s 8 i ≤ i := by
  unfold cr1
  split
  · exact uniteF_fo hF _ _
  · exact hF
theorem cr2_fo {s : Nat → Nat → Nat} (hF : ∀ i, s 8 i ≤ i) (y u v : Nat) : ∀ i, cr2 y u v s 8 i ≤ i := by
  unfold cr2
  split
  · exact uniteF_fo hF _ _
  · exact hF
theorem crF_row (y u v : Nat) (s : Nat → Nat → Nat) {k' : Nat} (h : k' ≠ 8) : crF y u v s k' = s k' := by
  unfold crF
  rw [cr2_row y u v _ h, cr1_row y u v _ h]
theorem crF_fo {s : Nat → Nat → Nat} (hF : ∀ i, s 8 i ≤ i) (y u v : Nat) : ∀ i, crF y u v s 8 i ≤ i := cr2_fo (cr1_fo hF y u v) y u v
theorem m_cornerAbove (l : Launch) (G : va_G) (h0 : Nat) (r : Nat → Nat) (d : Nat → ClassId) (σ : Nat → Nat → Nat) (u v y : Nat) (hu : u < 145) (hv : v < 145) (hy : y < 12) (hF : ∀ i, σ 8 i ≤ i) (h1 : σ 9 y ≤ 145) (h2 : σ 9 (y + 1) ≤ 145) : zMv l yX1_cornerAbove cX1_cornerAbove 4 none (rmF 2 46) G (clT d) (clC h0 r d) [.ref h0, .int (nI u), .int (nI v), .int (nI y)] σ (fun σ' => σ' = crF y u v σ) := by
  refine zMv_of (own := RX1) (by decide) rfl (Nat.le_of_ble_eq_true rfl) ?_
  intro p e s m args below meth c A ls C hr hlk w hl
  have hl : lv_has ls 4 [(0, .ref h0), (1, .int (nI u)), (2, .int (nI v)), (3, .int (nI y))] := hl
  have hbd := w.2.2.2.2.2
  have K : ∀ H locs, clW G h0 r d A s s.heap H locs (cr1 y u v σ) → W p l e (rmF 2 46) s m args below meth c H locs 0 0 (MQ below (zQv G (clT d) (clC h0 r d) A (fun σ' => σ' = crF y u v σ)) args s 0 0 A) (F0 m 48 ls []) := by
    intro H locs w
    have hF1 := cr1_fo hF y u v
    have e9 := cr1_row y u v σ (k' := 9) (by decide)
    generalize hτ : cr1 y u v σ = τ at w hF1 e9
    have hbd := w.2.2.2.2.2
    have b7 := hbd 7 v
    have b9 := hbd 9 (y + 1)
    have b5 := hbd 5 (v + 1)
    have b6 := hbd 6 u
    have e91 : τ 9 (y + 1) = σ 9 (y + 1) := by rw [e9]
    refine lv_aload_n C.1 C.2.1 dX1_cornerAbove_48 rfl (lv_at hl 0 rfl) ?_
    refine cl_g7 C w dX1_cornerAbove_49 ?_
    refine lv_iload_n C.1 C.2.1 dX1_cornerAbove_52 rfl (lv_at hl 2 rfl) ?_
    refine cl_l7 C w (by omega) dX1_cornerAbove_53 ?_
    refine z_if_ne (tgt := 98) C dX1_cornerAbove_54 (by decide) (by omega) (fun c_54 => ?_) (fun c_54 => ?_)
    · have e1 : cr2 y u v τ = τ := by unfold cr2; split <;> first | rfl | omega
      exact z_vret C hr hlk w (show _ = cr2 y u v (cr1 y u v σ) by rw [hτ, e1]) dX1_cornerAbove_98
    · refine lv_iload_n C.1 C.2.1 dX1_cornerAbove_57 rfl (lv_at hl 2 rfl) ?_
      refine lv_iconst (v := nI 1) C.1 C.2.1 dX1_cornerAbove_58 (by decide) ?_
      refine z_iadd C dX1_cornerAbove_59 ?_
      refine lv_aload_n C.1 C.2.1 dX1_cornerAbove_60 rfl (lv_at hl 0 rfl) ?_
      refine cl_g9 C w dX1_cornerAbove_61 ?_
      refine lv_iload_n C.1 C.2.1 dX1_cornerAbove_64 rfl (lv_at hl 3 rfl) ?_
      refine lv_iconst (v := nI 1) C.1 C.2.1 dX1_cornerAbove_65 (by decide) ?_
      refine z_iadd C dX1_cornerAbove_66 ?_
      refine cl_l9 C w (by omega) dX1_cornerAbove_67 ?_
      refine z_cmp_ge (tgt := 98) C dX1_cornerAbove_68 (by decide) (by omega) (by omega) (fun c_68 => ?_) (fun c_68 => ?_)
      · have e1 : cr2 y u v τ = τ := by unfold cr2; split <;> first | rfl | omega
        exact z_vret C hr hlk w (show _ = cr2 y u v (cr1 y u v σ) by rw [hτ, e1]) dX1_cornerAbove_98
      · refine lv_aload_n C.1 C.2.1 dX1_cornerAbove_71 rfl (lv_at hl 0 rfl) ?_
        refine cl_g5 C w dX1_cornerAbove_72 ?_
        refine lv_iload_n C.1 C.2.1 dX1_cornerAbove_75 rfl (lv_at hl 2 rfl) ?_
        refine lv_iconst (v := nI 1) C.1 C.2.1 dX1_cornerAbove_76 (by decide) ?_
        refine z_iadd C dX1_cornerAbove_77 ?_
        refine cl_l5 C w (by omega) dX1_cornerAbove_78 ?_
        refine lv_aload_n C.1 C.2.1 dX1_cornerAbove_79 rfl (lv_at hl 0 rfl) ?_
        refine cl_g6 C w dX1_cornerAbove_80 ?_
        refine lv_iload_n C.1 C.2.1 dX1_cornerAbove_83 rfl (lv_at hl 1 rfl) ?_
        refine cl_l6 C w (by omega) dX1_cornerAbove_84 ?_
        refine lv_iconst (v := nI 1) C.1 C.2.1 dX1_cornerAbove_85 (by decide) ?_
        refine z_iadd C dX1_cornerAbove_86 ?_
        refine z_cmp_ne (tgt := 98) C dX1_cornerAbove_87 (by decide) (by omega) (by omega) (fun c_87 => ?_) (fun c_87 => ?_)
        · have e1 : cr2 y u v τ = τ := by unfold cr2; split <;> first | rfl | omega
          exact z_vret C hr hlk w (show _ = cr2 y u v (cr1 y u v σ) by rw [hτ, e1]) dX1_cornerAbove_98
        · refine lv_aload_n C.1 C.2.1 dX1_cornerAbove_90 rfl (lv_at hl 0 rfl) ?_
          refine lv_iload_n C.1 C.2.1 dX1_cornerAbove_91 rfl (lv_at hl 1 rfl) ?_
          refine lv_iload_n C.1 C.2.1 dX1_cornerAbove_92 rfl (lv_at hl 2 rfl) ?_
          refine lv_iconst (v := nI 1) C.1 C.2.1 dX1_cornerAbove_93 (by decide) ?_
          refine z_iadd C dX1_cornerAbove_94 ?_
          refine z_callv (As := [.int (nI u), .int (nI (v + 1))]) C (m_unite l G h0 r d τ u (v + 1) (by omega) (by omega) hF1) (cwV 2 C.2.2.2.2 (lw_V q131 q133 qs4 q27 q134) rfl rfl rfl (by decide +kernel) ⟨Nat.le_of_ble_eq_true rfl, Nat.le_of_ble_eq_true rfl⟩) w (cl_rc w) rfl hl.1 rfl (Nat.le_of_ble_eq_true rfl) dX1_cornerAbove_95 ⟨Nat.le_refl _, Nat.le_refl _⟩ (fun s1 H locs hp w => ?_)
          have hσ := hp
          rw [hσ] at w
          have e1 : cr2 y u v τ = uniteF τ u (v + 1) := by unfold cr2; split <;> first | rfl | omega
          exact z_vret C hr hlk w (show _ = cr2 y u v (cr1 y u v σ) by rw [hτ, e1]) dX1_cornerAbove_98
  have b7 := hbd 7 u
  have b9 := hbd 9 y
  have b5 := hbd 5 (u + 1)
  have b6 := hbd 6 v
  refine lv_aload_n C.1 C.2.1 dX1_cornerAbove_0 rfl (lv_at hl 0 rfl) ?_
  refine cl_g7 C w dX1_cornerAbove_1 ?_
  refine lv_iload_n C.1 C.2.1 dX1_cornerAbove_4 rfl (lv_at hl 1 rfl) ?_
  refine cl_l7 C w (by omega) dX1_cornerAbove_5 ?_
  refine z_if_ne (tgt := 48) C dX1_cornerAbove_6 (by decide) (by omega) (fun c_6 => ?_) (fun c_6 => ?_)
  · have e1 : cr1 y u v σ = σ := by unfold cr1; split <;> first | rfl | omega
    exact K _ _ (by rw [e1]; exact w)
  · refine lv_iload_n C.1 C.2.1 dX1_cornerAbove_9 rfl (lv_at hl 1 rfl) ?_
    refine lv_iconst (v := nI 1) C.1 C.2.1 dX1_cornerAbove_10 (by decide) ?_
    refine z_iadd C dX1_cornerAbove_11 ?_
    refine lv_aload_n C.1 C.2.1 dX1_cornerAbove_12 rfl (lv_at hl 0 rfl) ?_
    refine cl_g9 C w dX1_cornerAbove_13 ?_
    refine lv_iload_n C.1 C.2.1 dX1_cornerAbove_16 rfl (lv_at hl 3 rfl) ?_
    refine cl_l9 C w (by omega) dX1_cornerAbove_17 ?_
    refine z_cmp_ge (tgt := 48) C dX1_cornerAbove_18 (by decide) (by omega) (by omega) (fun c_18 => ?_) (fun c_18 => ?_)
    · have e1 : cr1 y u v σ = σ := by unfold cr1; split <;> first | rfl | omega
      exact K _ _ (by rw [e1]; exact w)
    · refine lv_aload_n C.1 C.2.1 dX1_cornerAbove_21 rfl (lv_at hl 0 rfl) ?_
      refine cl_g5 C w dX1_cornerAbove_22 ?_
      refine lv_iload_n C.1 C.2.1 dX1_cornerAbove_25 rfl (lv_at hl 1 rfl) ?_
      refine lv_iconst (v := nI 1) C.1 C.2.1 dX1_cornerAbove_26 (by decide) ?_
      refine z_iadd C dX1_cornerAbove_27 ?_
      refine cl_l5 C w (by omega) dX1_cornerAbove_28 ?_
      refine lv_aload_n C.1 C.2.1 dX1_cornerAbove_29 rfl (lv_at hl 0 rfl) ?_
      refine cl_g6 C w dX1_cornerAbove_30 ?_
      refine lv_iload_n C.1 C.2.1 dX1_cornerAbove_33 rfl (lv_at hl 2 rfl) ?_
      refine cl_l6 C w (by omega) dX1_cornerAbove_34 ?_
      refine lv_iconst (v := nI 1) C.1 C.2.1 dX1_cornerAbove_35 (by decide) ?_
      refine z_iadd C dX1_cornerAbove_36 ?_
      refine z_cmp_ne (tgt := 48) C dX1_cornerAbove_37 (by decide) (by omega) (by omega) (fun c_37 => ?_) (fun c_37 => ?_)
      · have e1 : cr1 y u v σ = σ := by unfold cr1; split <;> first | rfl | omega
        exact K _ _ (by rw [e1]; exact w)
      · refine lv_aload_n C.1 C.2.1 dX1_cornerAbove_40 rfl (lv_at hl 0 rfl) ?_
        refine lv_iload_n C.1 C.2.1 dX1_cornerAbove_41 rfl (lv_at hl 1 rfl) ?_
        refine lv_iconst (v := nI 1) C.1 C.2.1 dX1_cornerAbove_42 (by decide) ?_
        refine z_iadd C dX1_cornerAbove_43 ?_
        refine lv_iload_n C.1 C.2.1 dX1_cornerAbove_44 rfl (lv_at hl 2 rfl) ?_
        refine z_callv (As := [.int (nI (u + 1)), .int (nI v)]) C (m_unite l G h0 r d σ (u + 1) v (by omega) (by omega) hF) (cwV 2 C.2.2.2.2 (lw_V q131 q133 qs4 q27 q134) rfl rfl rfl (by decide +kernel) ⟨Nat.le_of_ble_eq_true rfl, Nat.le_of_ble_eq_true rfl⟩) w (cl_rc w) rfl hl.1 rfl (Nat.le_of_ble_eq_true rfl) dX1_cornerAbove_45 ⟨Nat.le_refl _, Nat.le_refl _⟩ (fun s1 H locs hp w => ?_)
        have hσ := hp
        rw [hσ] at w
        have e1 : cr1 y u v σ = uniteF σ (u + 1) v := by unfold cr1; split <;> first | rfl | omega
        exact K H locs (by rw [e1]; exact w)
def rch (s : Nat → Nat → Nat) (u : Nat) : Nat := if s 7 u ≠ 0 then 1 else 0
def ta1 (u v : Nat) (s : Nat → Nat → Nat) : Nat → Nat → Nat := if s 7 u = s 7 v ∧ s 5 u ≤ s 6 v + rch s u ∧ s 5 v ≤ s 6 u + rch s u then uniteF s u v else s
def ta2 (y u v : Nat) (s : Nat → Nat → Nat) : Nat → Nat → Nat := if s 7 u ≠ s 7 v then crF y u v s else s
def taS (y u v : Nat) (s : Nat → Nat → Nat) : Nat → Nat → Nat := ta2 y u v (ta1 u v s)
theorem ta1_row (u v : Nat) (s : Nat → Nat → Nat) {k' : Nat} (h : k' ≠ 8) : ta1 u v s k' = s k' := by
  unfold ta1
  split
  · exact uniteF_row _ _ _ h
  · rfl
theorem ta2_row (y u v : Nat) (s : Nat → Nat → Nat) {k' : Nat} (h : k' ≠ 8) : ta2 y u v s k' = s k' := by
  unfold ta2
  split
  · exact crF_row _ _ _ _ h
  · rfl
theorem ta1_fo {s : Nat → Nat → Nat} (hF : ∀ i, s 8 i ≤ i) (u v : Nat) : ∀ i, ta1 u v s 8 i ≤ i := by
  unfold ta1
  split
  · exact uniteF_fo hF _ _
  · exact hF
theorem ta2_fo {s : Nat → Nat → Nat} (hF : ∀ i, s 8 i ≤ i) (y u v : Nat) : ∀ i, ta2 y u v s 8 i ≤ i := by
  unfold ta2
  split
  · exact crF_fo hF _ _ _
  · exact hF
theorem taS_row (y u v : Nat) (s : Nat → Nat → Nat) {k' : Nat} (h : k' ≠ 8) : taS y u v s k' = s k' := by
  unfold taS
  rw [ta2_row y u v _ h, ta1_row u v _ h]
theorem taS_fo {s : Nat → Nat → Nat} (hF : ∀ i, s 8 i ≤ i) (y u v : Nat) : ∀ i, taS y u v s 8 i ≤ i := ta2_fo (ta1_fo hF u v) y u v
def taF (y : Nat) : Nat → Nat → Nat → (Nat → Nat → Nat) → Nat → Nat → Nat
  | 0, _, _, s => s
  | n + 1, u, v, s => if u < s 9 y ∧ v < s 9 (y + 1) then (if s 6 u < s 6 v then taF y n (u + 1) v (taS y u v s) else taF y n u (v + 1) (taS y u v s)) else s
def taA (y : Nat) (s : Nat → Nat → Nat) : Nat → Nat → Nat := taF y (s 9 y + s 9 (y + 1)) (s 9 (y - 1)) (s 9 y) s
section
variable {p : Program} {l : Launch} {e : Env} {R : Room} {s : State} {m : MethodId} {args : Array Value} {below : List Frame} {meth : Method} {c : Code} {H : Heap} {locs : List Loc} {Q : State → Prop}
variable {G : va_G} {A : Nat → Prop} {H0 : Heap} {σ : Nat → Nat → Nat} {h0 : Nat} {r : Nat → Nat} {d : Nat → ClassId}
theorem ta_loop {y : Nat} (C : zC p m c cX1_touchAbove 5 s args RX1) (hy : y < 12) : ∀ n u v σ H locs, clW G h0 r d A s H0 H locs σ → (∀ i, σ 8 i ≤ i) → σ 9 y + σ 9 (y + 1) ≤ u + v + n → u ≤ σ 9 y → v ≤ σ 9 (y + 1) → σ 9 y ≤ 145 → σ 9 (y + 1) ≤ 145 → ∀ ls, lv_has ls 5 [(2, .int (nI u)), (3, .int (nI v)), (0, .ref h0), (1, .int (nI y))] → (∀ H locs ls, clW G h0 r d A s H0 H locs (taF y n u v σ) → W p l e (rmF 3 69) s m args below meth c H locs 0 0 Q (F0 m 160 ls [])) → W p l e (rmF 3 69) s m args below meth c H locs 0 0 Q (F0 m 16 ls []) := by
  intro n
  induction n with
  | zero =>
    intro u v σ H locs w hF hn hu hv h1 h2 ls hl K
    have b9 := w.2.2.2.2.2 9 (y + 1)
    have b8 := w.2.2.2.2.2 9 y
    refine lv_iload_n C.1 C.2.1 dX1_touchAbove_16 rfl (lv_at hl 0 rfl) ?_
    refine lv_aload_n C.1 C.2.1 dX1_touchAbove_17 rfl (lv_at hl 2 rfl) ?_
    refine cl_g9 C w dX1_touchAbove_18 ?_
    refine lv_iload_n C.1 C.2.1 dX1_touchAbove_21 rfl (lv_at hl 3 rfl) ?_
    refine cl_l9 C w (by omega) dX1_touchAbove_22 ?_
    refine z_cmp_ge (tgt := 160) C dX1_touchAbove_23 (by decide) (by omega) (by omega) (fun c_23 => ?_) (fun c_23 => ?_)
    · exact K H locs ls w
    · exact absurd c_23 (by omega)
  | succ n ih =>
    intro u v σ H locs w hF hn hu hv h1 h2 ls hl K
    have b9 := w.2.2.2.2.2 9 (y + 1)
    have b8 := w.2.2.2.2.2 9 y
    have b7 := w.2.2.2.2.2 7 u
    have b7v := w.2.2.2.2.2 7 v
    have b5u := w.2.2.2.2.2 5 u
    have b5v := w.2.2.2.2.2 5 v
    have b6u := w.2.2.2.2.2 6 u
    have b6v := w.2.2.2.2.2 6 v
    by_cases hin : u < σ 9 y ∧ v < σ 9 (y + 1)
    · have e0 : taF y (n + 1) u v σ = if σ 6 u < σ 6 v then taF y n (u + 1) v (taS y u v σ) else taF y n u (v + 1) (taS y u v σ) := if_pos hin
      rw [e0] at K
      have K3 : ∀ q H locs ls, clW G h0 r d A s H0 H locs (taS y u v σ) → lv_has ls 5 [(4, .int (nI q)), (2, .int (nI u)), (3, .int (nI v)), (0, .ref h0), (1, .int (nI y))] → W p l e (rmF 3 69) s m args below meth c H locs 0 0 Q (F0 m 133 ls []) := by
        intro q H locs ls w hl
        have hF1 := taS_fo hF y u v
        have e6 := taS_row y u v σ (k' := 6) (by decide)
        have e9 := taS_row y u v σ (k' := 9) (by decide)
        generalize taS y u v σ = τ at w hF1 e6 e9 K
        have e6u : τ 6 u = σ 6 u := by rw [e6]
        have e6v : τ 6 v = σ 6 v := by rw [e6]
        have e9a : τ 9 y = σ 9 y := by rw [e9]
        have e9b : τ 9 (y + 1) = σ 9 (y + 1) := by rw [e9]
        refine lv_aload_n C.1 C.2.1 dX1_touchAbove_133 rfl (lv_at hl 3 rfl) ?_
        refine cl_g6 C w dX1_touchAbove_134 ?_
        refine lv_iload_n C.1 C.2.1 dX1_touchAbove_137 rfl (lv_at hl 1 rfl) ?_
        refine cl_l6 C w (by omega) dX1_touchAbove_138 ?_
        refine lv_aload_n C.1 C.2.1 dX1_touchAbove_139 rfl (lv_at hl 3 rfl) ?_
        refine cl_g6 C w dX1_touchAbove_140 ?_
        refine lv_iload_n C.1 C.2.1 dX1_touchAbove_143 rfl (lv_at hl 2 rfl) ?_
        refine cl_l6 C w (by omega) dX1_touchAbove_144 ?_
        refine z_cmp_ge (tgt := 154) C dX1_touchAbove_145 (by decide) (by omega) (by omega) (fun c_145 => ?_) (fun c_145 => ?_)
        · refine lv_iinc (lv' := [(3, .int (nI (v + 1))), (4, .int (nI q)), (2, .int (nI u)), (0, .ref h0), (1, .int (nI y))]) C.1 C.2.1 dX1_touchAbove_154 hl (k := 2) rfl (nI_add _ _) (by decide) rfl (fun ls hl => ?_)
          refine lv_goto (tgt := 16) C.1 C.2.1 dX1_touchAbove_157 (by decide) ?_
          rw [if_neg (by omega)] at K
          exact ih u (v + 1) τ H locs w hF1 (by omega) (by omega) (by omega) (by omega) (by omega) ls (lv_sub hl [2, 0, 3, 4] rfl) K
        · refine lv_iinc (lv' := [(2, .int (nI (u + 1))), (4, .int (nI q)), (3, .int (nI v)), (0, .ref h0), (1, .int (nI y))]) C.1 C.2.1 dX1_touchAbove_148 hl (k := 1) rfl (nI_add _ _) (by decide) rfl (fun ls hl => ?_)
          refine lv_goto (tgt := 157) C.1 C.2.1 dX1_touchAbove_151 (by decide) ?_
          refine lv_goto (tgt := 16) C.1 C.2.1 dX1_touchAbove_157 (by decide) ?_
          rw [if_pos (by omega)] at K
          exact ih (u + 1) v τ H locs w hF1 (by omega) (by omega) (by omega) (by omega) (by omega) ls (lv_sub hl [0, 2, 3, 4] rfl) K
      have K2 : ∀ q H locs ls, clW G h0 r d A s H0 H locs (ta1 u v σ) → lv_has ls 5 [(4, .int (nI q)), (2, .int (nI u)), (3, .int (nI v)), (0, .ref h0), (1, .int (nI y))] → W p l e (rmF 3 69) s m args below meth c H locs 0 0 Q (F0 m 111 ls []) := by
        intro q H locs ls w hl
        have hF1 := ta1_fo hF u v
        have e7 := ta1_row u v σ (k' := 7) (by decide)
        have e9 := ta1_row u v σ (k' := 9) (by decide)
        have K3' : ∀ H locs ls, clW G h0 r d A s H0 H locs (ta2 y u v (ta1 u v σ)) → lv_has ls 5 [(4, .int (nI q)), (2, .int (nI u)), (3, .int (nI v)), (0, .ref h0), (1, .int (nI y))] → W p l e (rmF 3 69) s m args below meth c H locs 0 0 Q (F0 m 133 ls []) := K3 q
        generalize ta1 u v σ = τ at w hF1 e7 e9 K3'
        have e7u : τ 7 u = σ 7 u := by rw [e7]
        have e7v : τ 7 v = σ 7 v := by rw [e7]
        have e9a : τ 9 y = σ 9 y := by rw [e9]
        have e9b : τ 9 (y + 1) = σ 9 (y + 1) := by rw [e9]
        refine lv_aload_n C.1 C.2.1 dX1_touchAbove_111 rfl (lv_at hl 3 rfl) ?_
        refine cl_g7 C w dX1_touchAbove_112 ?_
        refine lv_iload_n C.1 C.2.1 dX1_touchAbove_115 rfl (lv_at hl 1 rfl) ?_
        refine cl_l7 C w (by omega) dX1_touchAbove_116 ?_
        refine lv_aload_n C.1 C.2.1 dX1_touchAbove_117 rfl (lv_at hl 3 rfl) ?_
        refine cl_g7 C w dX1_touchAbove_118 ?_
        refine lv_iload_n C.1 C.2.1 dX1_touchAbove_121 rfl (lv_at hl 2 rfl) ?_
        refine cl_l7 C w (by omega) dX1_touchAbove_122 ?_
        refine z_cmp_eq (tgt := 133) C dX1_touchAbove_123 (by decide) (by omega) (by omega) (fun c_123 => ?_) (fun c_123 => ?_)
        · have e1 : ta2 y u v τ = τ := by unfold ta2; split <;> first | rfl | omega
          exact K3' H locs ls (by rw [e1]; exact w) hl
        · refine lv_aload_n C.1 C.2.1 dX1_touchAbove_126 rfl (lv_at hl 3 rfl) ?_
          refine lv_iload_n C.1 C.2.1 dX1_touchAbove_127 rfl (lv_at hl 1 rfl) ?_
          refine lv_iload_n C.1 C.2.1 dX1_touchAbove_128 rfl (lv_at hl 2 rfl) ?_
          refine lv_iload_n C.1 C.2.1 dX1_touchAbove_129 rfl (lv_at hl 4 rfl) ?_
          refine z_callv (As := [.int (nI u), .int (nI v), .int (nI y)]) C (m_cornerAbove l G h0 r d τ u v y (by omega) (by omega) hy hF1 (by omega) (by omega)) (cwV 3 C.2.2.2.2 (lw_V q143 q145 qs7 q27 q146) rfl rfl rfl (by decide +kernel) ⟨Nat.le_of_ble_eq_true rfl, Nat.le_of_ble_eq_true rfl⟩) w (cl_rc w) rfl hl.1 rfl (Nat.le_of_ble_eq_true rfl) dX1_touchAbove_130 ⟨Nat.le_refl _, Nat.le_refl _⟩ (fun s1 H locs hp w => ?_)
          have hσ := hp
          rw [hσ] at w
          have e1 : ta2 y u v τ = crF y u v τ := by unfold ta2; split <;> first | rfl | omega
          exact K3' H locs ls (by rw [e1]; exact w) hl
      have K1 : ∀ q ls, q = rch σ u → lv_has ls 5 [(4, .int (nI q)), (2, .int (nI u)), (3, .int (nI v)), (0, .ref h0), (1, .int (nI y))] → W p l e (rmF 3 69) s m args below meth c H locs 0 0 Q (F0 m 54 ls []) := by
        intro q ls hq hl
        have hq2 : q < 2 := by rw [hq]; unfold rch; split <;> decide
        refine lv_aload_n C.1 C.2.1 dX1_touchAbove_54 rfl (lv_at hl 3 rfl) ?_
        refine cl_g7 C w dX1_touchAbove_55 ?_
        refine lv_iload_n C.1 C.2.1 dX1_touchAbove_58 rfl (lv_at hl 1 rfl) ?_
        refine cl_l7 C w (by omega) dX1_touchAbove_59 ?_
        refine lv_aload_n C.1 C.2.1 dX1_touchAbove_60 rfl (lv_at hl 3 rfl) ?_
        refine cl_g7 C w dX1_touchAbove_61 ?_
        refine lv_iload_n C.1 C.2.1 dX1_touchAbove_64 rfl (lv_at hl 2 rfl) ?_
        refine cl_l7 C w (by omega) dX1_touchAbove_65 ?_
        refine z_cmp_ne (tgt := 111) C dX1_touchAbove_66 (by decide) (by omega) (by omega) (fun c_66 => ?_) (fun c_66 => ?_)
        · have e1 : ta1 u v σ = σ := by unfold ta1; rw [← hq]; split <;> first | rfl | omega
          exact K2 q H locs ls (by rw [e1]; exact w) hl
        · refine lv_aload_n C.1 C.2.1 dX1_touchAbove_69 rfl (lv_at hl 3 rfl) ?_
          refine cl_g5 C w dX1_touchAbove_70 ?_
          refine lv_iload_n C.1 C.2.1 dX1_touchAbove_73 rfl (lv_at hl 1 rfl) ?_
          refine cl_l5 C w (by omega) dX1_touchAbove_74 ?_
          refine lv_aload_n C.1 C.2.1 dX1_touchAbove_75 rfl (lv_at hl 3 rfl) ?_
          refine cl_g6 C w dX1_touchAbove_76 ?_
          refine lv_iload_n C.1 C.2.1 dX1_touchAbove_79 rfl (lv_at hl 2 rfl) ?_
          refine cl_l6 C w (by omega) dX1_touchAbove_80 ?_
          refine lv_iload C.1 C.2.1 dX1_touchAbove_81 (lv_at hl 0 rfl) ?_
          refine z_iadd C dX1_touchAbove_83 ?_
          refine z_cmp_gt (tgt := 111) C dX1_touchAbove_84 (by decide) (by omega) (by omega) (fun c_84 => ?_) (fun c_84 => ?_)
          · have e1 : ta1 u v σ = σ := by unfold ta1; rw [← hq]; split <;> first | rfl | omega
            exact K2 q H locs ls (by rw [e1]; exact w) hl
          · refine lv_aload_n C.1 C.2.1 dX1_touchAbove_87 rfl (lv_at hl 3 rfl) ?_
            refine cl_g5 C w dX1_touchAbove_88 ?_
            refine lv_iload_n C.1 C.2.1 dX1_touchAbove_91 rfl (lv_at hl 2 rfl) ?_
            refine cl_l5 C w (by omega) dX1_touchAbove_92 ?_
            refine lv_aload_n C.1 C.2.1 dX1_touchAbove_93 rfl (lv_at hl 3 rfl) ?_
            refine cl_g6 C w dX1_touchAbove_94 ?_
            refine lv_iload_n C.1 C.2.1 dX1_touchAbove_97 rfl (lv_at hl 1 rfl) ?_
            refine cl_l6 C w (by omega) dX1_touchAbove_98 ?_
            refine lv_iload C.1 C.2.1 dX1_touchAbove_99 (lv_at hl 0 rfl) ?_
            refine z_iadd C dX1_touchAbove_101 ?_
            refine z_cmp_gt (tgt := 111) C dX1_touchAbove_102 (by decide) (by omega) (by omega) (fun c_102 => ?_) (fun c_102 => ?_)
            · have e1 : ta1 u v σ = σ := by unfold ta1; rw [← hq]; split <;> first | rfl | omega
              exact K2 q H locs ls (by rw [e1]; exact w) hl
            · refine lv_aload_n C.1 C.2.1 dX1_touchAbove_105 rfl (lv_at hl 3 rfl) ?_
              refine lv_iload_n C.1 C.2.1 dX1_touchAbove_106 rfl (lv_at hl 1 rfl) ?_
              refine lv_iload_n C.1 C.2.1 dX1_touchAbove_107 rfl (lv_at hl 2 rfl) ?_
              refine z_callv (As := [.int (nI u), .int (nI v)]) C (m_unite l G h0 r d σ u v (by omega) (by omega) hF) (cwV 2 C.2.2.2.2 (lw_V q131 q133 qs4 q27 q134) rfl rfl rfl (by decide +kernel) ⟨Nat.le_of_ble_eq_true rfl, Nat.le_of_ble_eq_true rfl⟩) w (cl_rc w) rfl hl.1 rfl (Nat.le_of_ble_eq_true rfl) dX1_touchAbove_108 ⟨Nat.le_refl _, Nat.le_refl _⟩ (fun s1 H locs hp w => ?_)
              have hσ := hp
              rw [hσ] at w
              have e1 : ta1 u v σ = uniteF σ u v := by unfold ta1; rw [← hq]; split <;> first | rfl | omega
              exact K2 q H locs ls (by rw [e1]; exact w) hl
      refine lv_iload_n C.1 C.2.1 dX1_touchAbove_16 rfl (lv_at hl 0 rfl) ?_
      refine lv_aload_n C.1 C.2.1 dX1_touchAbove_17 rfl (lv_at hl 2 rfl) ?_
      refine cl_g9 C w dX1_touchAbove_18 ?_
      refine lv_iload_n C.1 C.2.1 dX1_touchAbove_21 rfl (lv_at hl 3 rfl) ?_
      refine cl_l9 C w (by omega) dX1_touchAbove_22 ?_
      refine z_cmp_ge (tgt := 160) C dX1_touchAbove_23 (by decide) (by omega) (by omega) (fun c_23 => ?_) (fun c_23 => ?_)
      · omega
      · refine lv_iload_n C.1 C.2.1 dX1_touchAbove_26 rfl (lv_at hl 1 rfl) ?_
        refine lv_aload_n C.1 C.2.1 dX1_touchAbove_27 rfl (lv_at hl 2 rfl) ?_
        refine cl_g9 C w dX1_touchAbove_28 ?_
        refine lv_iload_n C.1 C.2.1 dX1_touchAbove_31 rfl (lv_at hl 3 rfl) ?_
        refine lv_iconst (v := nI 1) C.1 C.2.1 dX1_touchAbove_32 (by decide) ?_
        refine z_iadd C dX1_touchAbove_33 ?_
        refine cl_l9 C w (by omega) dX1_touchAbove_34 ?_
        refine z_cmp_ge (tgt := 160) C dX1_touchAbove_35 (by decide) (by omega) (by omega) (fun c_35 => ?_) (fun c_35 => ?_)
        · omega
        · refine lv_aload_n C.1 C.2.1 dX1_touchAbove_38 rfl (lv_at hl 2 rfl) ?_
          refine cl_g7 C w dX1_touchAbove_39 ?_
          refine lv_iload_n C.1 C.2.1 dX1_touchAbove_42 rfl (lv_at hl 0 rfl) ?_
          refine cl_l7 C w (by omega) dX1_touchAbove_43 ?_
          refine z_if_eq (tgt := 51) C dX1_touchAbove_44 (by decide) (by omega) (fun c_44 => ?_) (fun c_44 => ?_)
          · refine lv_iconst (v := nI 0) C.1 C.2.1 dX1_touchAbove_51 (by decide) ?_
            refine lv_istore (lv' := [(4, .int (nI 0)), (2, .int (nI u)), (3, .int (nI v)), (0, .ref h0), (1, .int (nI y))]) C.1 C.2.1 dX1_touchAbove_52 hl (by decide) rfl (fun ls hl => ?_)
            exact K1 0 ls (by unfold rch; split <;> first | rfl | omega) hl
          · refine lv_iconst (v := nI 1) C.1 C.2.1 dX1_touchAbove_47 (by decide) ?_
            refine lv_goto (tgt := 52) C.1 C.2.1 dX1_touchAbove_48 (by decide) ?_
            refine lv_istore (lv' := [(4, .int (nI 1)), (2, .int (nI u)), (3, .int (nI v)), (0, .ref h0), (1, .int (nI y))]) C.1 C.2.1 dX1_touchAbove_52 hl (by decide) rfl (fun ls hl => ?_)
            exact K1 1 ls (by unfold rch; split <;> first | rfl | omega) hl
    · have e0 : taF y (n + 1) u v σ = σ := if_neg hin
      rw [e0] at K
      refine lv_iload_n C.1 C.2.1 dX1_touchAbove_16 rfl (lv_at hl 0 rfl) ?_
      refine lv_aload_n C.1 C.2.1 dX1_touchAbove_17 rfl (lv_at hl 2 rfl) ?_
      refine cl_g9 C w dX1_touchAbove_18 ?_
      refine lv_iload_n C.1 C.2.1 dX1_touchAbove_21 rfl (lv_at hl 3 rfl) ?_
      refine cl_l9 C w (by omega) dX1_touchAbove_22 ?_
      refine z_cmp_ge (tgt := 160) C dX1_touchAbove_23 (by decide) (by omega) (by omega) (fun c_23 => ?_) (fun c_23 => ?_)
      · exact K H locs ls w
      · refine lv_iload_n C.1 C.2.1 dX1_touchAbove_26 rfl (lv_at hl 1 rfl) ?_
        refine lv_aload_n C.1 C.2.1 dX1_touchAbove_27 rfl (lv_at hl 2 rfl) ?_
        refine cl_g9 C w dX1_touchAbove_28 ?_
        refine lv_iload_n C.1 C.2.1 dX1_touchAbove_31 rfl (lv_at hl 3 rfl) ?_
        refine lv_iconst (v := nI 1) C.1 C.2.1 dX1_touchAbove_32 (by decide) ?_
        refine z_iadd C dX1_touchAbove_33 ?_
        refine cl_l9 C w (by omega) dX1_touchAbove_34 ?_
        refine z_cmp_ge (tgt := 160) C dX1_touchAbove_35 (by decide) (by omega) (by omega) (fun c_35 => ?_) (fun c_35 => ?_)
        · exact K H locs ls w
        · exact absurd ⟨c_23, c_35⟩ hin
end
theorem m_touchAbove (l : Launch) (G : va_G) (h0 : Nat) (r : Nat → Nat) (d : Nat → ClassId) (σ : Nat → Nat → Nat) (y : Nat) (hy0 : 0 < y) (hy : y < 12) (hF : ∀ i, σ 8 i ≤ i) (h0a : σ 9 (y - 1) ≤ σ 9 y) (h0b : σ 9 y ≤ σ 9 (y + 1)) (h2 : σ 9 (y + 1) ≤ 145) : zMv l yX1_touchAbove cX1_touchAbove 5 none (rmF 3 69) G (clT d) (clC h0 r d) [.ref h0, .int (nI y)] σ (fun σ' => σ' = taA y σ) := by
  refine zMv_of (own := RX1) (by decide) rfl (Nat.le_of_ble_eq_true rfl) ?_
  intro p e s m args below meth c A ls C hr hlk w hl
  have hl : lv_has ls 5 [(0, .ref h0), (1, .int (nI y))] := hl
  have hbd := w.2.2.2.2.2
  refine lv_aload_n C.1 C.2.1 dX1_touchAbove_0 rfl (lv_at hl 0 rfl) ?_
  refine cl_g9 C w dX1_touchAbove_1 ?_
  refine lv_iload_n C.1 C.2.1 dX1_touchAbove_4 rfl (lv_at hl 1 rfl) ?_
  refine lv_iconst (v := nI 1) C.1 C.2.1 dX1_touchAbove_5 (by decide) ?_
  refine z_isub C (by omega) dX1_touchAbove_6 ?_
  refine cl_l9 C w (by omega) dX1_touchAbove_7 ?_
  refine lv_istore_n (lv' := [(2, .int (nI (σ 9 (y - 1)))), (0, .ref h0), (1, .int (nI y))]) C.1 C.2.1 dX1_touchAbove_8 rfl hl (by decide) rfl (fun ls hl => ?_)
  refine lv_aload_n C.1 C.2.1 dX1_touchAbove_9 rfl (lv_at hl 1 rfl) ?_
  refine cl_g9 C w dX1_touchAbove_10 ?_
  refine lv_iload_n C.1 C.2.1 dX1_touchAbove_13 rfl (lv_at hl 2 rfl) ?_
  refine cl_l9 C w (by omega) dX1_touchAbove_14 ?_
  refine lv_istore_n (lv' := [(3, .int (nI (σ 9 y))), (2, .int (nI (σ 9 (y - 1)))), (0, .ref h0), (1, .int (nI y))]) C.1 C.2.1 dX1_touchAbove_15 rfl hl (by decide) rfl (fun ls hl => ?_)
  refine ta_loop C hy (σ 9 y + σ 9 (y + 1)) (σ 9 (y - 1)) (σ 9 y) σ _ _ w hF (by omega) (by omega) (by omega) (by omega) (by omega) ls (lv_sub hl [1, 0, 2, 3] rfl) (fun H locs ls w => ?_)
  exact z_vret C hr hlk w rfl dX1_touchAbove_160
end
section
set_option maxRecDepth 100000
/-! ===== CompLabel: settleRuns, sumUp ===== -/
def stB (k : Nat) (s : Nat → Nat → Nat) : Nat := if s 5 k = 0 then 0 else up s 8 k (s 8 (s 8 k)) 8 (k - 1)
def stA (k : Nat) (s : Nat → Nat → Nat) : Nat → Nat → Nat := up (up (up (up s 8 k (s 8 (s 8 k))) 12 k (s 6 k - s 5 k + 1)) 10 k (stB k s)) 11 k (s 11 (stB k s) + 1)
def stS (k : Nat) (s : Nat → Nat → Nat) : Nat → Nat → Nat :=
  if s 8 (s 8 k) ≠ k then up (up s 8 k (s 8 (s 8 k))) 12 (s 8 (s 8 k)) (s 12 (s 8 (s 8 k)) + (s 6 k - s 5 k + 1))
  else if s 7 k ≠ 0 then up (up (up (stA k s) 15 k (s 17 0)) 16 (s 17 0) k) 17 0 (s 17 0 + 1) else up (stA k s) 18 0 (s 18 0 + 1)
def stI (s : Nat → Nat → Nat) : Nat → Nat → Nat := up (up (up (up (up s 17 0 0) 18 0 1) 12 0 0) 11 0 0) 10 0 0
def stF (s : Nat → Nat → Nat) : Nat → Nat → Nat := fwd stS (s 4 0 - 1) 1 (stI s)
/-- what a step of settleRuns asks -/
def StOk (k : Nat) (s : Nat → Nat → Nat) : Prop := (∀ i, s 8 i ≤ i) ∧ s 5 k ≤ s 6 k ∧ s 6 k < 128 ∧ s 12 (s 8 (s 8 k)) + (s 6 k - s 5 k + 1) < 32768 ∧ s 11 (stB k s) + 1 < 128 ∧ stB k s < 145 ∧ s 17 0 < 145 ∧ s 18 0 < 1000
theorem stA_row (k : Nat) (s : Nat → Nat → Nat) {k' : Nat} (h : k' ≠ 8 ∧ k' ≠ 10 ∧ k' ≠ 11 ∧ k' ≠ 12) : stA k s k' = s k' := by
  unfold stA
  rw [up_row h.2.2.1, up_row h.2.1, up_row h.2.2.2, up_row h.1]
theorem stS_row (k : Nat) (s : Nat → Nat → Nat) {k' : Nat} (h : k' < 8 ∨ k' = 9) : stS k s k' = s k' := by
  unfold stS
  split
  · rw [up_row (by omega), up_row (by omega)]
  · split
    · rw [up_row (by omega), up_row (by omega), up_row (by omega), stA_row _ _ (by omega)]
    · rw [up_row (by omega), stA_row _ _ (by omega)]
section
variable {p : Program} {l : Launch} {e : Env} {R : Room} {s : State} {m : MethodId} {args : Array Value} {below : List Frame} {meth : Method} {c : Code} {H : Heap} {locs : List Loc} {Q : State → Prop}
variable {G : va_G} {A : Nat → Prop} {H0 : Heap} {σ : Nat → Nat → Nat} {h0 : Nat} {r : Nat → Nat} {d : Nat → ClassId}
theorem st_loop (C : zC p m c cX1_settleRuns 5 s args RX1) : ∀ n k σ H locs, clW G h0 r d A s H0 H locs σ → σ 4 0 = k + n → 1 ≤ k → k + n ≤ 145 → (∀ j k', j < n → k' = k + j → StOk k' (fwd stS j k σ)) → ∀ ls, lv_has ls 5 [(1, .int (nI k)), (0, .ref h0)] → (∀ H locs ls, clW G h0 r d A s H0 H locs (fwd stS n k σ) → W p l e R s m args below meth c H locs 0 0 Q (F0 m 216 ls [])) → W p l e R s m args below meth c H locs 0 0 Q (F0 m 33 ls []) := by
  intro n
  induction n with
  | zero =>
    intro k σ H locs w hn h1 h2 hok ls hl K
    refine lv_iload_n C.1 C.2.1 dX1_settleRuns_33 rfl (lv_at hl 0 rfl) ?_
    refine lv_aload_n C.1 C.2.1 dX1_settleRuns_34 rfl (lv_at hl 1 rfl) ?_
    refine cl_g4 C w dX1_settleRuns_35 ?_
    refine z_cmp_ge (tgt := 216) C dX1_settleRuns_38 (by decide) (by omega) (by omega) (fun c_38 => ?_) (fun c_38 => ?_)
    · exact K H locs ls w
    · exact absurd c_38 (by omega)
  | succ n ih =>
    intro k σ H locs w hn h1 h2 hok ls hl K
    have g : StOk k σ := hok 0 k (by omega) rfl
    obtain ⟨hF, g1, g2, g3, g4, g5, g6, g7⟩ := g
    have f1 := hF k
    have f2 := hF (σ 8 k)
    have b5 := w.2.2.2.2.2 5 k
    have b7 := w.2.2.2.2.2 7 k
    have b4 := w.2.2.2.2.2 4 0
    have hok' : ∀ j k', j < n → k' = k + 1 + j → StOk k' (fwd stS j (k + 1) (stS k σ)) := fun j k' hj hk => hok (j + 1) k' (by omega) (by omega)
    refine lv_iload_n C.1 C.2.1 dX1_settleRuns_33 rfl (lv_at hl 0 rfl) ?_
    refine lv_aload_n C.1 C.2.1 dX1_settleRuns_34 rfl (lv_at hl 1 rfl) ?_
    refine cl_g4 C w dX1_settleRuns_35 ?_
    refine z_cmp_ge (tgt := 216) C dX1_settleRuns_38 (by decide) (by omega) (by omega) (fun c_38 => ?_) (fun c_38 => ?_)
    · exact absurd c_38 (by omega)
    · refine lv_aload_n C.1 C.2.1 dX1_settleRuns_41 rfl (lv_at hl 1 rfl) ?_
      refine cl_g6 C w dX1_settleRuns_42 ?_
      refine lv_iload_n C.1 C.2.1 dX1_settleRuns_45 rfl (lv_at hl 0 rfl) ?_
      refine cl_l6 C w (by omega) dX1_settleRuns_46 ?_
      refine lv_aload_n C.1 C.2.1 dX1_settleRuns_47 rfl (lv_at hl 1 rfl) ?_
      refine cl_g5 C w dX1_settleRuns_48 ?_
      refine lv_iload_n C.1 C.2.1 dX1_settleRuns_51 rfl (lv_at hl 0 rfl) ?_
      refine cl_l5 C w (by omega) dX1_settleRuns_52 ?_
      refine z_isub C (by omega) dX1_settleRuns_53 ?_
      refine lv_iconst (v := nI 1) C.1 C.2.1 dX1_settleRuns_54 (by decide) ?_
      refine z_iadd C dX1_settleRuns_55 ?_
      refine lv_istore_n (lv' := [(2, .int (nI (((σ 6 k) - (σ 5 k)) + 1))), (1, .int (nI k)), (0, .ref h0)]) C.1 C.2.1 dX1_settleRuns_56 rfl hl (by decide) rfl (fun ls hl => ?_)
      refine lv_aload_n C.1 C.2.1 dX1_settleRuns_57 rfl (lv_at hl 2 rfl) ?_
      refine cl_g8 C w dX1_settleRuns_58 ?_
      refine lv_iload_n C.1 C.2.1 dX1_settleRuns_61 rfl (lv_at hl 1 rfl) ?_
      refine lv_aload_n C.1 C.2.1 dX1_settleRuns_62 rfl (lv_at hl 2 rfl) ?_
      refine cl_g8 C w dX1_settleRuns_63 ?_
      refine lv_aload_n C.1 C.2.1 dX1_settleRuns_66 rfl (lv_at hl 2 rfl) ?_
      refine cl_g8 C w dX1_settleRuns_67 ?_
      refine lv_iload_n C.1 C.2.1 dX1_settleRuns_70 rfl (lv_at hl 1 rfl) ?_
      refine cl_l8 C w (by omega) dX1_settleRuns_71 ?_
      refine cl_l8 C w (by omega) dX1_settleRuns_72 ?_
      refine cl_s8 C w (by omega) (by omega) dX1_settleRuns_73 (fun H locs w => ?_)
      refine lv_aload_n C.1 C.2.1 dX1_settleRuns_74 rfl (lv_at hl 2 rfl) ?_
      refine cl_g8 C w dX1_settleRuns_75 ?_
      refine lv_iload_n C.1 C.2.1 dX1_settleRuns_78 rfl (lv_at hl 1 rfl) ?_
      refine cl_l8 C w (by omega) dX1_settleRuns_79 ?_
      refine W.eq (g2 := F0 m 80 ls [.int (nI (σ 8 (σ 8 k)))]) (by rw [up_eq]) ?_
      refine lv_istore_n (lv' := [(3, .int (nI (σ 8 (σ 8 k)))), (2, .int (nI (((σ 6 k) - (σ 5 k)) + 1))), (1, .int (nI k)), (0, .ref h0)]) C.1 C.2.1 dX1_settleRuns_80 rfl hl (by decide) rfl (fun ls hl => ?_)
      refine lv_iload_n C.1 C.2.1 dX1_settleRuns_81 rfl (lv_at hl 0 rfl) ?_
      refine lv_iload_n C.1 C.2.1 dX1_settleRuns_82 rfl (lv_at hl 2 rfl) ?_
      refine z_cmp_eq (tgt := 100) C dX1_settleRuns_83 (by decide) (by omega) (by omega) (fun c_83 => ?_) (fun c_83 => ?_)
      · refine lv_aload_n C.1 C.2.1 dX1_settleRuns_100 rfl (lv_at hl 3 rfl) ?_
        refine cl_g12 C w dX1_settleRuns_101 ?_
        refine lv_iload_n C.1 C.2.1 dX1_settleRuns_104 rfl (lv_at hl 2 rfl) ?_
        refine lv_iload_n C.1 C.2.1 dX1_settleRuns_105 rfl (lv_at hl 1 rfl) ?_
        refine z_i2s C (by omega) dX1_settleRuns_106 ?_
        refine cl_s12 C w (by omega) (by omega) dX1_settleRuns_107 (fun H locs w => ?_)
        refine lv_aload_n C.1 C.2.1 dX1_settleRuns_108 rfl (lv_at hl 3 rfl) ?_
        refine cl_g5 C w dX1_settleRuns_109 ?_
        refine lv_iload_n C.1 C.2.1 dX1_settleRuns_112 rfl (lv_at hl 2 rfl) ?_
        refine cl_l5 C w (by omega) dX1_settleRuns_113 ?_
        refine W.eq (g2 := F0 m 114 ls [.int (nI (σ 5 k))]) rfl ?_
        refine z_if_ne (tgt := 121) C dX1_settleRuns_114 (by decide) (by omega) (fun c_114 => ?_) (fun c_114 => ?_)
        · refine lv_aload_n C.1 C.2.1 dX1_settleRuns_121 rfl (lv_at hl 3 rfl) ?_
          refine cl_g8 C w dX1_settleRuns_122 ?_
          refine lv_iload_n C.1 C.2.1 dX1_settleRuns_125 rfl (lv_at hl 2 rfl) ?_
          refine lv_iconst (v := nI 1) C.1 C.2.1 dX1_settleRuns_126 (by decide) ?_
          refine z_isub C (by omega) dX1_settleRuns_127 ?_
          refine cl_l8 C w (by omega) dX1_settleRuns_128 ?_
          refine W.eq (g2 := F0 m 129 ls [.int (nI ((up σ 8 k (σ 8 (σ 8 k))) 8 (k - 1)))]) rfl ?_
          have hB : stB k σ = (up σ 8 k (σ 8 (σ 8 k))) 8 (k - 1) := if_neg c_114
          rw [hB] at g4 g5
          refine lv_istore (lv' := [(4, .int (nI ((up σ 8 k (σ 8 (σ 8 k))) 8 (k - 1)))), (3, .int (nI (σ 8 (σ 8 k)))), (2, .int (nI (((σ 6 k) - (σ 5 k)) + 1))), (1, .int (nI k)), (0, .ref h0)]) C.1 C.2.1 dX1_settleRuns_129 hl (by decide) rfl (fun ls hl => ?_)
          refine lv_aload_n C.1 C.2.1 dX1_settleRuns_131 rfl (lv_at hl 4 rfl) ?_
          refine cl_g10 C w dX1_settleRuns_132 ?_
          refine lv_iload_n C.1 C.2.1 dX1_settleRuns_135 rfl (lv_at hl 3 rfl) ?_
          refine lv_iload C.1 C.2.1 dX1_settleRuns_136 (lv_at hl 0 rfl) ?_
          refine z_i2s C (by omega) dX1_settleRuns_138 ?_
          refine cl_s10 C w (by omega) (by omega) dX1_settleRuns_139 (fun H locs w => ?_)
          refine lv_aload_n C.1 C.2.1 dX1_settleRuns_140 rfl (lv_at hl 4 rfl) ?_
          refine cl_g11 C w dX1_settleRuns_141 ?_
          refine lv_iload_n C.1 C.2.1 dX1_settleRuns_144 rfl (lv_at hl 3 rfl) ?_
          refine lv_aload_n C.1 C.2.1 dX1_settleRuns_145 rfl (lv_at hl 4 rfl) ?_
          refine cl_g11 C w dX1_settleRuns_146 ?_
          refine lv_iload C.1 C.2.1 dX1_settleRuns_149 (lv_at hl 0 rfl) ?_
          refine cl_l11 C w (by omega) dX1_settleRuns_151 ?_
          refine W.eq (g2 := F0 m 152 ls [.int (nI (σ 11 ((up σ 8 k (σ 8 (σ 8 k))) 8 (k - 1)))), .int (nI k), .ref (r 11)]) rfl ?_
          refine lv_iconst (v := nI 1) C.1 C.2.1 dX1_settleRuns_152 (by decide) ?_
          refine z_iadd C dX1_settleRuns_153 ?_
          refine z_i2b C (by omega) dX1_settleRuns_154 ?_
          refine cl_s11 C w (by omega) (by omega) dX1_settleRuns_155 (fun H locs w => ?_)
          refine lv_aload_n C.1 C.2.1 dX1_settleRuns_156 rfl (lv_at hl 4 rfl) ?_
          refine cl_g7 C w dX1_settleRuns_157 ?_
          refine lv_iload_n C.1 C.2.1 dX1_settleRuns_160 rfl (lv_at hl 3 rfl) ?_
          refine cl_l7 C w (by omega) dX1_settleRuns_161 ?_
          refine W.eq (g2 := F0 m 162 ls [.int (nI (σ 7 k))]) rfl ?_
          refine z_if_eq (tgt := 200) C dX1_settleRuns_162 (by decide) (by omega) (fun c_162 => ?_) (fun c_162 => ?_)
          · refine lv_aload_n C.1 C.2.1 dX1_settleRuns_200 rfl (lv_at hl 4 rfl) ?_
            refine lv_dup C.1 C.2.1 dX1_settleRuns_201 rfl ?_
            refine cl_g18 C w dX1_settleRuns_202 ?_
            refine W.eq (g2 := F0 m 205 ls [.int (nI (σ 18 0)), .ref h0]) rfl ?_
            refine lv_iconst (v := nI 1) C.1 C.2.1 dX1_settleRuns_205 (by decide) ?_
            refine z_iadd C dX1_settleRuns_206 ?_
            refine cl_p18 C w (by omega) dX1_settleRuns_207 (fun H locs w => ?_)
            refine lv_iinc (lv' := [(1, .int (nI (k + 1))), (4, .int (nI ((up σ 8 k (σ 8 (σ 8 k))) 8 (k - 1)))), (3, .int (nI (σ 8 (σ 8 k)))), (2, .int (nI (((σ 6 k) - (σ 5 k)) + 1))), (0, .ref h0)]) C.1 C.2.1 dX1_settleRuns_210 hl (k := 3) rfl (nI_add _ _) (by decide) rfl (fun ls hl => ?_)
            refine lv_goto (tgt := 33) C.1 C.2.1 dX1_settleRuns_213 (by decide) ?_
            have e1 : stS k σ = up (up (up (up (up σ 8 k (σ 8 (σ 8 k))) 12 k (((σ 6 k) - (σ 5 k)) + 1)) 10 k ((up σ 8 k (σ 8 (σ 8 k))) 8 (k - 1))) 11 k ((σ 11 ((up σ 8 k (σ 8 (σ 8 k))) 8 (k - 1))) + 1)) 18 0 ((σ 18 0) + 1) := by unfold stS; rw [if_neg (fun z => z c_83), if_neg (fun z => z c_162)]; unfold stA; rw [hB]
            rw [← e1] at w
            exact ih (k + 1) (stS k σ) H locs w (by rw [stS_row k σ (by omega)]; omega) (by omega) (by omega) hok' ls (lv_sub hl [0, 4] rfl) K
          · refine lv_aload_n C.1 C.2.1 dX1_settleRuns_165 rfl (lv_at hl 4 rfl) ?_
            refine cl_g15 C w dX1_settleRuns_166 ?_
            refine lv_iload_n C.1 C.2.1 dX1_settleRuns_169 rfl (lv_at hl 3 rfl) ?_
            refine lv_aload_n C.1 C.2.1 dX1_settleRuns_170 rfl (lv_at hl 4 rfl) ?_
            refine cl_g17 C w dX1_settleRuns_171 ?_
            refine W.eq (g2 := F0 m 174 ls [.int (nI (σ 17 0)), .int (nI k), .ref (r 15)]) rfl ?_
            refine z_i2s C (by omega) dX1_settleRuns_174 ?_
            refine cl_s15 C w (by omega) (by omega) dX1_settleRuns_175 (fun H locs w => ?_)
            refine lv_aload_n C.1 C.2.1 dX1_settleRuns_176 rfl (lv_at hl 4 rfl) ?_
            refine cl_g16 C w dX1_settleRuns_177 ?_
            refine lv_aload_n C.1 C.2.1 dX1_settleRuns_180 rfl (lv_at hl 4 rfl) ?_
            refine cl_g17 C w dX1_settleRuns_181 ?_
            refine W.eq (g2 := F0 m 184 ls [.int (nI (σ 17 0)), .ref (r 16)]) rfl ?_
            refine lv_iload_n C.1 C.2.1 dX1_settleRuns_184 rfl (lv_at hl 3 rfl) ?_
            refine z_i2s C (by omega) dX1_settleRuns_185 ?_
            refine cl_s16 C w (by omega) (by omega) dX1_settleRuns_186 (fun H locs w => ?_)
            refine lv_aload_n C.1 C.2.1 dX1_settleRuns_187 rfl (lv_at hl 4 rfl) ?_
            refine lv_dup C.1 C.2.1 dX1_settleRuns_188 rfl ?_
            refine cl_g17 C w dX1_settleRuns_189 ?_
            refine W.eq (g2 := F0 m 192 ls [.int (nI (σ 17 0)), .ref h0]) rfl ?_
            refine lv_iconst (v := nI 1) C.1 C.2.1 dX1_settleRuns_192 (by decide) ?_
            refine z_iadd C dX1_settleRuns_193 ?_
            refine cl_p17 C w (by omega) dX1_settleRuns_194 (fun H locs w => ?_)
            refine lv_goto (tgt := 210) C.1 C.2.1 dX1_settleRuns_197 (by decide) ?_
            refine lv_iinc (lv' := [(1, .int (nI (k + 1))), (4, .int (nI ((up σ 8 k (σ 8 (σ 8 k))) 8 (k - 1)))), (3, .int (nI (σ 8 (σ 8 k)))), (2, .int (nI (((σ 6 k) - (σ 5 k)) + 1))), (0, .ref h0)]) C.1 C.2.1 dX1_settleRuns_210 hl (k := 3) rfl (nI_add _ _) (by decide) rfl (fun ls hl => ?_)
            refine lv_goto (tgt := 33) C.1 C.2.1 dX1_settleRuns_213 (by decide) ?_
            have e1 : stS k σ = up (up (up (up (up (up (up σ 8 k (σ 8 (σ 8 k))) 12 k (((σ 6 k) - (σ 5 k)) + 1)) 10 k ((up σ 8 k (σ 8 (σ 8 k))) 8 (k - 1))) 11 k ((σ 11 ((up σ 8 k (σ 8 (σ 8 k))) 8 (k - 1))) + 1)) 15 k (σ 17 0)) 16 (σ 17 0) k) 17 0 ((σ 17 0) + 1) := by unfold stS; rw [if_neg (fun z => z c_83), if_pos c_162]; unfold stA; rw [hB]
            rw [← e1] at w
            exact ih (k + 1) (stS k σ) H locs w (by rw [stS_row k σ (by omega)]; omega) (by omega) (by omega) hok' ls (lv_sub hl [0, 4] rfl) K
        · refine lv_iconst (v := nI 0) C.1 C.2.1 dX1_settleRuns_117 (by decide) ?_
          refine lv_goto (tgt := 129) C.1 C.2.1 dX1_settleRuns_118 (by decide) ?_
          have hB : stB k σ = 0 := if_pos c_114
          rw [hB] at g4 g5
          refine lv_istore (lv' := [(4, .int (nI 0)), (3, .int (nI (σ 8 (σ 8 k)))), (2, .int (nI (((σ 6 k) - (σ 5 k)) + 1))), (1, .int (nI k)), (0, .ref h0)]) C.1 C.2.1 dX1_settleRuns_129 hl (by decide) rfl (fun ls hl => ?_)
          refine lv_aload_n C.1 C.2.1 dX1_settleRuns_131 rfl (lv_at hl 4 rfl) ?_
          refine cl_g10 C w dX1_settleRuns_132 ?_
          refine lv_iload_n C.1 C.2.1 dX1_settleRuns_135 rfl (lv_at hl 3 rfl) ?_
          refine lv_iload C.1 C.2.1 dX1_settleRuns_136 (lv_at hl 0 rfl) ?_
          refine z_i2s C (by omega) dX1_settleRuns_138 ?_
          refine cl_s10 C w (by omega) (by omega) dX1_settleRuns_139 (fun H locs w => ?_)
          refine lv_aload_n C.1 C.2.1 dX1_settleRuns_140 rfl (lv_at hl 4 rfl) ?_
          refine cl_g11 C w dX1_settleRuns_141 ?_
          refine lv_iload_n C.1 C.2.1 dX1_settleRuns_144 rfl (lv_at hl 3 rfl) ?_
          refine lv_aload_n C.1 C.2.1 dX1_settleRuns_145 rfl (lv_at hl 4 rfl) ?_
          refine cl_g11 C w dX1_settleRuns_146 ?_
          refine lv_iload C.1 C.2.1 dX1_settleRuns_149 (lv_at hl 0 rfl) ?_
          refine cl_l11 C w (by omega) dX1_settleRuns_151 ?_
          refine W.eq (g2 := F0 m 152 ls [.int (nI (σ 11 0)), .int (nI k), .ref (r 11)]) rfl ?_
          refine lv_iconst (v := nI 1) C.1 C.2.1 dX1_settleRuns_152 (by decide) ?_
          refine z_iadd C dX1_settleRuns_153 ?_
          refine z_i2b C (by omega) dX1_settleRuns_154 ?_
          refine cl_s11 C w (by omega) (by omega) dX1_settleRuns_155 (fun H locs w => ?_)
          refine lv_aload_n C.1 C.2.1 dX1_settleRuns_156 rfl (lv_at hl 4 rfl) ?_
          refine cl_g7 C w dX1_settleRuns_157 ?_
          refine lv_iload_n C.1 C.2.1 dX1_settleRuns_160 rfl (lv_at hl 3 rfl) ?_
          refine cl_l7 C w (by omega) dX1_settleRuns_161 ?_
          refine W.eq (g2 := F0 m 162 ls [.int (nI (σ 7 k))]) rfl ?_
          refine z_if_eq (tgt := 200) C dX1_settleRuns_162 (by decide) (by omega) (fun c_162 => ?_) (fun c_162 => ?_)
          · refine lv_aload_n C.1 C.2.1 dX1_settleRuns_200 rfl (lv_at hl 4 rfl) ?_
            refine lv_dup C.1 C.2.1 dX1_settleRuns_201 rfl ?_
            refine cl_g18 C w dX1_settleRuns_202 ?_
            refine W.eq (g2 := F0 m 205 ls [.int (nI (σ 18 0)), .ref h0]) rfl ?_
            refine lv_iconst (v := nI 1) C.1 C.2.1 dX1_settleRuns_205 (by decide) ?_
            refine z_iadd C dX1_settleRuns_206 ?_
            refine cl_p18 C w (by omega) dX1_settleRuns_207 (fun H locs w => ?_)
            refine lv_iinc (lv' := [(1, .int (nI (k + 1))), (4, .int (nI 0)), (3, .int (nI (σ 8 (σ 8 k)))), (2, .int (nI (((σ 6 k) - (σ 5 k)) + 1))), (0, .ref h0)]) C.1 C.2.1 dX1_settleRuns_210 hl (k := 3) rfl (nI_add _ _) (by decide) rfl (fun ls hl => ?_)
            refine lv_goto (tgt := 33) C.1 C.2.1 dX1_settleRuns_213 (by decide) ?_
            have e1 : stS k σ = up (up (up (up (up σ 8 k (σ 8 (σ 8 k))) 12 k (((σ 6 k) - (σ 5 k)) + 1)) 10 k 0) 11 k ((σ 11 0) + 1)) 18 0 ((σ 18 0) + 1) := by unfold stS; rw [if_neg (fun z => z c_83), if_neg (fun z => z c_162)]; unfold stA; rw [hB]
            rw [← e1] at w
            exact ih (k + 1) (stS k σ) H locs w (by rw [stS_row k σ (by omega)]; omega) (by omega) (by omega) hok' ls (lv_sub hl [0, 4] rfl) K
          · refine lv_aload_n C.1 C.2.1 dX1_settleRuns_165 rfl (lv_at hl 4 rfl) ?_
            refine cl_g15 C w dX1_settleRuns_166 ?_
            refine lv_iload_n C.1 C.2.1 dX1_settleRuns_169 rfl (lv_at hl 3 rfl) ?_
            refine lv_aload_n C.1 C.2.1 dX1_settleRuns_170 rfl (lv_at hl 4 rfl) ?_
            refine cl_g17 C w dX1_settleRuns_171 ?_
            refine W.eq (g2 := F0 m 174 ls [.int (nI (σ 17 0)), .int (nI k), .ref (r 15)]) rfl ?_
            refine z_i2s C (by omega) dX1_settleRuns_174 ?_
            refine cl_s15 C w (by omega) (by omega) dX1_settleRuns_175 (fun H locs w => ?_)
            refine lv_aload_n C.1 C.2.1 dX1_settleRuns_176 rfl (lv_at hl 4 rfl) ?_
            refine cl_g16 C w dX1_settleRuns_177 ?_
            refine lv_aload_n C.1 C.2.1 dX1_settleRuns_180 rfl (lv_at hl 4 rfl) ?_
            refine cl_g17 C w dX1_settleRuns_181 ?_
            refine W.eq (g2 := F0 m 184 ls [.int (nI (σ 17 0)), .ref (r 16)]) rfl ?_
            refine lv_iload_n C.1 C.2.1 dX1_settleRuns_184 rfl (lv_at hl 3 rfl) ?_
            refine z_i2s C (by omega) dX1_settleRuns_185 ?_
            refine cl_s16 C w (by omega) (by omega) dX1_settleRuns_186 (fun H locs w => ?_)
            refine lv_aload_n C.1 C.2.1 dX1_settleRuns_187 rfl (lv_at hl 4 rfl) ?_
            refine lv_dup C.1 C.2.1 dX1_settleRuns_188 rfl ?_
            refine cl_g17 C w dX1_settleRuns_189 ?_
            refine W.eq (g2 := F0 m 192 ls [.int (nI (σ 17 0)), .ref h0]) rfl ?_
            refine lv_iconst (v := nI 1) C.1 C.2.1 dX1_settleRuns_192 (by decide) ?_
            refine z_iadd C dX1_settleRuns_193 ?_
            refine cl_p17 C w (by omega) dX1_settleRuns_194 (fun H locs w => ?_)
            refine lv_goto (tgt := 210) C.1 C.2.1 dX1_settleRuns_197 (by decide) ?_
            refine lv_iinc (lv' := [(1, .int (nI (k + 1))), (4, .int (nI 0)), (3, .int (nI (σ 8 (σ 8 k)))), (2, .int (nI (((σ 6 k) - (σ 5 k)) + 1))), (0, .ref h0)]) C.1 C.2.1 dX1_settleRuns_210 hl (k := 3) rfl (nI_add _ _) (by decide) rfl (fun ls hl => ?_)
            refine lv_goto (tgt := 33) C.1 C.2.1 dX1_settleRuns_213 (by decide) ?_
            have e1 : stS k σ = up (up (up (up (up (up (up σ 8 k (σ 8 (σ 8 k))) 12 k (((σ 6 k) - (σ 5 k)) + 1)) 10 k 0) 11 k ((σ 11 0) + 1)) 15 k (σ 17 0)) 16 (σ 17 0) k) 17 0 ((σ 17 0) + 1) := by unfold stS; rw [if_neg (fun z => z c_83), if_pos c_162]; unfold stA; rw [hB]
            rw [← e1] at w
            exact ih (k + 1) (stS k σ) H locs w (by rw [stS_row k σ (by omega)]; omega) (by omega) (by omega) hok' ls (lv_sub hl [0, 4] rfl) K
      · refine lv_aload_n C.1 C.2.1 dX1_settleRuns_86 rfl (lv_at hl 3 rfl) ?_
        refine cl_g12 C w dX1_settleRuns_87 ?_
        refine lv_iload_n C.1 C.2.1 dX1_settleRuns_90 rfl (lv_at hl 0 rfl) ?_
        refine lv_dup2_11 C.1 C.2.1 dX1_settleRuns_91 rfl rfl ?_
        refine cl_l12 C w (by omega) dX1_settleRuns_92 ?_
        refine W.eq (g2 := F0 m 93 ls [.int (nI (σ 12 (σ 8 (σ 8 k)))), .int (nI (σ 8 (σ 8 k))), .ref (r 12)]) rfl ?_
        refine lv_iload_n C.1 C.2.1 dX1_settleRuns_93 rfl (lv_at hl 1 rfl) ?_
        refine z_iadd C dX1_settleRuns_94 ?_
        refine z_i2s C (by omega) dX1_settleRuns_95 ?_
        refine cl_s12 C w (by omega) (by omega) dX1_settleRuns_96 (fun H locs w => ?_)
        refine lv_goto (tgt := 210) C.1 C.2.1 dX1_settleRuns_97 (by decide) ?_
        refine lv_iinc (lv' := [(1, .int (nI (k + 1))), (3, .int (nI (σ 8 (σ 8 k)))), (2, .int (nI (((σ 6 k) - (σ 5 k)) + 1))), (0, .ref h0)]) C.1 C.2.1 dX1_settleRuns_210 hl (k := 2) rfl (nI_add _ _) (by decide) rfl (fun ls hl => ?_)
        refine lv_goto (tgt := 33) C.1 C.2.1 dX1_settleRuns_213 (by decide) ?_
        have e1 : stS k σ = up (up σ 8 k (σ 8 (σ 8 k))) 12 (σ 8 (σ 8 k)) ((σ 12 (σ 8 (σ 8 k))) + (((σ 6 k) - (σ 5 k)) + 1)) := by unfold stS; rw [if_pos c_83]
        rw [← e1] at w
        exact ih (k + 1) (stS k σ) H locs w (by rw [stS_row k σ (by omega)]; omega) (by omega) (by omega) hok' ls (lv_sub hl [0, 3] rfl) K
end
theorem m_settleRuns (l : Launch) (G : va_G) (h0 : Nat) (r : Nat → Nat) (d : Nat → ClassId) (σ : Nat → Nat → Nat)  (h1 : 1 ≤ σ 4 0) (h2 : σ 4 0 ≤ 145) (hok : ∀ j k', j < σ 4 0 - 1 → k' = 1 + j → StOk k' (fwd stS j 1 (stI σ))) : zMv l yX1_settleRuns cX1_settleRuns 5 none (rmF 0 0) G (clT d) (clC h0 r d) [.ref h0] σ (fun σ' => σ' = stF σ) := by
  refine zMv_of (own := RX1) (by decide) rfl (Nat.le_of_ble_eq_true rfl) ?_
  intro p e s m args below meth c A ls C hr hlk w hl
  have hl : lv_has ls 5 [(0, .ref h0)] := hl
  have hbd := w.2.2.2.2.2
  refine lv_aload_n C.1 C.2.1 dX1_settleRuns_0 rfl (lv_at hl 0 rfl) ?_
  refine lv_iconst (v := nI 0) C.1 C.2.1 dX1_settleRuns_1 (by decide) ?_
  refine cl_p17 C w (by omega) dX1_settleRuns_2 (fun H locs w => ?_)
  refine lv_aload_n C.1 C.2.1 dX1_settleRuns_5 rfl (lv_at hl 0 rfl) ?_
  refine lv_iconst (v := nI 1) C.1 C.2.1 dX1_settleRuns_6 (by decide) ?_
  refine cl_p18 C w (by omega) dX1_settleRuns_7 (fun H locs w => ?_)
  refine lv_aload_n C.1 C.2.1 dX1_settleRuns_10 rfl (lv_at hl 0 rfl) ?_
  refine cl_g12 C w dX1_settleRuns_11 ?_
  refine lv_iconst (v := nI 0) C.1 C.2.1 dX1_settleRuns_14 (by decide) ?_
  refine lv_iconst (v := nI 0) C.1 C.2.1 dX1_settleRuns_15 (by decide) ?_
  refine cl_s12 C w (by omega) (by omega) dX1_settleRuns_16 (fun H locs w => ?_)
  refine lv_aload_n C.1 C.2.1 dX1_settleRuns_17 rfl (lv_at hl 0 rfl) ?_
  refine cl_g11 C w dX1_settleRuns_18 ?_
  refine lv_iconst (v := nI 0) C.1 C.2.1 dX1_settleRuns_21 (by decide) ?_
  refine lv_iconst (v := nI 0) C.1 C.2.1 dX1_settleRuns_22 (by decide) ?_
  refine cl_s11 C w (by omega) (by omega) dX1_settleRuns_23 (fun H locs w => ?_)
  refine lv_aload_n C.1 C.2.1 dX1_settleRuns_24 rfl (lv_at hl 0 rfl) ?_
  refine cl_g10 C w dX1_settleRuns_25 ?_
  refine lv_iconst (v := nI 0) C.1 C.2.1 dX1_settleRuns_28 (by decide) ?_
  refine lv_iconst (v := nI 0) C.1 C.2.1 dX1_settleRuns_29 (by decide) ?_
  refine cl_s10 C w (by omega) (by omega) dX1_settleRuns_30 (fun H locs w => ?_)
  refine lv_iconst (v := nI 1) C.1 C.2.1 dX1_settleRuns_31 (by decide) ?_
  refine lv_istore_n (lv' := [(1, .int (nI 1)), (0, .ref h0)]) C.1 C.2.1 dX1_settleRuns_32 rfl hl (by decide) rfl (fun ls hl => ?_)
  refine st_loop C (σ 4 0 - 1) 1 (stI σ) _ _ w (show σ 4 0 = _ by omega) (by omega) (by omega) hok ls (lv_sub hl [0, 1] rfl) (fun H locs ls w => ?_)
  exact z_vret C hr hlk w rfl dX1_settleRuns_216
def suZ (k : Nat) (s : Nat → Nat → Nat) : Nat → Nat → Nat := up (up s 13 k 0) 14 k 0
def suS (k : Nat) (s : Nat → Nat → Nat) : Nat → Nat → Nat :=
  if s 8 k ≠ k then s else if s 7 k = 0 then up (up s 13 (s 10 k) (s 13 (s 10 k) + (s 12 k + s 13 k))) 14 (s 10 k) (s 14 (s 10 k) + 1) else up s 13 (s 10 k) (s 13 (s 10 k) + (s 12 k + s 13 k))
/-- a loop downward: j steps from n -/
def bwd {σ : Type} (f : Nat → σ → σ) : Nat → Nat → σ → σ
  | 0, _, s => s
  | j + 1, n, s => bwd f j (n - 1) (f n s)
def suF (s : Nat → Nat → Nat) : Nat → Nat → Nat := bwd suS (s 4 0 - 1) (s 4 0 - 1) (fwd suZ (s 4 0) 0 s)
def SuOk (k : Nat) (s : Nat → Nat → Nat) : Prop := s 8 k = k → s 10 k < 145 ∧ s 13 (s 10 k) + (s 12 k + s 13 k) < 32768 ∧ s 14 (s 10 k) + 1 < 32768
theorem suS_row (k : Nat) (s : Nat → Nat → Nat) {k' : Nat} (h : k' ≠ 13 ∧ k' ≠ 14) : suS k s k' = s k' := by
  unfold suS
  split
  · rfl
  · split
    · rw [up_row h.2, up_row h.1]
    · rw [up_row h.1]
section
variable {p : Program} {l : Launch} {e : Env} {R : Room} {s : State} {m : MethodId} {args : Array Value} {below : List Frame} {meth : Method} {c : Code} {H : Heap} {locs : List Loc} {Q : State → Prop}
variable {G : va_G} {A : Nat → Prop} {H0 : Heap} {σ : Nat → Nat → Nat} {h0 : Nat} {r : Nat → Nat} {d : Nat → ClassId}
theorem su_loop1 (C : zC p m c cX1_sumUp 3 s args RX1) : ∀ n k σ H locs, clW G h0 r d A s H0 H locs σ → σ 4 0 = k + n → k + n ≤ 145 → ∀ ls, lv_has ls 3 [(1, .int (nI k)), (0, .ref h0)] → (∀ H locs ls, clW G h0 r d A s H0 H locs (fwd suZ n k σ) → lv_has ls 3 [(0, .ref h0)] → W p l e R s m args below meth c H locs 0 0 Q (F0 m 30 ls [])) → W p l e R s m args below meth c H locs 0 0 Q (F0 m 2 ls []) := by
  intro n
  induction n with
  | zero =>
    intro k σ H locs w hn h2 ls hl K
    refine lv_iload_n C.1 C.2.1 dX1_sumUp_2 rfl (lv_at hl 0 rfl) ?_
    refine lv_aload_n C.1 C.2.1 dX1_sumUp_3 rfl (lv_at hl 1 rfl) ?_
    refine cl_g4 C w dX1_sumUp_4 ?_
    refine z_cmp_ge (tgt := 30) C dX1_sumUp_7 (by decide) (by omega) (by omega) (fun c_7 => ?_) (fun c_7 => ?_)
    · exact K H locs ls w (lv_sub hl [1] rfl)
    · exact absurd c_7 (by omega)
  | succ n ih =>
    intro k σ H locs w hn h2 ls hl K
    refine lv_iload_n C.1 C.2.1 dX1_sumUp_2 rfl (lv_at hl 0 rfl) ?_
    refine lv_aload_n C.1 C.2.1 dX1_sumUp_3 rfl (lv_at hl 1 rfl) ?_
    refine cl_g4 C w dX1_sumUp_4 ?_
    refine z_cmp_ge (tgt := 30) C dX1_sumUp_7 (by decide) (by omega) (by omega) (fun c_7 => ?_) (fun c_7 => ?_)
    · exact absurd c_7 (by omega)
    · refine lv_aload_n C.1 C.2.1 dX1_sumUp_10 rfl (lv_at hl 1 rfl) ?_
      refine cl_g13 C w dX1_sumUp_11 ?_
      refine lv_iload_n C.1 C.2.1 dX1_sumUp_14 rfl (lv_at hl 0 rfl) ?_
      refine lv_iconst (v := nI 0) C.1 C.2.1 dX1_sumUp_15 (by decide) ?_
      refine cl_s13 C w (by omega) (by omega) dX1_sumUp_16 (fun H locs w => ?_)
      refine lv_aload_n C.1 C.2.1 dX1_sumUp_17 rfl (lv_at hl 1 rfl) ?_
      refine cl_g14 C w dX1_sumUp_18 ?_
      refine lv_iload_n C.1 C.2.1 dX1_sumUp_21 rfl (lv_at hl 0 rfl) ?_
      refine lv_iconst (v := nI 0) C.1 C.2.1 dX1_sumUp_22 (by decide) ?_
      refine cl_s14 C w (by omega) (by omega) dX1_sumUp_23 (fun H locs w => ?_)
      refine lv_iinc (lv' := [(1, .int (nI (k + 1))), (0, .ref h0)]) C.1 C.2.1 dX1_sumUp_24 hl (k := 0) rfl (nI_add _ _) (by decide) rfl (fun ls hl => ?_)
      refine lv_goto (tgt := 2) C.1 C.2.1 dX1_sumUp_27 (by decide) ?_
      exact ih (k + 1) (suZ k σ) H locs w (show σ 4 0 = _ by omega) (by omega) ls hl K
theorem su_loop2 (C : zC p m c cX1_sumUp 3 s args RX1) : ∀ n σ H locs, clW G h0 r d A s H0 H locs σ → n < 145 → (∀ j k', j < n → k' + j = n → SuOk k' (bwd suS j n σ)) → ∀ ls, lv_has ls 3 [(1, .int (nI n)), (0, .ref h0)] → (∀ H locs ls, clW G h0 r d A s H0 H locs (bwd suS n n σ) → W p l e R s m args below meth c H locs 0 0 Q (F0 m 110 ls [])) → W p l e R s m args below meth c H locs 0 0 Q (F0 m 37 ls []) := by
  intro n
  induction n with
  | zero =>
    intro σ H locs w h2 hok ls hl K
    refine lv_iload_n C.1 C.2.1 dX1_sumUp_37 rfl (lv_at hl 0 rfl) ?_
    refine z_if_le (tgt := 110) C dX1_sumUp_38 (by decide) (by decide) (fun c_38 => ?_) (fun c_38 => ?_)
    · exact K H locs ls w
    · exact absurd c_38 (by decide)
  | succ n ih =>
    intro σ H locs w h2 hok ls hl K
    have g : SuOk (n + 1) σ := hok 0 (n + 1) (by omega) rfl
    have hok' : ∀ j k', j < n → k' + j = n → SuOk k' (bwd suS j n (suS (n + 1) σ)) := fun j k' hj hk => hok (j + 1) k' (by omega) (by omega)
    have b8 := w.2.2.2.2.2 8 (n + 1)
    have b7 := w.2.2.2.2.2 7 (n + 1)
    refine lv_iload_n C.1 C.2.1 dX1_sumUp_37 rfl (lv_at hl 0 rfl) ?_
    refine z_if_le (tgt := 110) C dX1_sumUp_38 (by decide) (by omega) (fun c_38 => ?_) (fun c_38 => ?_)
    · exact absurd c_38 (by omega)
    · refine lv_aload_n C.1 C.2.1 dX1_sumUp_41 rfl (lv_at hl 1 rfl) ?_
      refine cl_g8 C w dX1_sumUp_42 ?_
      refine lv_iload_n C.1 C.2.1 dX1_sumUp_45 rfl (lv_at hl 0 rfl) ?_
      refine cl_l8 C w (by omega) dX1_sumUp_46 ?_
      refine lv_iload_n C.1 C.2.1 dX1_sumUp_47 rfl (lv_at hl 0 rfl) ?_
      refine z_cmp_eq (tgt := 54) C dX1_sumUp_48 (by decide) (by omega) (by omega) (fun c_48 => ?_) (fun c_48 => ?_)
      · obtain ⟨g1, g2, g3⟩ := g c_48
        refine lv_aload_n C.1 C.2.1 dX1_sumUp_54 rfl (lv_at hl 1 rfl) ?_
        refine cl_g10 C w dX1_sumUp_55 ?_
        refine lv_iload_n C.1 C.2.1 dX1_sumUp_58 rfl (lv_at hl 0 rfl) ?_
        refine cl_l10 C w (by omega) dX1_sumUp_59 ?_
        refine lv_istore_n (lv' := [(2, .int (nI (σ 10 (n + 1)))), (1, .int (nI (n + 1))), (0, .ref h0)]) C.1 C.2.1 dX1_sumUp_60 rfl hl (by decide) rfl (fun ls hl => ?_)
        refine lv_aload_n C.1 C.2.1 dX1_sumUp_61 rfl (lv_at hl 2 rfl) ?_
        refine cl_g13 C w dX1_sumUp_62 ?_
        refine lv_iload_n C.1 C.2.1 dX1_sumUp_65 rfl (lv_at hl 0 rfl) ?_
        refine lv_dup2_11 C.1 C.2.1 dX1_sumUp_66 rfl rfl ?_
        refine cl_l13 C w (by omega) dX1_sumUp_67 ?_
        refine lv_aload_n C.1 C.2.1 dX1_sumUp_68 rfl (lv_at hl 2 rfl) ?_
        refine cl_g12 C w dX1_sumUp_69 ?_
        refine lv_iload_n C.1 C.2.1 dX1_sumUp_72 rfl (lv_at hl 1 rfl) ?_
        refine cl_l12 C w (by omega) dX1_sumUp_73 ?_
        refine lv_aload_n C.1 C.2.1 dX1_sumUp_74 rfl (lv_at hl 2 rfl) ?_
        refine cl_g13 C w dX1_sumUp_75 ?_
        refine lv_iload_n C.1 C.2.1 dX1_sumUp_78 rfl (lv_at hl 1 rfl) ?_
        refine cl_l13 C w (by omega) dX1_sumUp_79 ?_
        refine z_iadd C dX1_sumUp_80 ?_
        refine z_iadd C dX1_sumUp_81 ?_
        refine z_i2s C (by omega) dX1_sumUp_82 ?_
        refine cl_s13 C w (by omega) (by omega) dX1_sumUp_83 (fun H locs w => ?_)
        refine lv_aload_n C.1 C.2.1 dX1_sumUp_84 rfl (lv_at hl 2 rfl) ?_
        refine cl_g7 C w dX1_sumUp_85 ?_
        refine lv_iload_n C.1 C.2.1 dX1_sumUp_88 rfl (lv_at hl 1 rfl) ?_
        refine cl_l7 C w (by omega) dX1_sumUp_89 ?_
        refine W.eq (g2 := F0 m 90 ls [.int (nI (σ 7 (n + 1)))]) rfl ?_
        refine z_if_ne (tgt := 104) C dX1_sumUp_90 (by decide) (by omega) (fun c_90 => ?_) (fun c_90 => ?_)
        · refine lv_iinc (lv' := [(1, .int (nI n)), (2, .int (nI (σ 10 (n + 1)))), (0, .ref h0)]) C.1 C.2.1 dX1_sumUp_104 hl (k := 1) rfl (by rw [show Int32.ofInt (-1) = -1 from rfl]; exact pk_m1 n) (by decide) rfl (fun ls hl => ?_)
          refine lv_goto (tgt := 37) C.1 C.2.1 dX1_sumUp_107 (by decide) ?_
          have e1 : suS (n + 1) σ = up σ 13 (σ 10 (n + 1)) ((σ 13 (σ 10 (n + 1))) + ((σ 12 (n + 1)) + (σ 13 (n + 1)))) := by unfold suS; rw [if_neg (fun z => z c_48), if_neg c_90]
          exact ih (suS (n + 1) σ) H locs (by rw [e1]; exact w) (by omega) hok' ls (lv_sub hl [0, 2] rfl) K
        · refine lv_aload_n C.1 C.2.1 dX1_sumUp_93 rfl (lv_at hl 2 rfl) ?_
          refine cl_g14 C w dX1_sumUp_94 ?_
          refine lv_iload_n C.1 C.2.1 dX1_sumUp_97 rfl (lv_at hl 0 rfl) ?_
          refine lv_dup2_11 C.1 C.2.1 dX1_sumUp_98 rfl rfl ?_
          refine cl_l14 C w (by omega) dX1_sumUp_99 ?_
          refine W.eq (g2 := F0 m 100 ls [.int (nI (σ 14 (σ 10 (n + 1)))), .int (nI (σ 10 (n + 1))), .ref (r 14)]) rfl ?_
          refine lv_iconst (v := nI 1) C.1 C.2.1 dX1_sumUp_100 (by decide) ?_
          refine z_iadd C dX1_sumUp_101 ?_
          refine z_i2s C (by omega) dX1_sumUp_102 ?_
          refine cl_s14 C w (by omega) (by omega) dX1_sumUp_103 (fun H locs w => ?_)
          refine lv_iinc (lv' := [(1, .int (nI n)), (2, .int (nI (σ 10 (n + 1)))), (0, .ref h0)]) C.1 C.2.1 dX1_sumUp_104 hl (k := 1) rfl (by rw [show Int32.ofInt (-1) = -1 from rfl]; exact pk_m1 n) (by decide) rfl (fun ls hl => ?_)
          refine lv_goto (tgt := 37) C.1 C.2.1 dX1_sumUp_107 (by decide) ?_
          have e1 : suS (n + 1) σ = up (up σ 13 (σ 10 (n + 1)) ((σ 13 (σ 10 (n + 1))) + ((σ 12 (n + 1)) + (σ 13 (n + 1))))) 14 (σ 10 (n + 1)) ((σ 14 (σ 10 (n + 1))) + 1) := by unfold suS; rw [if_neg (fun z => z c_48), if_pos c_90]
          exact ih (suS (n + 1) σ) H locs (by rw [e1]; exact w) (by omega) hok' ls (lv_sub hl [0, 2] rfl) K
      · refine lv_goto (tgt := 104) C.1 C.2.1 dX1_sumUp_51 (by decide) ?_
        refine lv_iinc (lv' := [(1, .int (nI n)), (0, .ref h0)]) C.1 C.2.1 dX1_sumUp_104 hl (k := 0) rfl (by rw [show Int32.ofInt (-1) = -1 from rfl]; exact pk_m1 n) (by decide) rfl (fun ls hl => ?_)
        refine lv_goto (tgt := 37) C.1 C.2.1 dX1_sumUp_107 (by decide) ?_
        have e1 : suS (n + 1) σ = σ := by unfold suS; rw [if_pos c_48]
        exact ih (suS (n + 1) σ) H locs (by rw [e1]; exact w) (by omega) hok' ls (lv_sub hl [0, 1] rfl) K
end
theorem m_sumUp (l : Launch) (G : va_G) (h0 : Nat) (r : Nat → Nat) (d : Nat → ClassId) (σ : Nat → Nat → Nat)  (h1 : 1 ≤ σ 4 0) (h2 : σ 4 0 ≤ 145) (hok : ∀ j k', j < σ 4 0 - 1 → k' + j = σ 4 0 - 1 → SuOk k' (bwd suS j (σ 4 0 - 1) (fwd suZ (σ 4 0) 0 σ))) : zMv l yX1_sumUp cX1_sumUp 3 none (rmF 0 0) G (clT d) (clC h0 r d) [.ref h0] σ (fun σ' => σ' = suF σ) := by
  refine zMv_of (own := RX1) (by decide) rfl (Nat.le_of_ble_eq_true rfl) ?_
  intro p e s m args below meth c A ls C hr hlk w hl
  have hl : lv_has ls 3 [(0, .ref h0)] := hl
  have hbd := w.2.2.2.2.2
  have hz : ∀ n k σ, fwd suZ n k σ 4 0 = σ 4 0 := by
    intro n
    induction n with
    | zero => intro k σ; rfl
    | succ n ih => intro k σ; exact ih (k + 1) (suZ k σ)
  refine lv_iconst (v := nI 0) C.1 C.2.1 dX1_sumUp_0 (by decide) ?_
  refine lv_istore_n (lv' := [(1, .int (nI 0)), (0, .ref h0)]) C.1 C.2.1 dX1_sumUp_1 rfl hl (by decide) rfl (fun ls hl => ?_)
  refine su_loop1 C (σ 4 0) 0 σ _ _ w (by omega) (by omega) ls hl (fun H locs ls w hl => ?_)
  have e4 := hz (σ 4 0) 0 σ
  have hτ : suF σ = bwd suS (σ 4 0 - 1) (σ 4 0 - 1) (fwd suZ (σ 4 0) 0 σ) := rfl
  generalize fwd suZ (σ 4 0) 0 σ = τ at w e4 hok hτ
  rw [← e4] at hok hτ h1 h2
  refine lv_aload_n C.1 C.2.1 dX1_sumUp_30 rfl (lv_at hl 0 rfl) ?_
  refine cl_g4 C w dX1_sumUp_31 ?_
  refine lv_iconst (v := nI 1) C.1 C.2.1 dX1_sumUp_34 (by decide) ?_
  refine z_isub C (by omega) dX1_sumUp_35 ?_
  refine lv_istore_n (lv' := [(1, .int (nI ((τ 4 0) - 1))), (0, .ref h0)]) C.1 C.2.1 dX1_sumUp_36 rfl hl (by decide) rfl (fun ls hl => ?_)
  refine su_loop2 C (τ 4 0 - 1) τ _ _ w (by omega) hok ls hl (fun H locs ls w => ?_)
  exact z_vret C hr hlk w hτ.symm dX1_sumUp_110
end
section
set_option maxRecDepth 100000
/-! ===== CompLabel: labelAll ===== -/
theorem cutS_row (v x : Nat) (s : Nat → Nat → Nat) {k' : Nat} (h : k' < 4 ∨ 8 < k') : cutS v x s k' = s k' := by
  unfold cutS
  rw [up_row (by omega), up_row (by omega), up_row (by omega), up_row (by omega), up_row (by omega)]
theorem cutS_fo {s : Nat → Nat → Nat} (hF : ∀ i, s 8 i ≤ i) (v x : Nat) : ∀ i, cutS v x s 8 i ≤ i := by
  intro i
  unfold cutS
  rw [up_row (by decide)]
  by_cases e : i = s 4 0
  · rw [e, up_eq]; exact Nat.le_refl _
  · rw [up_ne (Or.inr e), up_row (by decide), up_row (by decide), up_row (by decide)]; exact hF i
theorem cutF_row (v : Nat) : ∀ n x (s : Nat → Nat → Nat) {k' : Nat}, (k' < 4 ∨ 8 < k') → cutF v n x s k' = s k' := by
  intro n
  induction n with
  | zero => intro x s k' _; rfl
  | succ n ih =>
    intro x s k' h
    show (if x < s 0 0 then cutF v n (endF v (s 0 0) (bit v x) 12 x + 1) (cutS v x s) else s) k' = s k'
    split
    · rw [ih _ _ h, cutS_row v x s h]
    · rfl
theorem cutF_fo (v : Nat) : ∀ n x (s : Nat → Nat → Nat), (∀ i, s 8 i ≤ i) → ∀ i, cutF v n x s 8 i ≤ i := by
  intro n
  induction n with
  | zero => intro x s h; exact h
  | succ n ih =>
    intro x s h
    show ∀ i, (if x < s 0 0 then cutF v n (endF v (s 0 0) (bit v x) 12 x + 1) (cutS v x s) else s) 8 i ≤ i
    split
    · exact ih _ _ (cutS_fo h v x)
    · exact h
theorem cutS_4 (v x : Nat) (s : Nat → Nat → Nat) : cutS v x s 4 0 = s 4 0 + 1 := rfl
theorem cutF_4 (v : Nat) : ∀ n x (s : Nat → Nat → Nat), s 4 0 ≤ cutF v n x s 4 0 ∧ cutF v n x s 4 0 ≤ s 4 0 + (s 0 0 - x) := by
  intro n
  induction n with
  | zero => intro x s; exact ⟨Nat.le_refl _, Nat.le_add_right _ _⟩
  | succ n ih =>
    intro x s
    show s 4 0 ≤ (if x < s 0 0 then cutF v n (endF v (s 0 0) (bit v x) 12 x + 1) (cutS v x s) else s) 4 0 ∧ (if x < s 0 0 then cutF v n (endF v (s 0 0) (bit v x) 12 x + 1) (cutS v x s) else s) 4 0 ≤ _
    split
    · have i := ih (endF v (s 0 0) (bit v x) 12 x + 1) (cutS v x s)
      have g := endF_ge v (s 0 0) (bit v x) 12 x
      rw [cutS_4, cutS_row v x s (by omega)] at i
      omega
    · exact ⟨Nat.le_refl _, Nat.le_add_right _ _⟩
theorem obF_row (y : Nat) (s : Nat → Nat → Nat) {k' : Nat} (h : k' ≠ 8) : obF y s k' = s k' :=
  fwd_inv (fun t => t k' = s k') _ _ s rfl (fun j t _ _ ht => by rw [obS_row _ _ _ h]; exact ht)
theorem obF_fo {s : Nat → Nat → Nat} (hF : ∀ i, s 8 i ≤ i) (y : Nat) : ∀ i, obF y s 8 i ≤ i :=
  fwd_inv (fun t => ∀ i, t 8 i ≤ i) _ _ s hF (fun j t _ _ ht => obS_fo ht _ _)
theorem taF_row (y : Nat) : ∀ n u v (s : Nat → Nat → Nat) {k' : Nat}, k' ≠ 8 → taF y n u v s k' = s k' := by
  intro n
  induction n with
  | zero => intro u v s k' _; rfl
  | succ n ih =>
    intro u v s k' h
    show (if u < s 9 y ∧ v < s 9 (y + 1) then (if s 6 u < s 6 v then taF y n (u + 1) v (taS y u v s) else taF y n u (v + 1) (taS y u v s)) else s) k' = s k'
    split
    · split
      · rw [ih _ _ _ h, taS_row _ _ _ _ h]
      · rw [ih _ _ _ h, taS_row _ _ _ _ h]
    · rfl
theorem taF_fo (y : Nat) : ∀ n u v (s : Nat → Nat → Nat), (∀ i, s 8 i ≤ i) → ∀ i, taF y n u v s 8 i ≤ i := by
  intro n
  induction n with
  | zero => intro u v s h; exact h
  | succ n ih =>
    intro u v s h
    show ∀ i, (if u < s 9 y ∧ v < s 9 (y + 1) then (if s 6 u < s 6 v then taF y n (u + 1) v (taS y u v s) else taF y n u (v + 1) (taS y u v s)) else s) 8 i ≤ i
    split
    · split
      · exact ih _ _ _ (taS_fo h _ _ _)
      · exact ih _ _ _ (taS_fo h _ _ _)
    · exact h
def row1 (y : Nat) (s : Nat → Nat → Nat) : Nat → Nat → Nat := up s 9 y (s 4 0)
def row2 (y : Nat) (s : Nat → Nat → Nat) : Nat → Nat → Nat := cutF (s 2 y) 12 0 (row1 y s)
def row3 (y : Nat) (s : Nat → Nat → Nat) : Nat → Nat → Nat := up (row2 y s) 9 (y + 1) (row2 y s 4 0)
def row4 (y : Nat) (s : Nat → Nat → Nat) : Nat → Nat → Nat := obF y (row3 y s)
def rowF (y : Nat) (s : Nat → Nat → Nat) : Nat → Nat → Nat := if y = 0 then row4 y s else taA y (row4 y s)
def labI (s : Nat → Nat → Nat) : Nat → Nat → Nat := up (up (up s 4 0 1) 7 0 0) 8 0 0
def labR (s : Nat → Nat → Nat) : Nat → Nat → Nat := fwd rowF (s 1 0) 0 (labI s)
def labX (s : Nat → Nat → Nat) : Nat → Nat → Nat := up (suF (stF (labR s))) 3 0 1
def labF (s : Nat → Nat → Nat) : Nat → Nat → Nat := if s 3 0 ≠ 0 then s else labX s
/-- what holds before row y -/
def LI (y : Nat) (s : Nat → Nat → Nat) : Prop := 1 ≤ s 0 0 ∧ s 0 0 ≤ 12 ∧ 1 ≤ s 1 0 ∧ s 1 0 ≤ 12 ∧ (∀ i, s 8 i ≤ i) ∧ 1 ≤ s 4 0 ∧ s 4 0 ≤ 1 + 12 * y ∧ (y ≠ 0 → s 9 (y - 1) ≤ s 4 0)
theorem row1_fo {s : Nat → Nat → Nat} (hF : ∀ i, s 8 i ≤ i) (y : Nat) : ∀ i, row1 y s 8 i ≤ i := by
  unfold row1
  rw [up_row (by decide)]
  exact hF
theorem row2_4 (y : Nat) (s : Nat → Nat → Nat) : s 4 0 ≤ row2 y s 4 0 ∧ row2 y s 4 0 ≤ s 4 0 + s 0 0 := cutF_4 (s 2 y) 12 0 (row1 y s)
theorem row3_ok {y : Nat} {s : Nat → Nat → Nat} (h : LI y s) (hy : y < s 1 0) : (∀ i, row3 y s 8 i ≤ i) ∧ row3 y s 0 = s 0 ∧ row3 y s 1 = s 1 ∧ row3 y s 9 y = s 4 0 ∧ row3 y s 9 (y + 1) = row3 y s 4 0 ∧ s 4 0 ≤ row3 y s 4 0 ∧ row3 y s 4 0 ≤ s 4 0 + 12 ∧ (y ≠ 0 → row3 y s 9 (y - 1) = s 9 (y - 1)) := by
  obtain ⟨h1, h2, h3, h4, hF, h5, h6, h7⟩ := h
  have g := row2_4 y s
  have e9 : ∀ i, row2 y s 9 i = row1 y s 9 i := fun i => by unfold row2; rw [cutF_row _ _ _ _ (by omega)]
  refine ⟨?_, ?_, ?_, ?_, ?_, ?_, ?_, ?_⟩
  · unfold row3
    rw [up_row (by decide)]
    exact cutF_fo _ _ _ _ (row1_fo hF y)
  · unfold row3 row2 row1
    rw [up_row (by decide), cutF_row _ _ _ _ (by omega), up_row (by decide)]
  · unfold row3 row2 row1
    rw [up_row (by decide), cutF_row _ _ _ _ (by omega), up_row (by decide)]
  · unfold row3
    rw [up_ne (Or.inr (by omega)), e9]
    unfold row1
    rw [up_eq]
  · unfold row3
    rw [up_eq, up_row (by decide)]
  · unfold row3
    rw [up_row (by decide)]
    omega
  · unfold row3
    rw [up_row (by decide)]
    omega
  · intro h0
    unfold row3
    rw [up_ne (Or.inr (by omega)), e9]
    unfold row1
    rw [up_ne (Or.inr (by omega))]
theorem row4_row (y : Nat) (s : Nat → Nat → Nat) {k' : Nat} (h : k' ≠ 8) : row4 y s k' = row3 y s k' := obF_row y _ h
theorem rowF_row (y : Nat) (s : Nat → Nat → Nat) {k' : Nat} (h : k' ≠ 8) : rowF y s k' = row3 y s k' := by
  unfold rowF
  split
  · exact row4_row y s h
  · unfold taA
    rw [taF_row y _ _ _ _ h, row4_row y s h]
theorem rowF_fo {y : Nat} {s : Nat → Nat → Nat} (h : LI y s) (hy : y < s 1 0) : ∀ i, rowF y s 8 i ≤ i := by
  have h1 := (row3_ok h hy).1
  unfold rowF
  split
  · exact obF_fo h1 y
  · exact taF_fo y _ _ _ _ (obF_fo h1 y)
theorem rowF_LI {y : Nat} {s : Nat → Nat → Nat} (h : LI y s) (hy : y < s 1 0) : LI (y + 1) (rowF y s) := by
  obtain ⟨g1, g2, g3, g4, g5, g6, g7, g8⟩ := row3_ok h hy
  have hf := rowF_fo h hy
  obtain ⟨h1, h2, h3, h4, hF, h5, h6, h7⟩ := h
  unfold LI
  rw [rowF_row y s (k' := 0) (by decide), rowF_row y s (k' := 1) (by decide), rowF_row y s (k' := 4) (by decide), rowF_row y s (k' := 9) (by decide), g2, g3, Nat.add_sub_cancel, g4]
  exact ⟨h1, h2, h3, h4, hf, by omega, by omega, fun _ => g6⟩
theorem labI_LI {s : Nat → Nat → Nat} (h1 : 1 ≤ s 0 0) (h2 : s 0 0 ≤ 12) (h3 : 1 ≤ s 1 0) (h4 : s 1 0 ≤ 12) (hF : ∀ i, s 8 i ≤ i) : LI 0 (labI s) := by
  refine ⟨h1, h2, h3, h4, fun i => ?_, Nat.le_refl 1, Nat.le_refl 1, fun q => absurd rfl q⟩
  unfold labI
  by_cases e : i = 0
  · rw [e, up_eq]; exact Nat.le_refl _
  · rw [up_ne (Or.inr e), up_row (by decide), up_row (by decide)]; exact hF i
theorem fwd_LI : ∀ n y (s : Nat → Nat → Nat), LI y s → s 1 0 = y + n → LI (y + n) (fwd rowF n y s) ∧ (fwd rowF n y s) 1 0 = s 1 0 := by
  intro n
  induction n with
  | zero => intro y s h e; exact ⟨h, rfl⟩
  | succ n ih =>
    intro y s h e
    have g := row3_ok h (by omega)
    have e1 : rowF y s 1 0 = s 1 0 := by rw [rowF_row y s (by decide), g.2.2.1]
    have i := ih (y + 1) (rowF y s) (rowF_LI h (by omega)) (by omega)
    rw [e1, show y + 1 + n = y + (n + 1) by omega] at i
    exact i
theorem labR_LI {s : Nat → Nat → Nat} (h1 : 1 ≤ s 0 0) (h2 : s 0 0 ≤ 12) (h3 : 1 ≤ s 1 0) (h4 : s 1 0 ≤ 12) (hF : ∀ i, s 8 i ≤ i) : LI (s 1 0) (labR s) := by
  have := (fwd_LI (s 1 0) 0 (labI s) (labI_LI h1 h2 h3 h4 hF) (show s 1 0 = _ by omega)).1
  rw [Nat.zero_add] at this
  exact this
theorem stF_row (s : Nat → Nat → Nat) {k' : Nat} (h : k' < 8 ∨ k' = 9) : stF s k' = s k' :=
  fwd_inv (fun t => t k' = s k') _ _ (stI s) (by unfold stI; rw [up_row (by omega), up_row (by omega), up_row (by omega), up_row (by omega), up_row (by omega)]) (fun j t _ _ ht => by rw [stS_row _ _ h]; exact ht)
/-- what labelAll asks -/
def LabOk (s : Nat → Nat → Nat) : Prop := 1 ≤ s 0 0 ∧ s 0 0 ≤ 12 ∧ 1 ≤ s 1 0 ∧ s 1 0 ≤ 12 ∧ (∀ i, s 8 i ≤ i) ∧ (s 3 0 = 0 → (∀ j k', j < labR s 4 0 - 1 → k' = 1 + j → StOk k' (fwd stS j 1 (stI (labR s)))) ∧ (∀ j k', j < stF (labR s) 4 0 - 1 → k' + j = stF (labR s) 4 0 - 1 → SuOk k' (bwd suS j (stF (labR s) 4 0 - 1) (fwd suZ (stF (labR s) 4 0) 0 (stF (labR s))))))
section
variable {p : Program} {l : Launch} {e : Env} {R : Room} {s : State} {m : MethodId} {args : Array Value} {below : List Frame} {meth : Method} {c : Code} {H : Heap} {locs : List Loc} {Q : State → Prop}
variable {G : va_G} {A : Nat → Prop} {H0 : Heap} {σ : Nat → Nat → Nat} {h0 : Nat} {r : Nat → Nat} {d : Nat → ClassId}
theorem lab_loop (C : zC p m c cX1_labelAll 2 s args RX1) : ∀ n y σ H locs, clW G h0 r d A s H0 H locs σ → LI y σ → σ 1 0 = y + n → ∀ ls, lv_has ls 2 [(1, .int (nI y)), (0, .ref h0)] → (∀ H locs ls, clW G h0 r d A s H0 H locs (fwd rowF n y σ) → lv_has ls 2 [(0, .ref h0)] → W p l e (rmF 4 93) s m args below meth c H locs 0 0 Q (F0 m 91 ls [])) → W p l e (rmF 4 93) s m args below meth c H locs 0 0 Q (F0 m 29 ls []) := by
  intro n
  induction n with
  | zero =>
    intro y σ H locs w hI hn ls hl K
    have hI2 := hI
    obtain ⟨h1, h2, h3, h4, hF, h5, h6, h7⟩ := hI2
    refine lv_iload_n C.1 C.2.1 dX1_labelAll_29 rfl (lv_at hl 0 rfl) ?_
    refine lv_aload_n C.1 C.2.1 dX1_labelAll_30 rfl (lv_at hl 1 rfl) ?_
    refine cl_g1 C w dX1_labelAll_31 ?_
    refine z_cmp_ge (tgt := 91) C dX1_labelAll_34 (by decide) (by omega) (by omega) (fun c_34 => ?_) (fun c_34 => ?_)
    · exact K H locs ls w (lv_sub hl [1] rfl)
    · exact absurd c_34 (by omega)
  | succ n ih =>
    intro y σ H locs w hI hn ls hl K
    have hI2 := hI
    obtain ⟨h1, h2, h3, h4, hF, h5, h6, h7⟩ := hI2
    obtain ⟨g1, g2, g3, g4, g5, g6, g7, g8⟩ := row3_ok hI (by omega)
    have g20 : row3 y σ 0 0 = σ 0 0 := by rw [g2]
    have g30 : row3 y σ 1 0 = σ 1 0 := by rw [g3]
    have b2 := w.2.2.2.2.2 2 y
    have q4 := row2_4 y σ
    refine lv_iload_n C.1 C.2.1 dX1_labelAll_29 rfl (lv_at hl 0 rfl) ?_
    refine lv_aload_n C.1 C.2.1 dX1_labelAll_30 rfl (lv_at hl 1 rfl) ?_
    refine cl_g1 C w dX1_labelAll_31 ?_
    refine z_cmp_ge (tgt := 91) C dX1_labelAll_34 (by decide) (by omega) (by omega) (fun c_34 => ?_) (fun c_34 => ?_)
    · exact absurd c_34 (by omega)
    · refine lv_aload_n C.1 C.2.1 dX1_labelAll_37 rfl (lv_at hl 1 rfl) ?_
      refine cl_g9 C w dX1_labelAll_38 ?_
      refine lv_iload_n C.1 C.2.1 dX1_labelAll_41 rfl (lv_at hl 0 rfl) ?_
      refine lv_aload_n C.1 C.2.1 dX1_labelAll_42 rfl (lv_at hl 1 rfl) ?_
      refine cl_g4 C w dX1_labelAll_43 ?_
      refine z_i2s C (by omega) dX1_labelAll_46 ?_
      refine cl_s9 C w (by omega) (by omega) dX1_labelAll_47 (fun H locs w => ?_)
      refine lv_aload_n C.1 C.2.1 dX1_labelAll_48 rfl (lv_at hl 1 rfl) ?_
      refine lv_aload_n C.1 C.2.1 dX1_labelAll_49 rfl (lv_at hl 1 rfl) ?_
      refine cl_g2 C w dX1_labelAll_50 ?_
      refine lv_iload_n C.1 C.2.1 dX1_labelAll_53 rfl (lv_at hl 0 rfl) ?_
      refine cl_l2 C w (by omega) dX1_labelAll_54 ?_
      refine W.eq (g2 := F0 m 55 ls [.int (nI (σ 2 y)), .ref h0]) rfl ?_
      refine z_callv (As := [.int (nI (σ 2 y))]) C (m_cutRow l G h0 r d (row1 y σ) (σ 2 y) (by omega) h2 (show σ 4 0 + σ 0 0 ≤ 145 by omega)) (cwV 1 C.2.2.2.2 (lw_V q123 q125 qs2 q27 q126) rfl rfl rfl (by decide +kernel) ⟨Nat.le_of_ble_eq_true rfl, Nat.le_of_ble_eq_true rfl⟩) w (cl_rc w) rfl hl.1 rfl (Nat.le_of_ble_eq_true rfl) dX1_labelAll_55 ⟨Nat.le_refl _, Nat.le_refl _⟩ (fun s1 H locs hp w => ?_)
      have hσ := hp
      rw [hσ] at w
      have w : clW G h0 r d A s H0 H locs (row2 y σ) := w
      have b4 := w.2.2.2.2.2 4 0
      refine lv_aload_n C.1 C.2.1 dX1_labelAll_58 rfl (lv_at hl 1 rfl) ?_
      refine cl_g9 C w dX1_labelAll_59 ?_
      refine lv_iload_n C.1 C.2.1 dX1_labelAll_62 rfl (lv_at hl 0 rfl) ?_
      refine lv_iconst (v := nI 1) C.1 C.2.1 dX1_labelAll_63 (by decide) ?_
      refine z_iadd C dX1_labelAll_64 ?_
      refine lv_aload_n C.1 C.2.1 dX1_labelAll_65 rfl (lv_at hl 1 rfl) ?_
      refine cl_g4 C w dX1_labelAll_66 ?_
      refine z_i2s C (by omega) dX1_labelAll_69 ?_
      refine cl_s9 C w (by omega) (by omega) dX1_labelAll_70 (fun H locs w => ?_)
      refine lv_aload_n C.1 C.2.1 dX1_labelAll_71 rfl (lv_at hl 1 rfl) ?_
      refine lv_iload_n C.1 C.2.1 dX1_labelAll_72 rfl (lv_at hl 0 rfl) ?_
      refine z_callv (As := [.int (nI y)]) C (m_openBorders l G h0 r d (row3 y σ) y (by omega) g1 (by omega) (by omega) (by omega) (by omega)) (cwV 1 C.2.2.2.2 (lw_V q127 q129 qs3 q27 q130) rfl rfl rfl (by decide +kernel) ⟨Nat.le_of_ble_eq_true rfl, Nat.le_of_ble_eq_true rfl⟩) w (cl_rc w) rfl hl.1 rfl (Nat.le_of_ble_eq_true rfl) dX1_labelAll_73 ⟨Nat.le_refl _, Nat.le_refl _⟩ (fun s2 H locs hp w => ?_)
      have hσ := hp
      rw [hσ] at w
      have w : clW G h0 r d A s H0 H locs (row4 y σ) := w
      refine lv_iload_n C.1 C.2.1 dX1_labelAll_76 rfl (lv_at hl 0 rfl) ?_
      refine z_if_le (tgt := 85) C dX1_labelAll_77 (by decide) (by omega) (fun c_77 => ?_) (fun c_77 => ?_)
      · refine lv_iinc (lv' := [(1, .int (nI (y + 1))), (0, .ref h0)]) C.1 C.2.1 dX1_labelAll_85 hl (k := 0) rfl (nI_add _ _) (by decide) rfl (fun ls hl => ?_)
        refine lv_goto (tgt := 29) C.1 C.2.1 dX1_labelAll_88 (by decide) ?_
        have e1 : rowF y σ = row4 y σ := if_pos (by omega)
        exact ih (y + 1) (rowF y σ) H locs (by rw [e1]; exact w) (rowF_LI hI (by omega)) (by rw [rowF_row y σ (by decide), g30]; omega) ls hl K
      · refine lv_aload_n C.1 C.2.1 dX1_labelAll_80 rfl (lv_at hl 1 rfl) ?_
        refine lv_iload_n C.1 C.2.1 dX1_labelAll_81 rfl (lv_at hl 0 rfl) ?_
        refine z_callv (As := [.int (nI y)]) C (m_touchAbove l G h0 r d (row4 y σ) y (by omega) (by omega) (obF_fo g1 y) (by rw [row4_row y σ (by decide)]; have := g8 (by omega); have := h7 (by omega); omega) (by rw [row4_row y σ (by decide)]; omega) (by rw [row4_row y σ (by decide)]; omega)) (cwV 1 C.2.2.2.2 (lw_V q139 q141 qs6 q27 q142) rfl rfl rfl (by decide +kernel) ⟨Nat.le_of_ble_eq_true rfl, Nat.le_of_ble_eq_true rfl⟩) w (cl_rc w) rfl hl.1 rfl (Nat.le_of_ble_eq_true rfl) dX1_labelAll_82 ⟨Nat.le_refl _, Nat.le_refl _⟩ (fun s3 H locs hp w => ?_)
        have hσ := hp
        rw [hσ] at w
        refine lv_iinc (lv' := [(1, .int (nI (y + 1))), (0, .ref h0)]) C.1 C.2.1 dX1_labelAll_85 hl (k := 0) rfl (nI_add _ _) (by decide) rfl (fun ls hl => ?_)
        refine lv_goto (tgt := 29) C.1 C.2.1 dX1_labelAll_88 (by decide) ?_
        have e1 : rowF y σ = taA y (row4 y σ) := if_neg (by omega)
        exact ih (y + 1) (rowF y σ) H locs (by rw [e1]; exact w) (rowF_LI hI (by omega)) (by rw [rowF_row y σ (by decide), g30]; omega) ls hl K
end
theorem m_labelAll (l : Launch) (G : va_G) (h0 : Nat) (r : Nat → Nat) (d : Nat → ClassId) (σ : Nat → Nat → Nat)  (hok : LabOk σ) : zMv l yX1_labelAll cX1_labelAll 2 none (rmF 4 93) G (clT d) (clC h0 r d) [.ref h0] σ (fun σ' => σ' = labF σ) := by
  refine zMv_of (own := RX1) (by decide) rfl (Nat.le_of_ble_eq_true rfl) ?_
  intro p e s m args below meth c A ls C hr hlk w hl
  have hl : lv_has ls 2 [(0, .ref h0)] := hl
  have hbd := w.2.2.2.2.2
  obtain ⟨h1, h2, h3, h4, hF, hs⟩ := hok
  have b3 := hbd 3 0
  refine lv_aload_n C.1 C.2.1 dX1_labelAll_0 rfl (lv_at hl 0 rfl) ?_
  refine cl_g3 C w dX1_labelAll_1 ?_
  refine z_if_eq (tgt := 8) C dX1_labelAll_4 (by decide) (by omega) (fun c_4 => ?_) (fun c_4 => ?_)
  · refine lv_aload_n C.1 C.2.1 dX1_labelAll_8 rfl (lv_at hl 0 rfl) ?_
    refine lv_iconst (v := nI 1) C.1 C.2.1 dX1_labelAll_9 (by decide) ?_
    refine cl_p4 C w (by omega) dX1_labelAll_10 (fun H locs w => ?_)
    refine lv_aload_n C.1 C.2.1 dX1_labelAll_13 rfl (lv_at hl 0 rfl) ?_
    refine cl_g7 C w dX1_labelAll_14 ?_
    refine lv_iconst (v := nI 0) C.1 C.2.1 dX1_labelAll_17 (by decide) ?_
    refine lv_iconst (v := nI 0) C.1 C.2.1 dX1_labelAll_18 (by decide) ?_
    refine cl_s7 C w (by omega) (by omega) dX1_labelAll_19 (fun H locs w => ?_)
    refine lv_aload_n C.1 C.2.1 dX1_labelAll_20 rfl (lv_at hl 0 rfl) ?_
    refine cl_g8 C w dX1_labelAll_21 ?_
    refine lv_iconst (v := nI 0) C.1 C.2.1 dX1_labelAll_24 (by decide) ?_
    refine lv_iconst (v := nI 0) C.1 C.2.1 dX1_labelAll_25 (by decide) ?_
    refine cl_s8 C w (by omega) (by omega) dX1_labelAll_26 (fun H locs w => ?_)
    refine lv_iconst (v := nI 0) C.1 C.2.1 dX1_labelAll_27 (by decide) ?_
    refine lv_istore_n (lv' := [(1, .int (nI 0)), (0, .ref h0)]) C.1 C.2.1 dX1_labelAll_28 rfl hl (by decide) rfl (fun ls hl => ?_)
    have e0 : labF σ = labX σ := if_neg (fun z => z c_4)
    obtain ⟨hs1, hs2⟩ := hs c_4
    have hR := labR_LI h1 h2 h3 h4 hF
    obtain ⟨-, -, -, -, -, r5, r6, -⟩ := hR
    have w : clW G h0 r d A s s.heap H locs (labI σ) := w
    refine lab_loop C (σ 1 0) 0 (labI σ) _ _ w (labI_LI h1 h2 h3 h4 hF) (show σ 1 0 = _ by omega) ls (lv_sub hl [0, 1] rfl) (fun H locs ls w hl => ?_)
    have w : clW G h0 r d A s s.heap H locs (labR σ) := w
    refine lv_aload_n C.1 C.2.1 dX1_labelAll_91 rfl (lv_at hl 0 rfl) ?_
    refine z_callv (As := []) C (m_settleRuns l G h0 r d (labR σ) (by omega) (by omega) hs1) (cwV 0 C.2.2.2.2 (lw_V q147 q149 qs8 q27 q150) rfl rfl rfl (by decide +kernel) ⟨Nat.le_of_ble_eq_true rfl, Nat.le_of_ble_eq_true rfl⟩) w (cl_rc w) rfl hl.1 rfl (Nat.le_of_ble_eq_true rfl) dX1_labelAll_92 ⟨Nat.le_refl _, Nat.le_refl _⟩ (fun s1 H locs hp w => ?_)
    have hσ := hp
    rw [hσ] at w
    refine lv_aload_n C.1 C.2.1 dX1_labelAll_95 rfl (lv_at hl 0 rfl) ?_
    refine z_callv (As := []) C (m_sumUp l G h0 r d (stF (labR σ)) (by rw [stF_row _ (by omega)]; omega) (by rw [stF_row _ (by omega)]; omega) hs2) (cwV 0 C.2.2.2.2 (lw_V q151 q153 qs9 q27 q154) rfl rfl rfl (by decide +kernel) ⟨Nat.le_of_ble_eq_true rfl, Nat.le_of_ble_eq_true rfl⟩) w (cl_rc w) rfl hl.1 rfl (Nat.le_of_ble_eq_true rfl) dX1_labelAll_96 ⟨Nat.le_refl _, Nat.le_refl _⟩ (fun s2 H locs hp w => ?_)
    have hσ := hp
    rw [hσ] at w
    refine lv_aload_n C.1 C.2.1 dX1_labelAll_99 rfl (lv_at hl 0 rfl) ?_
    refine lv_iconst (v := nI 1) C.1 C.2.1 dX1_labelAll_100 (by decide) ?_
    refine cl_p3 C w (by omega) dX1_labelAll_101 (fun H locs w => ?_)
    exact z_vret C hr hlk w (show _ = labF σ by rw [e0]; rfl) dX1_labelAll_104
  · exact z_vret C hr hlk w (if_pos c_4 : labF σ = σ).symm dX1_labelAll_7
end
section
set_option maxRecDepth 100000
/-! ===== CompLabel: its answers ===== -/
theorem z_ifP {P : Prop} [Decidable P] (h : (if P then 1 else 0) ≠ 0) : P := by
  by_cases q : P
  · exact q
  · rw [if_neg q] at h; exact absurd rfl h
theorem z_ifN {P : Prop} [Decidable P] (h : (if P then 1 else 0) = 0) : ¬ P := by
  intro q
  rw [if_pos q] at h
  exact absurd h (by decide)
theorem z_ifB {P : Prop} [Decidable P] : (if P then 1 else 0) < 2147483648 := by
  split <;> decide
theorem rAF_lt (s : Nat → Nat → Nat) (x y : Nat) : ∀ n k, k < 145 → s 9 (y + 1) ≤ 145 → rAF s x y n k < 145 := by
  intro n
  induction n with
  | zero => intro k h _; exact h
  | succ n ih =>
    intro k h h2
    show (if k + 1 < s 9 (y + 1) ∧ s 6 k < x then rAF s x y n (k + 1) else k) < 145
    split
    · exact ih (k + 1) (by omega) h2
    · exact h
def runOf (s : Nat → Nat → Nat) (x y : Nat) : Nat := rAF s x y (s 9 (y + 1)) (s 9 y)
theorem row3_row (y : Nat) (s : Nat → Nat → Nat) {k' : Nat} (h : k' < 4) : row3 y s k' = s k' := by
  unfold row3 row2 row1
  rw [up_row (by omega), cutF_row _ _ _ _ (by omega), up_row (by omega)]
theorem labR_row (s : Nat → Nat → Nat) {k' : Nat} (h : k' < 4) : labR s k' = s k' :=
  fwd_inv (fun t => t k' = s k') _ _ (labI s) (by unfold labI; rw [up_row (by omega), up_row (by omega), up_row (by omega)]) (fun j t _ _ ht => by rw [rowF_row _ _ (by omega), row3_row _ _ h]; exact ht)
theorem bwd_inv {σ : Type} {f : Nat → σ → σ} (I : σ → Prop) : ∀ (j n : Nat) (s : σ), I s → (∀ k s, I s → I (f k s)) → I (bwd f j n s) := by
  intro j
  induction j with
  | zero => intro n s h _; exact h
  | succ j ih => intro n s h hs; exact ih (n - 1) (f n s) (hs n s h) hs
theorem suF_row (s : Nat → Nat → Nat) {k' : Nat} (h : k' ≠ 13 ∧ k' ≠ 14) : suF s k' = s k' := by
  have h1 : fwd suZ (s 4 0) 0 s k' = s k' := fwd_inv (fun t => t k' = s k') _ _ s rfl (fun j t _ _ ht => by unfold suZ; rw [up_row h.2, up_row h.1]; exact ht)
  exact bwd_inv (fun (t : Nat → Nat → Nat) => t k' = s k') _ _ _ h1 (fun k t ht => by rw [suS_row _ _ h]; exact ht)
theorem labX_row (s : Nat → Nat → Nat) {k' : Nat} (h : k' < 3) : labX s k' = s k' := by
  unfold labX
  rw [up_row (by omega), suF_row _ (by omega), stF_row _ (by omega), labR_row _ (by omega)]
theorem labF_row (s : Nat → Nat → Nat) {k' : Nat} (h : k' < 3) : labF s k' = s k' := by
  unfold labF
  split
  · rfl
  · exact labX_row s h
/-- what the answers ask of a labelled state -/
def QOk (s : Nat → Nat → Nat) : Prop := (∀ i, s 8 i ≤ i) ∧ (∀ i, s 10 i < 145) ∧ (∀ i, s 16 i < 145) ∧ s 17 0 ≤ 145 ∧ ∀ y, y < s 1 0 → 1 ≤ s 9 (y + 1) ∧ s 9 (y + 1) ≤ 145 ∧ s 9 y < 145
theorem m_components (l : Launch) (G : va_G) (h0 : Nat) (r : Nat → Nat) (d : Nat → ClassId) (σ : Nat → Nat → Nat)  (hok : LabOk σ) : zMi l yX1_components cX1_components 1 (some .int) (rmF 5 114) G (clT d) (clC h0 r d) [.ref h0] σ (fun v σ' => v = nI (labF σ 17 0) ∧ σ' = labF σ) := by
  refine zMi_of (own := RX1) (by decide) rfl (Nat.le_of_ble_eq_true rfl) ?_
  intro p e s m args below meth c A ls C hr hlk w hl
  have hl : lv_has ls 1 [(0, .ref h0)] := hl
  have hbd := w.2.2.2.2.2
  refine lv_aload_n C.1 C.2.1 dX1_components_0 rfl (lv_at hl 0 rfl) ?_
  refine z_callv (As := []) C (m_labelAll l G h0 r d σ hok) (cwV 0 C.2.2.2.2 (lw_V q119 q121 qs1 q27 q122) rfl rfl rfl (by decide +kernel) ⟨Nat.le_of_ble_eq_true rfl, Nat.le_of_ble_eq_true rfl⟩) w (cl_rc w) rfl hl.1 rfl (Nat.le_of_ble_eq_true rfl) dX1_components_1 ⟨Nat.le_refl _, Nat.le_refl _⟩ (fun s1 H locs hp w => ?_)
  have hσ := hp
  rw [hσ] at w
  refine lv_aload_n C.1 C.2.1 dX1_components_4 rfl (lv_at hl 0 rfl) ?_
  refine cl_g17 C w dX1_components_5 ?_
  exact z_iret C hr hlk w ⟨rfl, rfl⟩ dX1_components_8
theorem m_euler (l : Launch) (G : va_G) (h0 : Nat) (r : Nat → Nat) (d : Nat → ClassId) (σ : Nat → Nat → Nat)  (hok : LabOk σ) : zMi l yX1_euler cX1_euler 1 (some .int) (rmF 5 114) G (clT d) (clC h0 r d) [.ref h0] σ (fun v σ' => v = nI (labF σ 17 0) - (nI (labF σ 18 0) - nI 1) ∧ σ' = labF σ) := by
  refine zMi_of (own := RX1) (by decide) rfl (Nat.le_of_ble_eq_true rfl) ?_
  intro p e s m args below meth c A ls C hr hlk w hl
  have hl : lv_has ls 1 [(0, .ref h0)] := hl
  have hbd := w.2.2.2.2.2
  refine lv_aload_n C.1 C.2.1 dX1_euler_0 rfl (lv_at hl 0 rfl) ?_
  refine z_callv (As := []) C (m_labelAll l G h0 r d σ hok) (cwV 0 C.2.2.2.2 (lw_V q119 q121 qs1 q27 q122) rfl rfl rfl (by decide +kernel) ⟨Nat.le_of_ble_eq_true rfl, Nat.le_of_ble_eq_true rfl⟩) w (cl_rc w) rfl hl.1 rfl (Nat.le_of_ble_eq_true rfl) dX1_euler_1 ⟨Nat.le_refl _, Nat.le_refl _⟩ (fun s1 H locs hp w => ?_)
  have hσ := hp
  rw [hσ] at w
  refine lv_aload_n C.1 C.2.1 dX1_euler_4 rfl (lv_at hl 0 rfl) ?_
  refine cl_g17 C w dX1_euler_5 ?_
  refine lv_aload_n C.1 C.2.1 dX1_euler_8 rfl (lv_at hl 0 rfl) ?_
  refine cl_g18 C w dX1_euler_9 ?_
  refine lv_iconst (v := nI 1) C.1 C.2.1 dX1_euler_12 (by decide) ?_
  refine lv_isub C.1 C.2.1 dX1_euler_13 ?_
  refine lv_isub C.1 C.2.1 dX1_euler_14 ?_
  exact z_iret C hr hlk w ⟨rfl, rfl⟩ dX1_euler_15
theorem m_area (l : Launch) (G : va_G) (h0 : Nat) (r : Nat → Nat) (d : Nat → ClassId) (σ : Nat → Nat → Nat) (K : Int32) (hok : LabOk σ) (hq : QOk (labF σ)) : zMi l yX1_area cX1_area 2 (some .int) (rmF 5 114) G (clT d) (clC h0 r d) [.ref h0, .int K] σ (fun v σ' => ((K < 0 ∨ nI (labF σ 17 0) ≤ K) ∧ v = -1 ∨ ∃ k, k < labF σ 17 0 ∧ K = nI k ∧ v = nI (labF σ 12 (labF σ 16 k))) ∧ σ' = labF σ) := by
  refine zMi_of (own := RX1) (by decide) rfl (Nat.le_of_ble_eq_true rfl) ?_
  intro p e s m args below meth c A ls C hr hlk w hl
  have hl : lv_has ls 2 [(0, .ref h0), (1, .int K)] := hl
  have hbd := w.2.2.2.2.2
  obtain ⟨q8, q10, q16, q17, q9⟩ := hq
  refine lv_aload_n C.1 C.2.1 dX1_area_0 rfl (lv_at hl 0 rfl) ?_
  refine z_callv (As := []) C (m_labelAll l G h0 r d σ hok) (cwV 0 C.2.2.2.2 (lw_V q119 q121 qs1 q27 q122) rfl rfl rfl (by decide +kernel) ⟨Nat.le_of_ble_eq_true rfl, Nat.le_of_ble_eq_true rfl⟩) w (cl_rc w) rfl hl.1 rfl (Nat.le_of_ble_eq_true rfl) dX1_area_1 ⟨Nat.le_refl _, Nat.le_refl _⟩ (fun s1 H locs hp w => ?_)
  have hσ := hp
  rw [hσ] at w
  refine lv_iload_n C.1 C.2.1 dX1_area_4 rfl (lv_at hl 1 rfl) ?_
  refine lv_if_lt (tgt := 16) C.1 C.2.1 dX1_area_5 (by decide) (fun c_5 => ?_) (fun c_5 => ?_)
  · refine lv_iconst (v := (-1)) C.1 C.2.1 dX1_area_16 (by decide) ?_
    refine lv_goto (tgt := 31) C.1 C.2.1 dX1_area_17 (by decide) ?_
    exact z_iret C hr hlk w ⟨Or.inl ⟨Or.inl c_5, rfl⟩, rfl⟩ dX1_area_31
  · refine lv_iload_n C.1 C.2.1 dX1_area_8 rfl (lv_at hl 1 rfl) ?_
    refine lv_aload_n C.1 C.2.1 dX1_area_9 rfl (lv_at hl 0 rfl) ?_
    refine cl_g17 C w dX1_area_10 ?_
    refine lv_icmp_lt (tgt := 20) C.1 C.2.1 dX1_area_13 (by decide) (fun c_13 => ?_) (fun c_13 => ?_)
    · obtain ⟨k, hk, rfl⟩ := nI_of c_5
      have hk2 := (nI_ltI hk (by omega)).mp c_13
      have q16k := q16 k
      refine lv_aload_n C.1 C.2.1 dX1_area_20 rfl (lv_at hl 0 rfl) ?_
      refine cl_g12 C w dX1_area_21 ?_
      refine lv_aload_n C.1 C.2.1 dX1_area_24 rfl (lv_at hl 0 rfl) ?_
      refine cl_g16 C w dX1_area_25 ?_
      refine lv_iload_n C.1 C.2.1 dX1_area_28 rfl (lv_at hl 1 rfl) ?_
      refine cl_l16 C w (by omega) dX1_area_29 ?_
      refine cl_l12 C w (by omega) dX1_area_30 ?_
      exact z_iret C hr hlk w ⟨Or.inr ⟨k, hk2, rfl, rfl⟩, rfl⟩ dX1_area_31
    · refine lv_iconst (v := (-1)) C.1 C.2.1 dX1_area_16 (by decide) ?_
      refine lv_goto (tgt := 31) C.1 C.2.1 dX1_area_17 (by decide) ?_
      exact z_iret C hr hlk w ⟨Or.inl ⟨Or.inr (Int32.not_lt.mp c_13), rfl⟩, rfl⟩ dX1_area_31
theorem m_holes (l : Launch) (G : va_G) (h0 : Nat) (r : Nat → Nat) (d : Nat → ClassId) (σ : Nat → Nat → Nat) (K : Int32) (hok : LabOk σ) (hq : QOk (labF σ)) : zMi l yX1_holes cX1_holes 2 (some .int) (rmF 5 114) G (clT d) (clC h0 r d) [.ref h0, .int K] σ (fun v σ' => ((K < 0 ∨ nI (labF σ 17 0) ≤ K) ∧ v = -1 ∨ ∃ k, k < labF σ 17 0 ∧ K = nI k ∧ v = nI (labF σ 14 (labF σ 16 k))) ∧ σ' = labF σ) := by
  refine zMi_of (own := RX1) (by decide) rfl (Nat.le_of_ble_eq_true rfl) ?_
  intro p e s m args below meth c A ls C hr hlk w hl
  have hl : lv_has ls 2 [(0, .ref h0), (1, .int K)] := hl
  have hbd := w.2.2.2.2.2
  obtain ⟨q8, q10, q16, q17, q9⟩ := hq
  refine lv_aload_n C.1 C.2.1 dX1_holes_0 rfl (lv_at hl 0 rfl) ?_
  refine z_callv (As := []) C (m_labelAll l G h0 r d σ hok) (cwV 0 C.2.2.2.2 (lw_V q119 q121 qs1 q27 q122) rfl rfl rfl (by decide +kernel) ⟨Nat.le_of_ble_eq_true rfl, Nat.le_of_ble_eq_true rfl⟩) w (cl_rc w) rfl hl.1 rfl (Nat.le_of_ble_eq_true rfl) dX1_holes_1 ⟨Nat.le_refl _, Nat.le_refl _⟩ (fun s1 H locs hp w => ?_)
  have hσ := hp
  rw [hσ] at w
  refine lv_iload_n C.1 C.2.1 dX1_holes_4 rfl (lv_at hl 1 rfl) ?_
  refine lv_if_lt (tgt := 16) C.1 C.2.1 dX1_holes_5 (by decide) (fun c_5 => ?_) (fun c_5 => ?_)
  · refine lv_iconst (v := (-1)) C.1 C.2.1 dX1_holes_16 (by decide) ?_
    refine lv_goto (tgt := 31) C.1 C.2.1 dX1_holes_17 (by decide) ?_
    exact z_iret C hr hlk w ⟨Or.inl ⟨Or.inl c_5, rfl⟩, rfl⟩ dX1_holes_31
  · refine lv_iload_n C.1 C.2.1 dX1_holes_8 rfl (lv_at hl 1 rfl) ?_
    refine lv_aload_n C.1 C.2.1 dX1_holes_9 rfl (lv_at hl 0 rfl) ?_
    refine cl_g17 C w dX1_holes_10 ?_
    refine lv_icmp_lt (tgt := 20) C.1 C.2.1 dX1_holes_13 (by decide) (fun c_13 => ?_) (fun c_13 => ?_)
    · obtain ⟨k, hk, rfl⟩ := nI_of c_5
      have hk2 := (nI_ltI hk (by omega)).mp c_13
      have q16k := q16 k
      refine lv_aload_n C.1 C.2.1 dX1_holes_20 rfl (lv_at hl 0 rfl) ?_
      refine cl_g14 C w dX1_holes_21 ?_
      refine lv_aload_n C.1 C.2.1 dX1_holes_24 rfl (lv_at hl 0 rfl) ?_
      refine cl_g16 C w dX1_holes_25 ?_
      refine lv_iload_n C.1 C.2.1 dX1_holes_28 rfl (lv_at hl 1 rfl) ?_
      refine cl_l16 C w (by omega) dX1_holes_29 ?_
      refine cl_l14 C w (by omega) dX1_holes_30 ?_
      exact z_iret C hr hlk w ⟨Or.inr ⟨k, hk2, rfl, rfl⟩, rfl⟩ dX1_holes_31
    · refine lv_iconst (v := (-1)) C.1 C.2.1 dX1_holes_16 (by decide) ?_
      refine lv_goto (tgt := 31) C.1 C.2.1 dX1_holes_17 (by decide) ?_
      exact z_iret C hr hlk w ⟨Or.inl ⟨Or.inr (Int32.not_lt.mp c_13), rfl⟩, rfl⟩ dX1_holes_31
theorem m_enclosed (l : Launch) (G : va_G) (h0 : Nat) (r : Nat → Nat) (d : Nat → ClassId) (σ : Nat → Nat → Nat) (K : Int32) (hok : LabOk σ) (hq : QOk (labF σ)) : zMi l yX1_enclosed cX1_enclosed 2 (some .int) (rmF 5 114) G (clT d) (clC h0 r d) [.ref h0, .int K] σ (fun v σ' => ((K < 0 ∨ nI (labF σ 17 0) ≤ K) ∧ v = -1 ∨ ∃ k, k < labF σ 17 0 ∧ K = nI k ∧ v = nI (labF σ 13 (labF σ 16 k))) ∧ σ' = labF σ) := by
  refine zMi_of (own := RX1) (by decide) rfl (Nat.le_of_ble_eq_true rfl) ?_
  intro p e s m args below meth c A ls C hr hlk w hl
  have hl : lv_has ls 2 [(0, .ref h0), (1, .int K)] := hl
  have hbd := w.2.2.2.2.2
  obtain ⟨q8, q10, q16, q17, q9⟩ := hq
  refine lv_aload_n C.1 C.2.1 dX1_enclosed_0 rfl (lv_at hl 0 rfl) ?_
  refine z_callv (As := []) C (m_labelAll l G h0 r d σ hok) (cwV 0 C.2.2.2.2 (lw_V q119 q121 qs1 q27 q122) rfl rfl rfl (by decide +kernel) ⟨Nat.le_of_ble_eq_true rfl, Nat.le_of_ble_eq_true rfl⟩) w (cl_rc w) rfl hl.1 rfl (Nat.le_of_ble_eq_true rfl) dX1_enclosed_1 ⟨Nat.le_refl _, Nat.le_refl _⟩ (fun s1 H locs hp w => ?_)
  have hσ := hp
  rw [hσ] at w
  refine lv_iload_n C.1 C.2.1 dX1_enclosed_4 rfl (lv_at hl 1 rfl) ?_
  refine lv_if_lt (tgt := 16) C.1 C.2.1 dX1_enclosed_5 (by decide) (fun c_5 => ?_) (fun c_5 => ?_)
  · refine lv_iconst (v := (-1)) C.1 C.2.1 dX1_enclosed_16 (by decide) ?_
    refine lv_goto (tgt := 31) C.1 C.2.1 dX1_enclosed_17 (by decide) ?_
    exact z_iret C hr hlk w ⟨Or.inl ⟨Or.inl c_5, rfl⟩, rfl⟩ dX1_enclosed_31
  · refine lv_iload_n C.1 C.2.1 dX1_enclosed_8 rfl (lv_at hl 1 rfl) ?_
    refine lv_aload_n C.1 C.2.1 dX1_enclosed_9 rfl (lv_at hl 0 rfl) ?_
    refine cl_g17 C w dX1_enclosed_10 ?_
    refine lv_icmp_lt (tgt := 20) C.1 C.2.1 dX1_enclosed_13 (by decide) (fun c_13 => ?_) (fun c_13 => ?_)
    · obtain ⟨k, hk, rfl⟩ := nI_of c_5
      have hk2 := (nI_ltI hk (by omega)).mp c_13
      have q16k := q16 k
      refine lv_aload_n C.1 C.2.1 dX1_enclosed_20 rfl (lv_at hl 0 rfl) ?_
      refine cl_g13 C w dX1_enclosed_21 ?_
      refine lv_aload_n C.1 C.2.1 dX1_enclosed_24 rfl (lv_at hl 0 rfl) ?_
      refine cl_g16 C w dX1_enclosed_25 ?_
      refine lv_iload_n C.1 C.2.1 dX1_enclosed_28 rfl (lv_at hl 1 rfl) ?_
      refine cl_l16 C w (by omega) dX1_enclosed_29 ?_
      refine cl_l13 C w (by omega) dX1_enclosed_30 ?_
      exact z_iret C hr hlk w ⟨Or.inr ⟨k, hk2, rfl, rfl⟩, rfl⟩ dX1_enclosed_31
    · refine lv_iconst (v := (-1)) C.1 C.2.1 dX1_enclosed_16 (by decide) ?_
      refine lv_goto (tgt := 31) C.1 C.2.1 dX1_enclosed_17 (by decide) ?_
      exact z_iret C hr hlk w ⟨Or.inl ⟨Or.inr (Int32.not_lt.mp c_13), rfl⟩, rfl⟩ dX1_enclosed_31
theorem m_around (l : Launch) (G : va_G) (h0 : Nat) (r : Nat → Nat) (d : Nat → ClassId) (σ : Nat → Nat → Nat) (K : Int32) (hok : LabOk σ) (hq : QOk (labF σ)) : zMi l yX1_around cX1_around 3 (some .int) (rmF 5 114) G (clT d) (clC h0 r d) [.ref h0, .int K] σ (fun v σ' => ((K < 0 ∨ nI (labF σ 17 0) ≤ K) ∧ v = -1 ∨ ∃ k, k < labF σ 17 0 ∧ K = nI k ∧ v = if labF σ 10 (labF σ 16 k) = 0 then -2 else nI (labF σ 15 (labF σ 10 (labF σ 10 (labF σ 16 k))))) ∧ σ' = labF σ) := by
  refine zMi_of (own := RX1) (by decide) rfl (Nat.le_of_ble_eq_true rfl) ?_
  intro p e s m args below meth c A ls C hr hlk w hl
  have hl : lv_has ls 3 [(0, .ref h0), (1, .int K)] := hl
  have hbd := w.2.2.2.2.2
  obtain ⟨q8, q10, q16, q17, q9⟩ := hq
  refine lv_aload_n C.1 C.2.1 dX1_around_0 rfl (lv_at hl 0 rfl) ?_
  refine z_callv (As := []) C (m_labelAll l G h0 r d σ hok) (cwV 0 C.2.2.2.2 (lw_V q119 q121 qs1 q27 q122) rfl rfl rfl (by decide +kernel) ⟨Nat.le_of_ble_eq_true rfl, Nat.le_of_ble_eq_true rfl⟩) w (cl_rc w) rfl hl.1 rfl (Nat.le_of_ble_eq_true rfl) dX1_around_1 ⟨Nat.le_refl _, Nat.le_refl _⟩ (fun s1 H locs hp w => ?_)
  have hσ := hp
  rw [hσ] at w
  refine lv_iload_n C.1 C.2.1 dX1_around_4 rfl (lv_at hl 1 rfl) ?_
  refine lv_if_lt (tgt := 16) C.1 C.2.1 dX1_around_5 (by decide) (fun c_5 => ?_) (fun c_5 => ?_)
  · refine lv_iconst (v := (-1)) C.1 C.2.1 dX1_around_16 (by decide) ?_
    exact z_iret C hr hlk w ⟨Or.inl ⟨Or.inl c_5, rfl⟩, rfl⟩ dX1_around_17
  · refine lv_iload_n C.1 C.2.1 dX1_around_8 rfl (lv_at hl 1 rfl) ?_
    refine lv_aload_n C.1 C.2.1 dX1_around_9 rfl (lv_at hl 0 rfl) ?_
    refine cl_g17 C w dX1_around_10 ?_
    refine lv_icmp_lt (tgt := 18) C.1 C.2.1 dX1_around_13 (by decide) (fun c_13 => ?_) (fun c_13 => ?_)
    · obtain ⟨k, hk, rfl⟩ := nI_of c_5
      have hk2 := (nI_ltI hk (by omega)).mp c_13
      have q16k := q16 k
      have q10k := q10 (labF σ 16 k)
      have q10r := q10 (labF σ 10 (labF σ 16 k))
      refine lv_aload_n C.1 C.2.1 dX1_around_18 rfl (lv_at hl 0 rfl) ?_
      refine cl_g10 C w dX1_around_19 ?_
      refine lv_aload_n C.1 C.2.1 dX1_around_22 rfl (lv_at hl 0 rfl) ?_
      refine cl_g16 C w dX1_around_23 ?_
      refine lv_iload_n C.1 C.2.1 dX1_around_26 rfl (lv_at hl 1 rfl) ?_
      refine cl_l16 C w (by omega) dX1_around_27 ?_
      refine cl_l10 C w (by omega) dX1_around_28 ?_
      refine lv_istore_n (lv' := [(2, .int (nI (labF σ 10 (labF σ 16 k)))), (0, .ref h0), (1, .int (nI k))]) C.1 C.2.1 dX1_around_29 rfl hl (by decide) rfl (fun ls hl => ?_)
      refine lv_iload_n C.1 C.2.1 dX1_around_30 rfl (lv_at hl 0 rfl) ?_
      refine z_if_ne (tgt := 39) C dX1_around_31 (by decide) (by omega) (fun c_31 => ?_) (fun c_31 => ?_)
      · refine lv_aload_n C.1 C.2.1 dX1_around_39 rfl (lv_at hl 1 rfl) ?_
        refine cl_g15 C w dX1_around_40 ?_
        refine lv_aload_n C.1 C.2.1 dX1_around_43 rfl (lv_at hl 1 rfl) ?_
        refine cl_g10 C w dX1_around_44 ?_
        refine lv_iload_n C.1 C.2.1 dX1_around_47 rfl (lv_at hl 0 rfl) ?_
        refine cl_l10 C w (by omega) dX1_around_48 ?_
        refine cl_l15 C w (by omega) dX1_around_49 ?_
        exact z_iret C hr hlk w ⟨Or.inr ⟨k, hk2, rfl, by rw [if_neg c_31]⟩, rfl⟩ dX1_around_50
      · refine lv_bipush (v := (-2)) C.1 C.2.1 dX1_around_34 (by decide) ?_
        refine lv_goto (tgt := 50) C.1 C.2.1 dX1_around_36 (by decide) ?_
        exact z_iret C hr hlk w ⟨Or.inr ⟨k, hk2, rfl, by rw [if_pos c_31]⟩, rfl⟩ dX1_around_50
    · refine lv_iconst (v := (-1)) C.1 C.2.1 dX1_around_16 (by decide) ?_
      exact z_iret C hr hlk w ⟨Or.inl ⟨Or.inr (Int32.not_lt.mp c_13), rfl⟩, rfl⟩ dX1_around_17
theorem m_label (l : Launch) (G : va_G) (h0 : Nat) (r : Nat → Nat) (d : Nat → ClassId) (σ : Nat → Nat → Nat) (X Y : Int32) (hok : LabOk σ) (hq : QOk (labF σ)) : zMi l yX1_label cX1_label 4 (some .int) (rmF 5 114) G (clT d) (clC h0 r d) [.ref h0, .int X, .int Y] σ (fun v σ' => (¬ inP (σ 0 0) (σ 1 0) X Y ∧ v = -1 ∧ σ' = σ) ∨ (∃ x y, X = nI x ∧ Y = nI y ∧ x < σ 0 0 ∧ y < σ 1 0 ∧ v = (if labF σ 7 (runOf (labF σ) x y) ≠ 0 then nI (labF σ 15 (labF σ 8 (runOf (labF σ) x y))) else -2) ∧ σ' = labF σ)) := by
  refine zMi_of (own := RX1) (by decide) rfl (Nat.le_of_ble_eq_true rfl) ?_
  intro p e s m args below meth c A ls C hr hlk w hl
  have hl : lv_has ls 4 [(0, .ref h0), (1, .int X), (2, .int Y)] := hl
  have hbd := w.2.2.2.2.2
  obtain ⟨q8, q10, q16, q17, q9⟩ := hq
  have hok2 := hok
  obtain ⟨k1, k2, k3, k4, -, -⟩ := hok2
  have e10 : labF σ 1 0 = σ 1 0 := by rw [labF_row σ (by decide)]
  refine lv_aload_n C.1 C.2.1 dX1_label_0 rfl (lv_at hl 0 rfl) ?_
  refine lv_iload_n C.1 C.2.1 dX1_label_1 rfl (lv_at hl 1 rfl) ?_
  refine lv_iload_n C.1 C.2.1 dX1_label_2 rfl (lv_at hl 2 rfl) ?_
  refine z_calli (As := [.int X, .int Y]) C (m_inPicture l G h0 r d σ X Y) (cwV 2 C.2.2.2.2 (lw_V q103 q105 qs0 q27 q106) rfl rfl rfl (by decide +kernel) ⟨Nat.le_of_ble_eq_true rfl, Nat.le_of_ble_eq_true rfl⟩) w (cl_rc w) rfl hl.1 rfl (Nat.le_of_ble_eq_true rfl) dX1_label_3 ⟨Nat.le_refl _, Nat.le_refl _⟩ (fun v1 s1 H locs hp w => ?_)
  obtain ⟨hv, hσ⟩ := hp
  subst hv
  rw [hσ] at w
  refine z_if_ne (tgt := 11) C dX1_label_6 (by decide) z_ifB (fun c_6 => ?_) (fun c_6 => ?_)
  · obtain ⟨x, y, rfl, rfl, hx, hy⟩ := inP_nat (by omega) (by omega) (z_ifP c_6)
    obtain ⟨q91, q92, q93⟩ := q9 y (by omega)
    have hrun : runOf (labF σ) x y < 145 := rAF_lt _ _ _ _ _ q93 q92
    have hlead := q8 (runOf (labF σ) x y)
    refine lv_aload_n C.1 C.2.1 dX1_label_11 rfl (lv_at hl 0 rfl) ?_
    refine z_callv (As := []) C (m_labelAll l G h0 r d σ hok) (cwV 0 C.2.2.2.2 (lw_V q119 q121 qs1 q27 q122) rfl rfl rfl (by decide +kernel) ⟨Nat.le_of_ble_eq_true rfl, Nat.le_of_ble_eq_true rfl⟩) w (cl_rc w) rfl hl.1 rfl (Nat.le_of_ble_eq_true rfl) dX1_label_12 ⟨Nat.le_refl _, Nat.le_refl _⟩ (fun s2 H locs hp w => ?_)
    have hσ := hp
    rw [hσ] at w
    refine lv_aload_n C.1 C.2.1 dX1_label_15 rfl (lv_at hl 0 rfl) ?_
    refine lv_iload_n C.1 C.2.1 dX1_label_16 rfl (lv_at hl 1 rfl) ?_
    refine lv_iload_n C.1 C.2.1 dX1_label_17 rfl (lv_at hl 2 rfl) ?_
    refine z_calli (As := [.int (nI x), .int (nI y)]) C (m_runAt l G h0 r d (labF σ) x y (by omega) (by omega) q91 q92 q93) (cwV 2 C.2.2.2.2 (lw_V q163 q165 qs10 q27 q166) rfl rfl rfl (by decide +kernel) ⟨Nat.le_of_ble_eq_true rfl, Nat.le_of_ble_eq_true rfl⟩) w (cl_rc w) rfl hl.1 rfl (Nat.le_of_ble_eq_true rfl) dX1_label_18 ⟨Nat.le_refl _, Nat.le_refl _⟩ (fun v3 s3 H locs hp w => ?_)
    obtain ⟨hv, hσ⟩ := hp
    subst hv
    rw [hσ] at w
    refine W.eq (g2 := F0 m 21 ls [.int (nI (runOf (labF σ) x y))]) rfl ?_
    refine lv_istore_n (lv' := [(3, .int (nI (runOf (labF σ) x y))), (0, .ref h0), (1, .int (nI x)), (2, .int (nI y))]) C.1 C.2.1 dX1_label_21 rfl hl (by decide) rfl (fun ls hl => ?_)
    have b7 := w.2.2.2.2.2 7 (runOf (labF σ) x y)
    refine lv_aload_n C.1 C.2.1 dX1_label_22 rfl (lv_at hl 1 rfl) ?_
    refine cl_g7 C w dX1_label_23 ?_
    refine lv_iload_n C.1 C.2.1 dX1_label_26 rfl (lv_at hl 0 rfl) ?_
    refine cl_l7 C w (by omega) dX1_label_27 ?_
    refine z_if_eq (tgt := 45) C dX1_label_28 (by decide) (by omega) (fun c_28 => ?_) (fun c_28 => ?_)
    · refine lv_bipush (v := (-2)) C.1 C.2.1 dX1_label_45 (by decide) ?_
      exact z_iret C hr hlk w (Or.inr ⟨x, y, rfl, rfl, hx, hy, by rw [if_neg (fun z => z c_28)], rfl⟩) dX1_label_47
    · refine lv_aload_n C.1 C.2.1 dX1_label_31 rfl (lv_at hl 1 rfl) ?_
      refine cl_g15 C w dX1_label_32 ?_
      refine lv_aload_n C.1 C.2.1 dX1_label_35 rfl (lv_at hl 1 rfl) ?_
      refine cl_g8 C w dX1_label_36 ?_
      refine lv_iload_n C.1 C.2.1 dX1_label_39 rfl (lv_at hl 0 rfl) ?_
      refine cl_l8 C w (by omega) dX1_label_40 ?_
      refine cl_l15 C w (by omega) dX1_label_41 ?_
      refine lv_goto (tgt := 47) C.1 C.2.1 dX1_label_42 (by decide) ?_
      exact z_iret C hr hlk w (Or.inr ⟨x, y, rfl, rfl, hx, hy, by rw [if_pos c_28], rfl⟩) dX1_label_47
  · refine lv_iconst (v := (-1)) C.1 C.2.1 dX1_label_9 (by decide) ?_
    exact z_iret C hr hlk w (Or.inl ⟨z_ifN c_6, rfl, rfl⟩) dX1_label_10
theorem m_depth (l : Launch) (G : va_G) (h0 : Nat) (r : Nat → Nat) (d : Nat → ClassId) (σ : Nat → Nat → Nat) (X Y : Int32) (hok : LabOk σ) (hq : QOk (labF σ)) : zMi l yX1_depth cX1_depth 4 (some .int) (rmF 5 114) G (clT d) (clC h0 r d) [.ref h0, .int X, .int Y] σ (fun v σ' => (¬ inP (σ 0 0) (σ 1 0) X Y ∧ v = -1 ∧ σ' = σ) ∨ (∃ x y, X = nI x ∧ Y = nI y ∧ x < σ 0 0 ∧ y < σ 1 0 ∧ v = (nI (labF σ 11 (labF σ 8 (runOf (labF σ) x y)))) ∧ σ' = labF σ)) := by
  refine zMi_of (own := RX1) (by decide) rfl (Nat.le_of_ble_eq_true rfl) ?_
  intro p e s m args below meth c A ls C hr hlk w hl
  have hl : lv_has ls 4 [(0, .ref h0), (1, .int X), (2, .int Y)] := hl
  have hbd := w.2.2.2.2.2
  obtain ⟨q8, q10, q16, q17, q9⟩ := hq
  have hok2 := hok
  obtain ⟨k1, k2, k3, k4, -, -⟩ := hok2
  have e10 : labF σ 1 0 = σ 1 0 := by rw [labF_row σ (by decide)]
  refine lv_aload_n C.1 C.2.1 dX1_depth_0 rfl (lv_at hl 0 rfl) ?_
  refine lv_iload_n C.1 C.2.1 dX1_depth_1 rfl (lv_at hl 1 rfl) ?_
  refine lv_iload_n C.1 C.2.1 dX1_depth_2 rfl (lv_at hl 2 rfl) ?_
  refine z_calli (As := [.int X, .int Y]) C (m_inPicture l G h0 r d σ X Y) (cwV 2 C.2.2.2.2 (lw_V q103 q105 qs0 q27 q106) rfl rfl rfl (by decide +kernel) ⟨Nat.le_of_ble_eq_true rfl, Nat.le_of_ble_eq_true rfl⟩) w (cl_rc w) rfl hl.1 rfl (Nat.le_of_ble_eq_true rfl) dX1_depth_3 ⟨Nat.le_refl _, Nat.le_refl _⟩ (fun v1 s1 H locs hp w => ?_)
  obtain ⟨hv, hσ⟩ := hp
  subst hv
  rw [hσ] at w
  refine z_if_ne (tgt := 11) C dX1_depth_6 (by decide) z_ifB (fun c_6 => ?_) (fun c_6 => ?_)
  · obtain ⟨x, y, rfl, rfl, hx, hy⟩ := inP_nat (by omega) (by omega) (z_ifP c_6)
    obtain ⟨q91, q92, q93⟩ := q9 y (by omega)
    have hrun : runOf (labF σ) x y < 145 := rAF_lt _ _ _ _ _ q93 q92
    have hlead := q8 (runOf (labF σ) x y)
    refine lv_aload_n C.1 C.2.1 dX1_depth_11 rfl (lv_at hl 0 rfl) ?_
    refine z_callv (As := []) C (m_labelAll l G h0 r d σ hok) (cwV 0 C.2.2.2.2 (lw_V q119 q121 qs1 q27 q122) rfl rfl rfl (by decide +kernel) ⟨Nat.le_of_ble_eq_true rfl, Nat.le_of_ble_eq_true rfl⟩) w (cl_rc w) rfl hl.1 rfl (Nat.le_of_ble_eq_true rfl) dX1_depth_12 ⟨Nat.le_refl _, Nat.le_refl _⟩ (fun s2 H locs hp w => ?_)
    have hσ := hp
    rw [hσ] at w
    refine lv_aload_n C.1 C.2.1 dX1_depth_15 rfl (lv_at hl 0 rfl) ?_
    refine lv_iload_n C.1 C.2.1 dX1_depth_16 rfl (lv_at hl 1 rfl) ?_
    refine lv_iload_n C.1 C.2.1 dX1_depth_17 rfl (lv_at hl 2 rfl) ?_
    refine z_calli (As := [.int (nI x), .int (nI y)]) C (m_runAt l G h0 r d (labF σ) x y (by omega) (by omega) q91 q92 q93) (cwV 2 C.2.2.2.2 (lw_V q163 q165 qs10 q27 q166) rfl rfl rfl (by decide +kernel) ⟨Nat.le_of_ble_eq_true rfl, Nat.le_of_ble_eq_true rfl⟩) w (cl_rc w) rfl hl.1 rfl (Nat.le_of_ble_eq_true rfl) dX1_depth_18 ⟨Nat.le_refl _, Nat.le_refl _⟩ (fun v3 s3 H locs hp w => ?_)
    obtain ⟨hv, hσ⟩ := hp
    subst hv
    rw [hσ] at w
    refine W.eq (g2 := F0 m 21 ls [.int (nI (runOf (labF σ) x y))]) rfl ?_
    refine lv_istore_n (lv' := [(3, .int (nI (runOf (labF σ) x y))), (0, .ref h0), (1, .int (nI x)), (2, .int (nI y))]) C.1 C.2.1 dX1_depth_21 rfl hl (by decide) rfl (fun ls hl => ?_)
    have b7 := w.2.2.2.2.2 7 (runOf (labF σ) x y)
    refine lv_aload_n C.1 C.2.1 dX1_depth_22 rfl (lv_at hl 1 rfl) ?_
    refine cl_g11 C w dX1_depth_23 ?_
    refine lv_aload_n C.1 C.2.1 dX1_depth_26 rfl (lv_at hl 1 rfl) ?_
    refine cl_g8 C w dX1_depth_27 ?_
    refine lv_iload_n C.1 C.2.1 dX1_depth_30 rfl (lv_at hl 0 rfl) ?_
    refine cl_l8 C w (by omega) dX1_depth_31 ?_
    refine cl_l11 C w (by omega) dX1_depth_32 ?_
    exact z_iret C hr hlk w (Or.inr ⟨x, y, rfl, rfl, hx, hy, rfl, rfl⟩) dX1_depth_33
  · refine lv_iconst (v := (-1)) C.1 C.2.1 dX1_depth_9 (by decide) ?_
    exact z_iret C hr hlk w (Or.inl ⟨z_ifN c_6, rfl, rfl⟩) dX1_depth_10
theorem m_isBlack (l : Launch) (G : va_G) (h0 : Nat) (r : Nat → Nat) (d : Nat → ClassId) (σ : Nat → Nat → Nat) (X Y : Int32) (k2 : σ 0 0 ≤ 12) (k4 : σ 1 0 ≤ 12) : zMi l yX1_isBlack cX1_isBlack 3 (some .boolean) (rmF 1 22) G (clT d) (clC h0 r d) [.ref h0, .int X, .int Y] σ (fun v σ' => ((¬ inP (σ 0 0) (σ 1 0) X Y ∧ v = nI 0) ∨ (∃ x y, X = nI x ∧ Y = nI y ∧ x < σ 0 0 ∧ y < σ 1 0 ∧ v = nI (bit (σ 2 y) x))) ∧ σ' = σ) := by
  refine zMi_of (own := RX1) (by decide) rfl (Nat.le_of_ble_eq_true rfl) ?_
  intro p e s m args below meth c A ls C hr hlk w hl
  have hl : lv_has ls 3 [(0, .ref h0), (1, .int X), (2, .int Y)] := hl
  have hbd := w.2.2.2.2.2
  refine lv_aload_n C.1 C.2.1 dX1_isBlack_0 rfl (lv_at hl 0 rfl) ?_
  refine lv_iload_n C.1 C.2.1 dX1_isBlack_1 rfl (lv_at hl 1 rfl) ?_
  refine lv_iload_n C.1 C.2.1 dX1_isBlack_2 rfl (lv_at hl 2 rfl) ?_
  refine z_calli (As := [.int X, .int Y]) C (m_inPicture l G h0 r d σ X Y) (cwV 2 C.2.2.2.2 (lw_V q103 q105 qs0 q27 q106) rfl rfl rfl (by decide +kernel) ⟨Nat.le_of_ble_eq_true rfl, Nat.le_of_ble_eq_true rfl⟩) w (cl_rc w) rfl hl.1 rfl (Nat.le_of_ble_eq_true rfl) dX1_isBlack_3 ⟨Nat.le_refl _, Nat.le_refl _⟩ (fun v1 s1 H locs hp w => ?_)
  obtain ⟨hv, hσ⟩ := hp
  subst hv
  rw [hσ] at w
  refine z_if_eq (tgt := 26) C dX1_isBlack_6 (by decide) z_ifB (fun c_6 => ?_) (fun c_6 => ?_)
  · refine lv_iconst (v := nI 0) C.1 C.2.1 dX1_isBlack_26 (by decide) ?_
    exact z_zret C hr hlk w (by decide) ⟨Or.inl ⟨z_ifN c_6, rfl⟩, rfl⟩ dX1_isBlack_27
  · obtain ⟨x, y, rfl, rfl, hx, hy⟩ := inP_nat (by omega) (by omega) (z_ifP c_6)
    have b2 := hbd 2 y
    have bb := bit_lt (σ 2 y) x
    refine lv_aload_n C.1 C.2.1 dX1_isBlack_9 rfl (lv_at hl 0 rfl) ?_
    refine cl_g2 C w dX1_isBlack_10 ?_
    refine lv_iload_n C.1 C.2.1 dX1_isBlack_13 rfl (lv_at hl 2 rfl) ?_
    refine cl_l2 C w (by omega) dX1_isBlack_14 ?_
    refine lv_iload_n C.1 C.2.1 dX1_isBlack_15 rfl (lv_at hl 1 rfl) ?_
    refine z_bit C (by omega) (by omega) dX1_isBlack_16 dX1_isBlack_17 dX1_isBlack_18 ?_
    refine z_if_eq (tgt := 26) C dX1_isBlack_19 (by decide) (by omega) (fun c_19 => ?_) (fun c_19 => ?_)
    · refine lv_iconst (v := nI 0) C.1 C.2.1 dX1_isBlack_26 (by decide) ?_
      exact z_zret C hr hlk w (by decide) ⟨Or.inr ⟨x, y, rfl, rfl, hx, hy, by rw [c_19]⟩, rfl⟩ dX1_isBlack_27
    · refine lv_iconst (v := nI 1) C.1 C.2.1 dX1_isBlack_22 (by decide) ?_
      refine lv_goto (tgt := 27) C.1 C.2.1 dX1_isBlack_23 (by decide) ?_
      exact z_zret C hr hlk w (by decide) ⟨Or.inr ⟨x, y, rfl, rfl, hx, hy, by rw [show bit (σ 2 y) x = 1 by omega]⟩, rfl⟩ dX1_isBlack_27
end
section
set_option maxRecDepth 100000
/-! ===== CompLabel: set, invert ===== -/
theorem z_nor (a b : Nat) : nI a ||| nI b = nI (a ||| b) := by
  apply Int32.toBitVec_inj.1
  show BitVec.ofNat 32 a ||| BitVec.ofNat 32 b = BitVec.ofNat 32 (a ||| b)
  apply BitVec.eq_of_getLsbD_eq
  intro i hi
  simp [hi]
theorem z_nxor (a b : Nat) : nI a ^^^ nI b = nI (a ^^^ b) := by
  apply Int32.toBitVec_inj.1
  show BitVec.ofNat 32 a ^^^ BitVec.ofNat 32 b = BitVec.ofNat 32 (a ^^^ b)
  apply BitVec.eq_of_getLsbD_eq
  intro i hi
  simp [hi]
theorem z_nandn (v t : Nat) : nI v &&& (nI t ^^^ (-1)) = nI (v ^^^ (v &&& t)) := by
  apply Int32.toBitVec_inj.1
  show BitVec.ofNat 32 v &&& (BitVec.ofNat 32 t ^^^ (-1 : Int32).toBitVec) = BitVec.ofNat 32 (v ^^^ (v &&& t))
  apply BitVec.eq_of_getLsbD_eq
  intro i hi
  have h1 : (-1 : Int32).toBitVec = BitVec.allOnes 32 := by decide
  rw [h1]
  simp only [BitVec.getLsbD_and, BitVec.getLsbD_xor, BitVec.getLsbD_allOnes, BitVec.getLsbD_ofNat, Nat.testBit_xor, Nat.testBit_and, hi, decide_true, Bool.true_and]
  cases v.testBit i <;> cases t.testBit i <;> rfl
section
variable {p : Program} {l : Launch} {e : Env} {R : Room} {s : State} {m : MethodId} {args : Array Value} {below : List Frame} {meth : Method} {c : Code} {H : Heap} {locs : List Loc} {cells slots : Nat} {Q : State → Prop}
variable {cc : ByteArray} {pc nL : Nat} {ls : Array Slot} {rest : List Value} {own : String}
theorem z_ishl (C : zC p m c cc nL s args own) {a x : Nat} (ha : a * 2 ^ x < 4294967296) (hx : x < 32) (hd : decode cc pc = .ok (.ishl, 1)) (kk : W p l e R s m args below meth c H locs cells slots Q (F0 m (pc + 1) ls (.int (nI (a * 2 ^ x)) :: rest))) : W p l e R s m args below meth c H locs cells slots Q (F0 m pc ls (.int (nI x) :: .int (nI a) :: rest)) :=
  lv_ishl C.1 C.2.1 hd (by rw [pk_shlN _ x (z_sl x hx) ha]; exact kk)
theorem z_ior (C : zC p m c cc nL s args own) {a b : Nat} (hd : decode cc pc = .ok (.ior, 1)) (kk : W p l e R s m args below meth c H locs cells slots Q (F0 m (pc + 1) ls (.int (nI (a ||| b)) :: rest))) : W p l e R s m args below meth c H locs cells slots Q (F0 m pc ls (.int (nI b) :: .int (nI a) :: rest)) :=
  lv_ior C.1 C.2.1 hd (by rw [z_nor]; exact kk)
theorem z_ixor (C : zC p m c cc nL s args own) {a b : Nat} (hd : decode cc pc = .ok (.ixor, 1)) (kk : W p l e R s m args below meth c H locs cells slots Q (F0 m (pc + 1) ls (.int (nI (a ^^^ b)) :: rest))) : W p l e R s m args below meth c H locs cells slots Q (F0 m pc ls (.int (nI b) :: .int (nI a) :: rest)) :=
  lv_ixor C.1 C.2.1 hd (by rw [z_nxor]; exact kk)
theorem z_andn (C : zC p m c cc nL s args own) {v t : Nat} (hd : decode cc pc = .ok (.ixor, 1)) (hd1 : decode cc (pc + 1) = .ok (.iand, 1)) (kk : W p l e R s m args below meth c H locs cells slots Q (F0 m (pc + 2) ls (.int (nI (v ^^^ (v &&& t))) :: rest))) : W p l e R s m args below meth c H locs cells slots Q (F0 m pc ls (.int (-1) :: .int (nI t) :: .int (nI v) :: rest)) := by
  refine lv_ixor C.1 C.2.1 hd ?_
  exact lv_iand C.1 C.2.1 hd1 (by rw [z_nandn]; exact kk)
end
theorem p2_le {x : Nat} (h : x ≤ 12) : 2 ^ x ≤ 4096 := Nat.pow_le_pow_right (n := 2) (by decide) h
theorem p2_lt {x : Nat} (h : x < 12) : 2 ^ x < 4096 := Nat.pow_lt_pow_right (a := 2) (by decide) h
def setB (b x v : Nat) : Nat := if b ≠ 0 then v ||| 1 * 2 ^ x else v ^^^ (v &&& 1 * 2 ^ x)
def strip (a x : Nat) : Nat := (1 * 2 ^ a - 1) * 2 ^ x
theorem strip_lt {a x : Nat} (h : x + a ≤ 12) : strip a x < 4096 := by
  unfold strip
  have h1 : 2 ^ a * 2 ^ x = 2 ^ (a + x) := (Nat.pow_add 2 a x).symm
  have h2 := p2_le (x := a + x) (by omega)
  have h3 := Nat.two_pow_pos x
  have h4 := Nat.two_pow_pos a
  rw [Nat.one_mul, Nat.sub_mul, Nat.one_mul, h1]
  omega
def ivS (t k : Nat) (s : Nat → Nat → Nat) : Nat → Nat → Nat := up s 2 k (s 2 k ^^^ t)
def ivF (a b x y : Nat) (s : Nat → Nat → Nat) : Nat → Nat → Nat := fwd (ivS (strip a x)) b y s
abbrev ivP (w h : Nat) (X Y P Q : Int32) : Prop := inP w h X Y ∧ ¬ P < nI 1 ∧ ¬ nI w - X < P ∧ ¬ Q < nI 1 ∧ Q ≤ nI h - Y
theorem z_ge1 {P : Int32} (h : ¬ P < nI 1) : ∃ a, 1 ≤ a ∧ a < 2147483648 ∧ P = nI a := by
  have h2 : ¬ P < 0 := fun q => h (Int32.lt_of_lt_of_le q (by decide))
  obtain ⟨a, ha, rfl⟩ := nI_of h2
  refine ⟨a, ?_, ha, rfl⟩
  rcases Nat.lt_or_ge 0 a with q | q
  · exact q
  · exact absurd ((nI_ltI (a := a) (b := 1) ha (by decide)).mpr (by omega)) h
theorem m_set (l : Launch) (G : va_G) (h0 : Nat) (r : Nat → Nat) (d : Nat → ClassId) (σ : Nat → Nat → Nat) (X Y : Int32) (b : Nat) (hb : b < 2) (k2 : σ 0 0 ≤ 12) (k4 : σ 1 0 ≤ 12) (hv : ∀ i, σ 2 i < 4096) : zMi l yX1_set cX1_set 4 (some .boolean) (rmF 1 22) G (clT d) (clC h0 r d) [.ref h0, .int X, .int Y, .int (nI b)] σ (fun v σ' => (¬ inP (σ 0 0) (σ 1 0) X Y ∧ v = nI 0 ∧ σ' = σ) ∨ (∃ x y, X = nI x ∧ Y = nI y ∧ x < σ 0 0 ∧ y < σ 1 0 ∧ v = nI 1 ∧ σ' = up (up σ 2 y (setB b x (σ 2 y))) 3 0 0)) := by
  refine zMi_of (own := RX1) (by decide) rfl (Nat.le_of_ble_eq_true rfl) ?_
  intro p e s m args below meth c A ls C hr hlk w hl
  have hl : lv_has ls 4 [(0, .ref h0), (1, .int X), (2, .int Y), (3, .int (nI b))] := hl
  have hbd := w.2.2.2.2.2
  refine lv_aload_n C.1 C.2.1 dX1_set_0 rfl (lv_at hl 0 rfl) ?_
  refine lv_iload_n C.1 C.2.1 dX1_set_1 rfl (lv_at hl 1 rfl) ?_
  refine lv_iload_n C.1 C.2.1 dX1_set_2 rfl (lv_at hl 2 rfl) ?_
  refine z_calli (As := [.int X, .int Y]) C (m_inPicture l G h0 r d σ X Y) (cwV 2 C.2.2.2.2 (lw_V q103 q105 qs0 q27 q106) rfl rfl rfl (by decide +kernel) ⟨Nat.le_of_ble_eq_true rfl, Nat.le_of_ble_eq_true rfl⟩) w (cl_rc w) rfl hl.1 rfl (Nat.le_of_ble_eq_true rfl) dX1_set_3 ⟨Nat.le_refl _, Nat.le_refl _⟩ (fun v1 s1 H locs hp w => ?_)
  obtain ⟨hv, hσ⟩ := hp
  subst hv
  rw [hσ] at w
  refine z_if_ne (tgt := 11) C dX1_set_6 (by decide) z_ifB (fun c_6 => ?_) (fun c_6 => ?_)
  · obtain ⟨x, y, rfl, rfl, hx, hy⟩ := inP_nat (by omega) (by omega) (z_ifP c_6)
    have v1 := hv y
    have v2 := p2_lt (x := x) (by omega)
    have v3 : σ 2 y ||| 1 * 2 ^ x < 4096 := Nat.or_lt_two_pow (n := 12) v1 (by omega)
    have v4 : σ 2 y ^^^ (σ 2 y &&& 1 * 2 ^ x) < 4096 := Nat.xor_lt_two_pow (n := 12) v1 (Nat.and_lt_two_pow _ (by omega))
    refine lv_iload_n C.1 C.2.1 dX1_set_11 rfl (lv_at hl 3 rfl) ?_
    refine z_if_eq (tgt := 30) C dX1_set_12 (by decide) (by omega) (fun c_12 => ?_) (fun c_12 => ?_)
    · refine lv_aload_n C.1 C.2.1 dX1_set_30 rfl (lv_at hl 0 rfl) ?_
      refine cl_g2 C w dX1_set_31 ?_
      refine lv_iload_n C.1 C.2.1 dX1_set_34 rfl (lv_at hl 2 rfl) ?_
      refine lv_dup2_11 C.1 C.2.1 dX1_set_35 rfl rfl ?_
      refine cl_l2 C w (by omega) dX1_set_36 ?_
      refine lv_iconst (v := nI 1) C.1 C.2.1 dX1_set_37 (by decide) ?_
      refine lv_iload_n C.1 C.2.1 dX1_set_38 rfl (lv_at hl 1 rfl) ?_
      refine z_ishl C (by omega) (by omega) dX1_set_39 ?_
      refine lv_iconst (v := (-1)) C.1 C.2.1 dX1_set_40 (by decide) ?_
      refine z_andn C dX1_set_41 dX1_set_42 ?_
      refine cl_s2 C w (by omega) (by omega) dX1_set_43 (fun H locs w => ?_)
      refine lv_aload_n C.1 C.2.1 dX1_set_44 rfl (lv_at hl 0 rfl) ?_
      refine lv_iconst (v := nI 0) C.1 C.2.1 dX1_set_45 (by decide) ?_
      refine cl_p3 C w (by omega) dX1_set_46 (fun H locs w => ?_)
      refine lv_iconst (v := nI 1) C.1 C.2.1 dX1_set_49 (by decide) ?_
      have e1 : setB b x (σ 2 y) = (σ 2 y) ^^^ ((σ 2 y) &&& (1 * 2 ^ x)) := if_neg (fun z => z c_12)
      exact z_zret C hr hlk w (by decide) (Or.inr ⟨x, y, rfl, rfl, hx, hy, rfl, by rw [e1]⟩) dX1_set_50
    · refine lv_aload_n C.1 C.2.1 dX1_set_15 rfl (lv_at hl 0 rfl) ?_
      refine cl_g2 C w dX1_set_16 ?_
      refine lv_iload_n C.1 C.2.1 dX1_set_19 rfl (lv_at hl 2 rfl) ?_
      refine lv_dup2_11 C.1 C.2.1 dX1_set_20 rfl rfl ?_
      refine cl_l2 C w (by omega) dX1_set_21 ?_
      refine lv_iconst (v := nI 1) C.1 C.2.1 dX1_set_22 (by decide) ?_
      refine lv_iload_n C.1 C.2.1 dX1_set_23 rfl (lv_at hl 1 rfl) ?_
      refine z_ishl C (by omega) (by omega) dX1_set_24 ?_
      refine z_ior C dX1_set_25 ?_
      refine cl_s2 C w (by omega) (by omega) dX1_set_26 (fun H locs w => ?_)
      refine lv_goto (tgt := 44) C.1 C.2.1 dX1_set_27 (by decide) ?_
      refine lv_aload_n C.1 C.2.1 dX1_set_44 rfl (lv_at hl 0 rfl) ?_
      refine lv_iconst (v := nI 0) C.1 C.2.1 dX1_set_45 (by decide) ?_
      refine cl_p3 C w (by omega) dX1_set_46 (fun H locs w => ?_)
      refine lv_iconst (v := nI 1) C.1 C.2.1 dX1_set_49 (by decide) ?_
      have e1 : setB b x (σ 2 y) = (σ 2 y) ||| (1 * 2 ^ x) := if_pos c_12
      exact z_zret C hr hlk w (by decide) (Or.inr ⟨x, y, rfl, rfl, hx, hy, rfl, by rw [e1]⟩) dX1_set_50
  · refine lv_iconst (v := nI 0) C.1 C.2.1 dX1_set_9 (by decide) ?_
    exact z_zret C hr hlk w (by decide) (Or.inl ⟨z_ifN c_6, rfl, rfl⟩) dX1_set_10
section
variable {p : Program} {l : Launch} {e : Env} {R : Room} {s : State} {m : MethodId} {args : Array Value} {below : List Frame} {meth : Method} {c : Code} {H : Heap} {locs : List Loc} {Q : State → Prop}
variable {G : va_G} {A : Nat → Prop} {H0 : Heap} {σ : Nat → Nat → Nat} {h0 : Nat} {r : Nat → Nat} {d : Nat → ClassId}
theorem iv_loop {x y a b t : Nat} (C : zC p m c cX1_invert 7 s args RX1) (ht : t < 4096) (hyb : y + b ≤ 12) : ∀ n k σ H locs, clW G h0 r d A s H0 H locs σ → (∀ i, σ 2 i < 4096) → y + b = k + n → ∀ ls, lv_has ls 7 [(6, .int (nI k)), (5, .int (nI t)), (0, .ref h0), (1, .int (nI x)), (2, .int (nI y)), (3, .int (nI a)), (4, .int (nI b))] → (∀ H locs ls, clW G h0 r d A s H0 H locs (fwd (ivS t) n k σ) → lv_has ls 7 [(0, .ref h0)] → W p l e R s m args below meth c H locs 0 0 Q (F0 m 84 ls [])) → W p l e R s m args below meth c H locs 0 0 Q (F0 m 57 ls []) := by
  intro n
  induction n with
  | zero =>
    intro k σ H locs w hv hn ls hl K
    refine lv_iload C.1 C.2.1 dX1_invert_57 (lv_at hl 0 rfl) ?_
    refine lv_iload_n C.1 C.2.1 dX1_invert_59 rfl (lv_at hl 4 rfl) ?_
    refine lv_iload C.1 C.2.1 dX1_invert_60 (lv_at hl 6 rfl) ?_
    refine z_iadd C dX1_invert_62 ?_
    refine z_cmp_ge (tgt := 84) C dX1_invert_63 (by decide) (by omega) (by omega) (fun c_63 => ?_) (fun c_63 => ?_)
    · exact K H locs ls w (lv_sub hl [2] rfl)
    · exact absurd c_63 (by omega)
  | succ n ih =>
    intro k σ H locs w hv hn ls hl K
    have v1 : σ 2 k ^^^ t < 4096 := Nat.xor_lt_two_pow (n := 12) (hv k) ht
    have hv2 : ∀ i, ivS t k σ 2 i < 4096 := by
      intro i
      unfold ivS
      by_cases e : i = k
      · rw [e, up_eq]; exact v1
      · rw [up_ne (Or.inr e)]; exact hv i
    refine lv_iload C.1 C.2.1 dX1_invert_57 (lv_at hl 0 rfl) ?_
    refine lv_iload_n C.1 C.2.1 dX1_invert_59 rfl (lv_at hl 4 rfl) ?_
    refine lv_iload C.1 C.2.1 dX1_invert_60 (lv_at hl 6 rfl) ?_
    refine z_iadd C dX1_invert_62 ?_
    refine z_cmp_ge (tgt := 84) C dX1_invert_63 (by decide) (by omega) (by omega) (fun c_63 => ?_) (fun c_63 => ?_)
    · exact absurd c_63 (by omega)
    · refine lv_aload_n C.1 C.2.1 dX1_invert_66 rfl (lv_at hl 2 rfl) ?_
      refine cl_g2 C w dX1_invert_67 ?_
      refine lv_iload C.1 C.2.1 dX1_invert_70 (lv_at hl 0 rfl) ?_
      refine lv_dup2_11 C.1 C.2.1 dX1_invert_72 rfl rfl ?_
      refine cl_l2 C w (by omega) dX1_invert_73 ?_
      refine lv_iload C.1 C.2.1 dX1_invert_74 (lv_at hl 1 rfl) ?_
      refine z_ixor C dX1_invert_76 ?_
      refine cl_s2 C w (by omega) (by omega) dX1_invert_77 (fun H locs w => ?_)
      refine lv_iinc (lv' := [(6, .int (nI (k + 1))), (5, .int (nI t)), (0, .ref h0), (1, .int (nI x)), (2, .int (nI y)), (3, .int (nI a)), (4, .int (nI b))]) C.1 C.2.1 dX1_invert_78 hl (k := 0) rfl (nI_add _ _) (by decide) rfl (fun ls hl => ?_)
      refine lv_goto (tgt := 57) C.1 C.2.1 dX1_invert_81 (by decide) ?_
      exact ih (k + 1) (ivS t k σ) H locs w hv2 (by omega) ls hl K
end
theorem m_invert (l : Launch) (G : va_G) (h0 : Nat) (r : Nat → Nat) (d : Nat → ClassId) (σ : Nat → Nat → Nat) (X Y P Q : Int32) (k2 : σ 0 0 ≤ 12) (k4 : σ 1 0 ≤ 12) (hv : ∀ i, σ 2 i < 4096) : zMi l yX1_invert cX1_invert 7 (some .boolean) (rmF 1 22) G (clT d) (clC h0 r d) [.ref h0, .int X, .int Y, .int P, .int Q] σ (fun v σ' => (¬ ivP (σ 0 0) (σ 1 0) X Y P Q ∧ v = nI 0 ∧ σ' = σ) ∨ (∃ x y a b, X = nI x ∧ Y = nI y ∧ P = nI a ∧ Q = nI b ∧ 1 ≤ a ∧ x + a ≤ σ 0 0 ∧ 1 ≤ b ∧ y + b ≤ σ 1 0 ∧ v = nI 1 ∧ σ' = up (ivF a b x y σ) 3 0 0)) := by
  refine zMi_of (own := RX1) (by decide) rfl (Nat.le_of_ble_eq_true rfl) ?_
  intro p e s m args below meth c A ls C hr hlk w hl
  have hl : lv_has ls 7 [(0, .ref h0), (1, .int X), (2, .int Y), (3, .int P), (4, .int Q)] := hl
  have hbd := w.2.2.2.2.2
  refine lv_aload_n C.1 C.2.1 dX1_invert_0 rfl (lv_at hl 0 rfl) ?_
  refine lv_iload_n C.1 C.2.1 dX1_invert_1 rfl (lv_at hl 1 rfl) ?_
  refine lv_iload_n C.1 C.2.1 dX1_invert_2 rfl (lv_at hl 2 rfl) ?_
  refine z_calli (As := [.int X, .int Y]) C (m_inPicture l G h0 r d σ X Y) (cwV 2 C.2.2.2.2 (lw_V q103 q105 qs0 q27 q106) rfl rfl rfl (by decide +kernel) ⟨Nat.le_of_ble_eq_true rfl, Nat.le_of_ble_eq_true rfl⟩) w (cl_rc w) rfl hl.1 rfl (Nat.le_of_ble_eq_true rfl) dX1_invert_3 ⟨Nat.le_refl _, Nat.le_refl _⟩ (fun v1 s1 H locs hp w => ?_)
  obtain ⟨hv, hσ⟩ := hp
  subst hv
  rw [hσ] at w
  refine z_if_ne (tgt := 11) C dX1_invert_6 (by decide) z_ifB (fun c_6 => ?_) (fun c_6 => ?_)
  · have hP := z_ifP c_6
    obtain ⟨x, y, rfl, rfl, hx, hy⟩ := inP_nat (by omega) (by omega) (z_ifP c_6)
    refine lv_iload_n C.1 C.2.1 dX1_invert_11 rfl (lv_at hl 3 rfl) ?_
    refine lv_iconst (v := nI 1) C.1 C.2.1 dX1_invert_12 (by decide) ?_
    refine lv_icmp_lt (tgt := 43) C.1 C.2.1 dX1_invert_13 (by decide) (fun c_13 => ?_) (fun c_13 => ?_)
    · refine lv_iconst (v := nI 0) C.1 C.2.1 dX1_invert_43 (by decide) ?_
      exact z_zret C hr hlk w (by decide) (Or.inl ⟨fun q => q.2.1 c_13, rfl, rfl⟩) dX1_invert_44
    · refine lv_iload_n C.1 C.2.1 dX1_invert_16 rfl (lv_at hl 3 rfl) ?_
      refine lv_aload_n C.1 C.2.1 dX1_invert_17 rfl (lv_at hl 0 rfl) ?_
      refine cl_g0 C w dX1_invert_18 ?_
      refine lv_iload_n C.1 C.2.1 dX1_invert_21 rfl (lv_at hl 1 rfl) ?_
      refine z_isub C (by omega) dX1_invert_22 ?_
      refine lv_icmp_gt (tgt := 43) C.1 C.2.1 dX1_invert_23 (by decide) (fun c_23 => ?_) (fun c_23 => ?_)
      · refine lv_iconst (v := nI 0) C.1 C.2.1 dX1_invert_43 (by decide) ?_
        exact z_zret C hr hlk w (by decide) (Or.inl ⟨fun q => q.2.2.1 (by rw [pk_sub (by omega)]; exact c_23), rfl, rfl⟩) dX1_invert_44
      · refine lv_iload C.1 C.2.1 dX1_invert_26 (lv_at hl 4 rfl) ?_
        refine lv_iconst (v := nI 1) C.1 C.2.1 dX1_invert_28 (by decide) ?_
        refine lv_icmp_lt (tgt := 43) C.1 C.2.1 dX1_invert_29 (by decide) (fun c_29 => ?_) (fun c_29 => ?_)
        · refine lv_iconst (v := nI 0) C.1 C.2.1 dX1_invert_43 (by decide) ?_
          exact z_zret C hr hlk w (by decide) (Or.inl ⟨fun q => q.2.2.2.1 c_29, rfl, rfl⟩) dX1_invert_44
        · refine lv_iload C.1 C.2.1 dX1_invert_32 (lv_at hl 4 rfl) ?_
          refine lv_aload_n C.1 C.2.1 dX1_invert_34 rfl (lv_at hl 0 rfl) ?_
          refine cl_g1 C w dX1_invert_35 ?_
          refine lv_iload_n C.1 C.2.1 dX1_invert_38 rfl (lv_at hl 2 rfl) ?_
          refine z_isub C (by omega) dX1_invert_39 ?_
          refine lv_icmp_le (tgt := 45) C.1 C.2.1 dX1_invert_40 (by decide) (fun c_40 => ?_) (fun c_40 => ?_)
          · obtain ⟨a, ha1, ha2, rfl⟩ := z_ge1 c_13
            obtain ⟨b, hb1, hb2, rfl⟩ := z_ge1 c_29
            have ha3 := (nI_leI ha2 (by omega)).mp (Int32.not_lt.mp c_23)
            have hb3 := (nI_leI hb2 (by omega)).mp c_40
            have v2 := p2_le (x := a) (by omega)
            have v5 := Nat.two_pow_pos a
            have v3 := strip_lt (a := a) (x := x) (by omega)
            have v4 : (1 * 2 ^ a - 1) * 2 ^ x < 4096 := v3
            refine lv_iconst (v := nI 1) C.1 C.2.1 dX1_invert_45 (by decide) ?_
            refine lv_iload_n C.1 C.2.1 dX1_invert_46 rfl (lv_at hl 3 rfl) ?_
            refine z_ishl C (by omega) (by omega) dX1_invert_47 ?_
            refine lv_iconst (v := nI 1) C.1 C.2.1 dX1_invert_48 (by decide) ?_
            refine z_isub C (by omega) dX1_invert_49 ?_
            refine lv_iload_n C.1 C.2.1 dX1_invert_50 rfl (lv_at hl 1 rfl) ?_
            refine z_ishl C (by omega) (by omega) dX1_invert_51 ?_
            refine lv_istore (lv' := [(5, .int (nI (((1 * 2 ^ a) - 1) * 2 ^ x))), (0, .ref h0), (1, .int (nI x)), (2, .int (nI y)), (3, .int (nI a)), (4, .int (nI b))]) C.1 C.2.1 dX1_invert_52 hl (by decide) rfl (fun ls hl => ?_)
            refine lv_iload_n C.1 C.2.1 dX1_invert_54 rfl (lv_at hl 3 rfl) ?_
            refine lv_istore (lv' := [(6, .int (nI y)), (5, .int (nI (((1 * 2 ^ a) - 1) * 2 ^ x))), (0, .ref h0), (1, .int (nI x)), (2, .int (nI y)), (3, .int (nI a)), (4, .int (nI b))]) C.1 C.2.1 dX1_invert_55 hl (by decide) rfl (fun ls hl => ?_)
            refine iv_loop C v4 (by omega) b y σ _ _ w hv rfl ls (lv_sub hl [0, 1, 2, 3, 4, 5, 6] rfl) (fun H locs ls w hl => ?_)
            have w : clW G h0 r d A s s.heap H locs (ivF a b x y σ) := w
            refine lv_aload_n C.1 C.2.1 dX1_invert_84 rfl (lv_at hl 0 rfl) ?_
            refine lv_iconst (v := nI 0) C.1 C.2.1 dX1_invert_85 (by decide) ?_
            refine cl_p3 C w (by omega) dX1_invert_86 (fun H locs w => ?_)
            refine lv_iconst (v := nI 1) C.1 C.2.1 dX1_invert_89 (by decide) ?_
            exact z_zret C hr hlk w (by decide) (Or.inr ⟨x, y, a, b, rfl, rfl, rfl, rfl, ha1, by omega, hb1, by omega, rfl, rfl⟩) dX1_invert_90
          · refine lv_iconst (v := nI 0) C.1 C.2.1 dX1_invert_43 (by decide) ?_
            exact z_zret C hr hlk w (by decide) (Or.inl ⟨fun q => c_40 (by have := q.2.2.2.2; rw [pk_sub (by omega)] at this; exact this), rfl, rfl⟩) dX1_invert_44
  · refine lv_iconst (v := nI 0) C.1 C.2.1 dX1_invert_9 (by decide) ?_
    exact z_zret C hr hlk w (by decide) (Or.inl ⟨fun q => z_ifN c_6 q.1, rfl, rfl⟩) dX1_invert_10
end
section
set_option maxRecDepth 100000
/-! ===== CompLabelModel: small methods ===== -/
theorem m_inside (l : Launch) (G : va_G) (h0 : Nat) (r : Nat → Nat) (d : Nat → ClassId) (σ : Nat → Nat → Nat) (X Y : Int32)  : zMi l yX2_inside cX2_inside 3 (some .boolean) (rmF 0 0) G (mlT d) (mlC h0 r d) [.ref h0, .int X, .int Y] σ (fun v σ' => v = nI (if inP (σ 0 0) (σ 1 0) X Y then 1 else 0) ∧ σ' = σ) := by
  refine zMi_of (own := RX2) (by decide) rfl (Nat.le_of_ble_eq_true rfl) ?_
  intro p e s m args below meth c A ls C hr hlk w hl
  have hl : lv_has ls 3 [(0, .ref h0), (1, .int X), (2, .int Y)] := hl
  have hbd := w.2.2.2.2.2
  refine lv_iload_n C.1 C.2.1 dX2_inside_0 rfl (lv_at hl 1 rfl) ?_
  refine lv_if_lt (tgt := 28) C.1 C.2.1 dX2_inside_1 (by decide) (fun c_1 => ?_) (fun c_1 => ?_)
  · refine lv_iconst (v := nI 0) C.1 C.2.1 dX2_inside_28 (by decide) ?_
    exact z_zret C hr hlk w (by decide) ⟨by rw [if_neg (fun q => q.1 c_1)], rfl⟩ dX2_inside_29
  · refine lv_iload_n C.1 C.2.1 dX2_inside_4 rfl (lv_at hl 1 rfl) ?_
    refine lv_aload_n C.1 C.2.1 dX2_inside_5 rfl (lv_at hl 0 rfl) ?_
    refine ml_g0 C w dX2_inside_6 ?_
    refine lv_icmp_ge (tgt := 28) C.1 C.2.1 dX2_inside_9 (by decide) (fun c_9 => ?_) (fun c_9 => ?_)
    · refine lv_iconst (v := nI 0) C.1 C.2.1 dX2_inside_28 (by decide) ?_
      exact z_zret C hr hlk w (by decide) ⟨by rw [if_neg (fun q => q.2.1 c_9)], rfl⟩ dX2_inside_29
    · refine lv_iload_n C.1 C.2.1 dX2_inside_12 rfl (lv_at hl 2 rfl) ?_
      refine lv_if_lt (tgt := 28) C.1 C.2.1 dX2_inside_13 (by decide) (fun c_13 => ?_) (fun c_13 => ?_)
      · refine lv_iconst (v := nI 0) C.1 C.2.1 dX2_inside_28 (by decide) ?_
        exact z_zret C hr hlk w (by decide) ⟨by rw [if_neg (fun q => q.2.2.1 c_13)], rfl⟩ dX2_inside_29
      · refine lv_iload_n C.1 C.2.1 dX2_inside_16 rfl (lv_at hl 2 rfl) ?_
        refine lv_aload_n C.1 C.2.1 dX2_inside_17 rfl (lv_at hl 0 rfl) ?_
        refine ml_g1 C w dX2_inside_18 ?_
        refine lv_icmp_ge (tgt := 28) C.1 C.2.1 dX2_inside_21 (by decide) (fun c_21 => ?_) (fun c_21 => ?_)
        · refine lv_iconst (v := nI 0) C.1 C.2.1 dX2_inside_28 (by decide) ?_
          exact z_zret C hr hlk w (by decide) ⟨by rw [if_neg (fun q => q.2.2.2 c_21)], rfl⟩ dX2_inside_29
        · refine lv_iconst (v := nI 1) C.1 C.2.1 dX2_inside_24 (by decide) ?_
          refine lv_goto (tgt := 29) C.1 C.2.1 dX2_inside_25 (by decide) ?_
          exact z_zret C hr hlk w (by decide) ⟨by rw [if_pos ⟨c_1, c_9, c_13, c_21⟩], rfl⟩ dX2_inside_29
theorem m_place (l : Launch) (G : va_G) (h0 : Nat) (r : Nat → Nat) (d : Nat → ClassId) (σ : Nat → Nat → Nat) (x y : Nat)  : zMi l yX2_place cX2_place 3 (some .int) (rmF 0 0) G (mlT d) (mlC h0 r d) [.ref h0, .int (nI x), .int (nI y)] σ (fun v σ' => v = nI (14 * (y + 1) + x + 1) ∧ σ' = σ) := by
  refine zMi_of (own := RX2) (by decide) rfl (Nat.le_of_ble_eq_true rfl) ?_
  intro p e s m args below meth c A ls C hr hlk w hl
  have hl : lv_has ls 3 [(0, .ref h0), (1, .int (nI x)), (2, .int (nI y))] := hl
  have hbd := w.2.2.2.2.2
  refine lv_bipush (v := nI 14) C.1 C.2.1 dX2_place_0 (by decide) ?_
  refine lv_iload_n C.1 C.2.1 dX2_place_2 rfl (lv_at hl 2 rfl) ?_
  refine lv_iconst (v := nI 1) C.1 C.2.1 dX2_place_3 (by decide) ?_
  refine z_iadd C dX2_place_4 ?_
  refine z_imul C dX2_place_5 ?_
  refine lv_iload_n C.1 C.2.1 dX2_place_6 rfl (lv_at hl 1 rfl) ?_
  refine z_iadd C dX2_place_7 ?_
  refine lv_iconst (v := nI 1) C.1 C.2.1 dX2_place_8 (by decide) ?_
  refine z_iadd C dX2_place_9 ?_
  exact z_iret C hr hlk w ⟨rfl, rfl⟩ dX2_place_10
theorem m_besideWay (l : Launch) (G : va_G) (h0 : Nat) (r : Nat → Nat) (d : Nat → ClassId) (σ : Nat → Nat → Nat) (k : Nat) (hk : k < 9) : zMi l yX2_besideWay cX2_besideWay 2 (some .boolean) (rmF 0 0) G (mlT d) (mlC h0 r d) [.ref h0, .int (nI k)] σ (fun v σ' => v = nI (if k % 2 = 1 then 1 else 0) ∧ σ' = σ) := by
  refine zMi_of (own := RX2) (by decide) rfl (Nat.le_of_ble_eq_true rfl) ?_
  intro p e s m args below meth c A ls C hr hlk w hl
  have hl : lv_has ls 2 [(0, .ref h0), (1, .int (nI k))] := hl
  have hbd := w.2.2.2.2.2
  refine lv_iload_n C.1 C.2.1 dX2_besideWay_0 rfl (lv_at hl 1 rfl) ?_
  refine lv_iconst (v := nI 2) C.1 C.2.1 dX2_besideWay_1 (by decide) ?_
  refine z_irem C (by omega) (by decide) (by decide) dX2_besideWay_2 ?_
  refine lv_iconst (v := nI 1) C.1 C.2.1 dX2_besideWay_3 (by decide) ?_
  refine z_cmp_ne (tgt := 11) C dX2_besideWay_4 (by decide) (by omega) (by omega) (fun c_4 => ?_) (fun c_4 => ?_)
  · refine lv_iconst (v := nI 0) C.1 C.2.1 dX2_besideWay_11 (by decide) ?_
    exact z_zret C hr hlk w (by decide) ⟨by rw [if_neg c_4], rfl⟩ dX2_besideWay_12
  · refine lv_iconst (v := nI 1) C.1 C.2.1 dX2_besideWay_7 (by decide) ?_
    refine lv_goto (tgt := 12) C.1 C.2.1 dX2_besideWay_8 (by decide) ?_
    exact z_zret C hr hlk w (by decide) ⟨by rw [if_pos c_4], rfl⟩ dX2_besideWay_12
theorem z_m1 {a : Nat} (ha : a < 1000) : (nI a - nI 1 < 0 ↔ a = 0) ∧ (nI 13 < nI a - nI 1 ↔ 14 < a) := by
  rcases Nat.lt_or_ge 0 a with h | h
  · rw [pk_sub (show 1 ≤ a from h)]
    refine ⟨⟨fun q => absurd q (nI_pos (by omega)), fun q => by omega⟩, ⟨fun q => ?_, fun q => (nI_ltI (by decide) (by omega)).mpr (by omega)⟩⟩
    have := (nI_ltI (a := 13) (b := a - 1) (by decide) (by omega)).mp q
    omega
  · obtain rfl : a = 0 := by omega
    decide
theorem m_near (l : Launch) (G : va_G) (h0 : Nat) (r : Nat → Nat) (d : Nat → ClassId) (σ : Nat → Nat → Nat) (q k : Nat) (hq : q < 196) (hk : k < 9) : zMi l yX2_near cX2_near 5 (some .int) (rmF 0 0) G (mlT d) (mlC h0 r d) [.ref h0, .int (nI q), .int (nI k)] σ (fun v σ' => v = (if nr q k < 196 then nI (nr q k) else -1) ∧ σ' = σ) := by
  refine zMi_of (own := RX2) (by decide) rfl (Nat.le_of_ble_eq_true rfl) ?_
  intro p e s m args below meth c A ls C hr hlk w hl
  have hl : lv_has ls 5 [(0, .ref h0), (1, .int (nI q)), (2, .int (nI k))] := hl
  have hbd := w.2.2.2.2.2
  obtain ⟨m1, m2⟩ := z_m1 (a := q % 14 + k % 3) (by omega)
  obtain ⟨m3, m4⟩ := z_m1 (a := q / 14 + k / 3) (by omega)
  refine lv_iload_n C.1 C.2.1 dX2_near_0 rfl (lv_at hl 1 rfl) ?_
  refine lv_bipush (v := nI 14) C.1 C.2.1 dX2_near_1 (by decide) ?_
  refine z_irem C (by omega) (by decide) (by decide) dX2_near_3 ?_
  refine lv_iload_n C.1 C.2.1 dX2_near_4 rfl (lv_at hl 2 rfl) ?_
  refine lv_iconst (v := nI 3) C.1 C.2.1 dX2_near_5 (by decide) ?_
  refine z_irem C (by omega) (by decide) (by decide) dX2_near_6 ?_
  refine z_iadd C dX2_near_7 ?_
  refine lv_iconst (v := nI 1) C.1 C.2.1 dX2_near_8 (by decide) ?_
  refine lv_isub C.1 C.2.1 dX2_near_9 ?_
  refine lv_istore_n (lv' := [(3, .int (nI ((q % 14) + (k % 3)) - nI (1))), (0, .ref h0), (1, .int (nI q)), (2, .int (nI k))]) C.1 C.2.1 dX2_near_10 rfl hl (by decide) rfl (fun ls hl => ?_)
  refine lv_iload_n C.1 C.2.1 dX2_near_11 rfl (lv_at hl 2 rfl) ?_
  refine lv_bipush (v := nI 14) C.1 C.2.1 dX2_near_12 (by decide) ?_
  refine z_idiv C (by omega) (by decide) (by decide) dX2_near_14 ?_
  refine lv_iload_n C.1 C.2.1 dX2_near_15 rfl (lv_at hl 3 rfl) ?_
  refine lv_iconst (v := nI 3) C.1 C.2.1 dX2_near_16 (by decide) ?_
  refine z_idiv C (by omega) (by decide) (by decide) dX2_near_17 ?_
  refine z_iadd C dX2_near_18 ?_
  refine lv_iconst (v := nI 1) C.1 C.2.1 dX2_near_19 (by decide) ?_
  refine lv_isub C.1 C.2.1 dX2_near_20 ?_
  refine lv_istore (lv' := [(4, .int (nI ((q / 14) + (k / 3)) - nI (1))), (3, .int (nI ((q % 14) + (k % 3)) - nI (1))), (0, .ref h0), (1, .int (nI q)), (2, .int (nI k))]) C.1 C.2.1 dX2_near_21 hl (by decide) rfl (fun ls hl => ?_)
  refine lv_iload_n C.1 C.2.1 dX2_near_23 rfl (lv_at hl 1 rfl) ?_
  refine lv_if_lt (tgt := 45) C.1 C.2.1 dX2_near_24 (by decide) (fun c_24 => ?_) (fun c_24 => ?_)
  · refine lv_iconst (v := (-1)) C.1 C.2.1 dX2_near_45 (by decide) ?_
    refine lv_goto (tgt := 56) C.1 C.2.1 dX2_near_46 (by decide) ?_
    have e1 : nr q k = 196 := if_neg (fun z => by have := m1.mp c_24; omega)
    exact z_iret C hr hlk w ⟨by rw [e1]; rfl, rfl⟩ dX2_near_56
  · refine lv_iload_n C.1 C.2.1 dX2_near_27 rfl (lv_at hl 1 rfl) ?_
    refine lv_bipush (v := nI 13) C.1 C.2.1 dX2_near_28 (by decide) ?_
    refine lv_icmp_gt (tgt := 45) C.1 C.2.1 dX2_near_30 (by decide) (fun c_30 => ?_) (fun c_30 => ?_)
    · refine lv_iconst (v := (-1)) C.1 C.2.1 dX2_near_45 (by decide) ?_
      refine lv_goto (tgt := 56) C.1 C.2.1 dX2_near_46 (by decide) ?_
      have e1 : nr q k = 196 := if_neg (fun z => by have := m2.mp c_30; omega)
      exact z_iret C hr hlk w ⟨by rw [e1]; rfl, rfl⟩ dX2_near_56
    · refine lv_iload C.1 C.2.1 dX2_near_33 (lv_at hl 0 rfl) ?_
      refine lv_if_lt (tgt := 45) C.1 C.2.1 dX2_near_35 (by decide) (fun c_35 => ?_) (fun c_35 => ?_)
      · refine lv_iconst (v := (-1)) C.1 C.2.1 dX2_near_45 (by decide) ?_
        refine lv_goto (tgt := 56) C.1 C.2.1 dX2_near_46 (by decide) ?_
        have e1 : nr q k = 196 := if_neg (fun z => by have := m3.mp c_35; omega)
        exact z_iret C hr hlk w ⟨by rw [e1]; rfl, rfl⟩ dX2_near_56
      · refine lv_iload C.1 C.2.1 dX2_near_38 (lv_at hl 0 rfl) ?_
        refine lv_bipush (v := nI 13) C.1 C.2.1 dX2_near_40 (by decide) ?_
        refine lv_icmp_le (tgt := 49) C.1 C.2.1 dX2_near_42 (by decide) (fun c_42 => ?_) (fun c_42 => ?_)
        · have n1 : 1 ≤ q % 14 + k % 3 := by have := mt m1.mpr c_24; omega
          have n2 : q % 14 + k % 3 ≤ 14 := by have := mt m2.mpr c_30; omega
          have n3 : 1 ≤ q / 14 + k / 3 := by have := mt m3.mpr c_35; omega
          have n4 : q / 14 + k / 3 ≤ 14 := by have := mt m4.mpr (Int32.not_lt.mpr c_42); omega
          rw [pk_sub n1, pk_sub n3] at hl
          have e1 : nr q k = 14 * (q / 14 + k / 3 - 1) + (q % 14 + k % 3 - 1) := if_pos ⟨n1, n2, n3, n4⟩
          refine lv_bipush (v := nI 14) C.1 C.2.1 dX2_near_49 (by decide) ?_
          refine lv_iload C.1 C.2.1 dX2_near_51 (lv_at hl 0 rfl) ?_
          refine z_imul C dX2_near_53 ?_
          refine lv_iload_n C.1 C.2.1 dX2_near_54 rfl (lv_at hl 1 rfl) ?_
          refine z_iadd C dX2_near_55 ?_
          exact z_iret C hr hlk w ⟨by rw [e1, if_pos (by omega)], rfl⟩ dX2_near_56
        · refine lv_iconst (v := (-1)) C.1 C.2.1 dX2_near_45 (by decide) ?_
          refine lv_goto (tgt := 56) C.1 C.2.1 dX2_near_46 (by decide) ?_
          have e1 : nr q k = 196 := if_neg (fun z => by have := m4.mp (Int32.not_le.mp c_42); omega)
          exact z_iret C hr hlk w ⟨by rw [e1]; rfl, rfl⟩ dX2_near_56
theorem m_step (l : Launch) (G : va_G) (h0 : Nat) (r : Nat → Nat) (d : Nat → ClassId) (σ : Nat → Nat → Nat) (q1 q2 k : Nat) (h1 : q1 < 196) (h2 : q2 < 196) (hk : k < 9) : zMi l yX2_step cX2_step 4 (some .boolean) (rmF 1 22) G (mlT d) (mlC h0 r d) [.ref h0, .int (nI q1), .int (nI q2), .int (nI k)] σ (fun v σ' => v = nI (if stp (σ 2) q1 q2 k then 1 else 0) ∧ σ' = σ) := by
  refine zMi_of (own := RX2) (by decide) rfl (Nat.le_of_ble_eq_true rfl) ?_
  intro p e s m args below meth c A ls C hr hlk w hl
  have hl : lv_has ls 4 [(0, .ref h0), (1, .int (nI q1)), (2, .int (nI q2)), (3, .int (nI k))] := hl
  have hbd := w.2.2.2.2.2
  have b1 := hbd 2 q1
  have b2 := hbd 2 q2
  refine lv_aload_n C.1 C.2.1 dX2_step_0 rfl (lv_at hl 0 rfl) ?_
  refine ml_g2 C w dX2_step_1 ?_
  refine lv_iload_n C.1 C.2.1 dX2_step_4 rfl (lv_at hl 1 rfl) ?_
  refine ml_l2 C w (by omega) dX2_step_5 ?_
  refine lv_aload_n C.1 C.2.1 dX2_step_6 rfl (lv_at hl 0 rfl) ?_
  refine ml_g2 C w dX2_step_7 ?_
  refine lv_iload_n C.1 C.2.1 dX2_step_10 rfl (lv_at hl 2 rfl) ?_
  refine ml_l2 C w (by omega) dX2_step_11 ?_
  refine z_cmp_ne (tgt := 36) C dX2_step_12 (by decide) (by omega) (by omega) (fun c_12 => ?_) (fun c_12 => ?_)
  · refine lv_iconst (v := nI 0) C.1 C.2.1 dX2_step_36 (by decide) ?_
    exact z_zret C hr hlk w (by decide) ⟨by rw [if_neg (fun z => c_12 z.1)], rfl⟩ dX2_step_37
  · refine lv_aload_n C.1 C.2.1 dX2_step_15 rfl (lv_at hl 0 rfl) ?_
    refine ml_g2 C w dX2_step_16 ?_
    refine lv_iload_n C.1 C.2.1 dX2_step_19 rfl (lv_at hl 1 rfl) ?_
    refine ml_l2 C w (by omega) dX2_step_20 ?_
    refine z_if_ne (tgt := 32) C dX2_step_21 (by decide) (by omega) (fun c_21 => ?_) (fun c_21 => ?_)
    · refine lv_iconst (v := nI 1) C.1 C.2.1 dX2_step_32 (by decide) ?_
      refine lv_goto (tgt := 37) C.1 C.2.1 dX2_step_33 (by decide) ?_
      exact z_zret C hr hlk w (by decide) ⟨by rw [if_pos ⟨c_12, Or.inl c_21⟩], rfl⟩ dX2_step_37
    · refine lv_aload_n C.1 C.2.1 dX2_step_24 rfl (lv_at hl 0 rfl) ?_
      refine lv_iload_n C.1 C.2.1 dX2_step_25 rfl (lv_at hl 3 rfl) ?_
      refine z_calli (As := [.int (nI k)]) C (m_besideWay l G h0 r d σ k (by omega)) (cwV 1 C.2.2.2.2 (lw_V q255 q257 qs17 q28 q258) rfl rfl rfl (by decide +kernel) ⟨Nat.le_of_ble_eq_true rfl, Nat.le_of_ble_eq_true rfl⟩) w (ml_rc w) rfl hl.1 rfl (Nat.le_of_ble_eq_true rfl) dX2_step_26 ⟨Nat.le_refl _, Nat.le_refl _⟩ (fun v1 s1 H locs hp w => ?_)
      obtain ⟨hv, hσ⟩ := hp
      subst hv
      rw [hσ] at w
      refine z_if_eq (tgt := 36) C dX2_step_29 (by decide) z_ifB (fun c_29 => ?_) (fun c_29 => ?_)
      · refine lv_iconst (v := nI 0) C.1 C.2.1 dX2_step_36 (by decide) ?_
        exact z_zret C hr hlk w (by decide) ⟨by rw [if_neg (fun z => z.2.elim (fun y => y c_21) (z_ifN c_29))], rfl⟩ dX2_step_37
      · refine lv_iconst (v := nI 1) C.1 C.2.1 dX2_step_32 (by decide) ?_
        refine lv_goto (tgt := 37) C.1 C.2.1 dX2_step_33 (by decide) ?_
        exact z_zret C hr hlk w (by decide) ⟨by rw [if_pos ⟨c_12, Or.inr (z_ifP c_29)⟩], rfl⟩ dX2_step_37
theorem m_isFirst (l : Launch) (G : va_G) (h0 : Nat) (r : Nat → Nat) (d : Nat → ClassId) (σ : Nat → Nat → Nat) (q co : Nat) (h1 : q < 196) (h2 : co < 2) : zMi l yX2_isFirst cX2_isFirst 3 (some .boolean) (rmF 0 0) G (mlT d) (mlC h0 r d) [.ref h0, .int (nI q), .int (nI co)] σ (fun v σ' => v = nI (if σ 2 q = co ∧ σ 3 q = q then 1 else 0) ∧ σ' = σ) := by
  refine zMi_of (own := RX2) (by decide) rfl (Nat.le_of_ble_eq_true rfl) ?_
  intro p e s m args below meth c A ls C hr hlk w hl
  have hl : lv_has ls 3 [(0, .ref h0), (1, .int (nI q)), (2, .int (nI co))] := hl
  have hbd := w.2.2.2.2.2
  have b1 := hbd 2 q
  have b2 := hbd 3 q
  refine lv_aload_n C.1 C.2.1 dX2_isFirst_0 rfl (lv_at hl 0 rfl) ?_
  refine ml_g2 C w dX2_isFirst_1 ?_
  refine lv_iload_n C.1 C.2.1 dX2_isFirst_4 rfl (lv_at hl 1 rfl) ?_
  refine ml_l2 C w (by omega) dX2_isFirst_5 ?_
  refine lv_iload_n C.1 C.2.1 dX2_isFirst_6 rfl (lv_at hl 2 rfl) ?_
  refine z_cmp_ne (tgt := 24) C dX2_isFirst_7 (by decide) (by omega) (by omega) (fun c_7 => ?_) (fun c_7 => ?_)
  · refine lv_iconst (v := nI 0) C.1 C.2.1 dX2_isFirst_24 (by decide) ?_
    exact z_zret C hr hlk w (by decide) ⟨by rw [if_neg (fun z => c_7 z.1)], rfl⟩ dX2_isFirst_25
  · refine lv_aload_n C.1 C.2.1 dX2_isFirst_10 rfl (lv_at hl 0 rfl) ?_
    refine ml_g3 C w dX2_isFirst_11 ?_
    refine lv_iload_n C.1 C.2.1 dX2_isFirst_14 rfl (lv_at hl 1 rfl) ?_
    refine ml_l3 C w (by omega) dX2_isFirst_15 ?_
    refine lv_iload_n C.1 C.2.1 dX2_isFirst_16 rfl (lv_at hl 1 rfl) ?_
    refine z_cmp_ne (tgt := 24) C dX2_isFirst_17 (by decide) (by omega) (by omega) (fun c_17 => ?_) (fun c_17 => ?_)
    · refine lv_iconst (v := nI 0) C.1 C.2.1 dX2_isFirst_24 (by decide) ?_
      exact z_zret C hr hlk w (by decide) ⟨by rw [if_neg (fun z => c_17 z.2)], rfl⟩ dX2_isFirst_25
    · refine lv_iconst (v := nI 1) C.1 C.2.1 dX2_isFirst_20 (by decide) ?_
      refine lv_goto (tgt := 25) C.1 C.2.1 dX2_isFirst_21 (by decide) ?_
      exact z_zret C hr hlk w (by decide) ⟨by rw [if_pos ⟨c_7, c_17⟩], rfl⟩ dX2_isFirst_25
theorem m_mset (l : Launch) (G : va_G) (h0 : Nat) (r : Nat → Nat) (d : Nat → ClassId) (σ : Nat → Nat → Nat) (X Y : Int32) (b : Nat) (hb : b < 2) (k2 : σ 0 0 ≤ 12) (k4 : σ 1 0 ≤ 12) : zMi l yX2_set cX2_set 4 (some .boolean) (rmF 1 22) G (mlT d) (mlC h0 r d) [.ref h0, .int X, .int Y, .int (nI b)] σ (fun v σ' => (¬ inP (σ 0 0) (σ 1 0) X Y ∧ v = nI 0 ∧ σ' = σ) ∨ (∃ x y, X = nI x ∧ Y = nI y ∧ x < σ 0 0 ∧ y < σ 1 0 ∧ v = nI 1 ∧ σ' = up σ 2 (14 * (y + 1) + x + 1) b)) := by
  refine zMi_of (own := RX2) (by decide) rfl (Nat.le_of_ble_eq_true rfl) ?_
  intro p e s m args below meth c A ls C hr hlk w hl
  have hl : lv_has ls 4 [(0, .ref h0), (1, .int X), (2, .int Y), (3, .int (nI b))] := hl
  have hbd := w.2.2.2.2.2
  refine lv_aload_n C.1 C.2.1 dX2_set_0 rfl (lv_at hl 0 rfl) ?_
  refine lv_iload_n C.1 C.2.1 dX2_set_1 rfl (lv_at hl 1 rfl) ?_
  refine lv_iload_n C.1 C.2.1 dX2_set_2 rfl (lv_at hl 2 rfl) ?_
  refine z_calli (As := [.int X, .int Y]) C (m_inside l G h0 r d σ X Y) (cwV 2 C.2.2.2.2 (lw_V q219 q221 qs11 q28 q222) rfl rfl rfl (by decide +kernel) ⟨Nat.le_of_ble_eq_true rfl, Nat.le_of_ble_eq_true rfl⟩) w (ml_rc w) rfl hl.1 rfl (Nat.le_of_ble_eq_true rfl) dX2_set_3 ⟨Nat.le_refl _, Nat.le_refl _⟩ (fun v1 s1 H locs hp w => ?_)
  obtain ⟨hv, hσ⟩ := hp
  subst hv
  rw [hσ] at w
  refine z_if_ne (tgt := 11) C dX2_set_6 (by decide) z_ifB (fun c_6 => ?_) (fun c_6 => ?_)
  · obtain ⟨x, y, rfl, rfl, hx, hy⟩ := inP_nat (by omega) (by omega) (z_ifP c_6)
    refine lv_aload_n C.1 C.2.1 dX2_set_11 rfl (lv_at hl 0 rfl) ?_
    refine ml_g2 C w dX2_set_12 ?_
    refine lv_aload_n C.1 C.2.1 dX2_set_15 rfl (lv_at hl 0 rfl) ?_
    refine lv_iload_n C.1 C.2.1 dX2_set_16 rfl (lv_at hl 1 rfl) ?_
    refine lv_iload_n C.1 C.2.1 dX2_set_17 rfl (lv_at hl 2 rfl) ?_
    refine z_calli (As := [.int (nI x), .int (nI y)]) C (m_place l G h0 r d σ x y) (cwV 2 C.2.2.2.2 (lw_V q223 q225 qs12 q28 q226) rfl rfl rfl (by decide +kernel) ⟨Nat.le_of_ble_eq_true rfl, Nat.le_of_ble_eq_true rfl⟩) w (ml_rc w) rfl hl.1 rfl (Nat.le_of_ble_eq_true rfl) dX2_set_18 ⟨Nat.le_refl _, Nat.le_refl _⟩ (fun v2 s2 H locs hp w => ?_)
    obtain ⟨hv, hσ⟩ := hp
    subst hv
    rw [hσ] at w
    refine lv_iload_n C.1 C.2.1 dX2_set_21 rfl (lv_at hl 3 rfl) ?_
    refine ml_s2 C w (by omega) (by omega) dX2_set_22 (fun H locs w => ?_)
    refine lv_iconst (v := nI 1) C.1 C.2.1 dX2_set_23 (by decide) ?_
    exact z_zret C hr hlk w (by decide) (Or.inr ⟨x, y, rfl, rfl, hx, hy, rfl, rfl⟩) dX2_set_24
  · refine lv_iconst (v := nI 0) C.1 C.2.1 dX2_set_9 (by decide) ?_
    exact z_zret C hr hlk w (by decide) (Or.inl ⟨z_ifN c_6, rfl, rfl⟩) dX2_set_10
theorem m_misBlack (l : Launch) (G : va_G) (h0 : Nat) (r : Nat → Nat) (d : Nat → ClassId) (σ : Nat → Nat → Nat) (X Y : Int32) (k2 : σ 0 0 ≤ 12) (k4 : σ 1 0 ≤ 12) : zMi l yX2_isBlack cX2_isBlack 3 (some .boolean) (rmF 1 22) G (mlT d) (mlC h0 r d) [.ref h0, .int X, .int Y] σ (fun v σ' => ((¬ inP (σ 0 0) (σ 1 0) X Y ∧ v = nI 0) ∨ (∃ x y, X = nI x ∧ Y = nI y ∧ x < σ 0 0 ∧ y < σ 1 0 ∧ v = nI (if σ 2 (14 * (y + 1) + x + 1) ≠ 0 then 1 else 0))) ∧ σ' = σ) := by
  refine zMi_of (own := RX2) (by decide) rfl (Nat.le_of_ble_eq_true rfl) ?_
  intro p e s m args below meth c A ls C hr hlk w hl
  have hl : lv_has ls 3 [(0, .ref h0), (1, .int X), (2, .int Y)] := hl
  have hbd := w.2.2.2.2.2
  refine lv_aload_n C.1 C.2.1 dX2_isBlack_0 rfl (lv_at hl 0 rfl) ?_
  refine lv_iload_n C.1 C.2.1 dX2_isBlack_1 rfl (lv_at hl 1 rfl) ?_
  refine lv_iload_n C.1 C.2.1 dX2_isBlack_2 rfl (lv_at hl 2 rfl) ?_
  refine z_calli (As := [.int X, .int Y]) C (m_inside l G h0 r d σ X Y) (cwV 2 C.2.2.2.2 (lw_V q219 q221 qs11 q28 q222) rfl rfl rfl (by decide +kernel) ⟨Nat.le_of_ble_eq_true rfl, Nat.le_of_ble_eq_true rfl⟩) w (ml_rc w) rfl hl.1 rfl (Nat.le_of_ble_eq_true rfl) dX2_isBlack_3 ⟨Nat.le_refl _, Nat.le_refl _⟩ (fun v1 s1 H locs hp w => ?_)
  obtain ⟨hv, hσ⟩ := hp
  subst hv
  rw [hσ] at w
  refine z_if_eq (tgt := 27) C dX2_isBlack_6 (by decide) z_ifB (fun c_6 => ?_) (fun c_6 => ?_)
  · refine lv_iconst (v := nI 0) C.1 C.2.1 dX2_isBlack_27 (by decide) ?_
    exact z_zret C hr hlk w (by decide) ⟨Or.inl ⟨z_ifN c_6, rfl⟩, rfl⟩ dX2_isBlack_28
  · obtain ⟨x, y, rfl, rfl, hx, hy⟩ := inP_nat (by omega) (by omega) (z_ifP c_6)
    have b2 := hbd 2 (14 * (y + 1) + x + 1)
    refine lv_aload_n C.1 C.2.1 dX2_isBlack_9 rfl (lv_at hl 0 rfl) ?_
    refine ml_g2 C w dX2_isBlack_10 ?_
    refine lv_aload_n C.1 C.2.1 dX2_isBlack_13 rfl (lv_at hl 0 rfl) ?_
    refine lv_iload_n C.1 C.2.1 dX2_isBlack_14 rfl (lv_at hl 1 rfl) ?_
    refine lv_iload_n C.1 C.2.1 dX2_isBlack_15 rfl (lv_at hl 2 rfl) ?_
    refine z_calli (As := [.int (nI x), .int (nI y)]) C (m_place l G h0 r d σ x y) (cwV 2 C.2.2.2.2 (lw_V q223 q225 qs12 q28 q226) rfl rfl rfl (by decide +kernel) ⟨Nat.le_of_ble_eq_true rfl, Nat.le_of_ble_eq_true rfl⟩) w (ml_rc w) rfl hl.1 rfl (Nat.le_of_ble_eq_true rfl) dX2_isBlack_16 ⟨Nat.le_refl _, Nat.le_refl _⟩ (fun v2 s2 H locs hp w => ?_)
    obtain ⟨hv, hσ⟩ := hp
    subst hv
    rw [hσ] at w
    refine ml_l2 C w (by omega) dX2_isBlack_19 ?_
    refine z_if_eq (tgt := 27) C dX2_isBlack_20 (by decide) (by omega) (fun c_20 => ?_) (fun c_20 => ?_)
    · refine lv_iconst (v := nI 0) C.1 C.2.1 dX2_isBlack_27 (by decide) ?_
      exact z_zret C hr hlk w (by decide) ⟨Or.inr ⟨x, y, rfl, rfl, hx, hy, by rw [if_neg (fun z => z c_20)]⟩, rfl⟩ dX2_isBlack_28
    · refine lv_iconst (v := nI 1) C.1 C.2.1 dX2_isBlack_23 (by decide) ?_
      refine lv_goto (tgt := 28) C.1 C.2.1 dX2_isBlack_24 (by decide) ?_
      exact z_zret C hr hlk w (by decide) ⟨Or.inr ⟨x, y, rfl, rfl, hx, hy, by rw [if_pos c_20]⟩, rfl⟩ dX2_isBlack_28
def mvS (j i : Nat) (s : Nat → Nat → Nat) : Nat → Nat → Nat := up s 2 (14 * (j + 1) + i + 1) (if s 2 (14 * (j + 1) + i + 1) ≠ 0 then 0 else 1)
def mvR (x a j : Nat) (s : Nat → Nat → Nat) : Nat → Nat → Nat := fwd (mvS j) a x s
def mvF (a b x y : Nat) (s : Nat → Nat → Nat) : Nat → Nat → Nat := fwd (mvR x a) b y s
section
variable {p : Program} {l : Launch} {e : Env} {R : Room} {s : State} {m : MethodId} {args : Array Value} {below : List Frame} {meth : Method} {c : Code} {H : Heap} {locs : List Loc} {Q : State → Prop}
variable {G : va_G} {A : Nat → Prop} {H0 : Heap} {σ : Nat → Nat → Nat} {h0 : Nat} {r : Nat → Nat} {d : Nat → ClassId}
theorem mv_in {x y a b j : Nat} (C : zC p m c cX2_invert 7 s args RX2) (hj : j < 12) (hxa : x + a ≤ 12) : ∀ n i σ H locs, mlW G h0 r d A s H0 H locs σ → x + a = i + n → ∀ ls, lv_has ls 7 [(6, .int (nI i)), (5, .int (nI j)), (0, .ref h0), (1, .int (nI x)), (2, .int (nI y)), (3, .int (nI a)), (4, .int (nI b))] → (∀ H locs ls, mlW G h0 r d A s H0 H locs (fwd (mvS j) n i σ) → lv_has ls 7 [(5, .int (nI j)), (0, .ref h0), (1, .int (nI x)), (2, .int (nI y)), (3, .int (nI a)), (4, .int (nI b))] → W p l e (rmF 1 22) s m args below meth c H locs 0 0 Q (F0 m 106 ls [])) → W p l e (rmF 1 22) s m args below meth c H locs 0 0 Q (F0 m 58 ls []) := by
  intro n
  induction n with
  | zero =>
    intro i σ H locs w hn ls hl K
    refine lv_iload C.1 C.2.1 dX2_invert_58 (lv_at hl 0 rfl) ?_
    refine lv_iload_n C.1 C.2.1 dX2_invert_60 rfl (lv_at hl 3 rfl) ?_
    refine lv_iload_n C.1 C.2.1 dX2_invert_61 rfl (lv_at hl 5 rfl) ?_
    refine z_iadd C dX2_invert_62 ?_
    refine z_cmp_ge (tgt := 106) C dX2_invert_63 (by decide) (by omega) (by omega) (fun c_63 => ?_) (fun c_63 => ?_)
    · exact K H locs ls w (lv_sub hl [1, 2, 3, 4, 5, 6] rfl)
    · exact absurd c_63 (by omega)
  | succ n ih =>
    intro i σ H locs w hn ls hl K
    have b2 := w.2.2.2.2.2 2 (14 * (j + 1) + i + 1)
    refine lv_iload C.1 C.2.1 dX2_invert_58 (lv_at hl 0 rfl) ?_
    refine lv_iload_n C.1 C.2.1 dX2_invert_60 rfl (lv_at hl 3 rfl) ?_
    refine lv_iload_n C.1 C.2.1 dX2_invert_61 rfl (lv_at hl 5 rfl) ?_
    refine z_iadd C dX2_invert_62 ?_
    refine z_cmp_ge (tgt := 106) C dX2_invert_63 (by decide) (by omega) (by omega) (fun c_63 => ?_) (fun c_63 => ?_)
    · exact absurd c_63 (by omega)
    · refine lv_aload_n C.1 C.2.1 dX2_invert_66 rfl (lv_at hl 2 rfl) ?_
      refine ml_g2 C w dX2_invert_67 ?_
      refine lv_aload_n C.1 C.2.1 dX2_invert_70 rfl (lv_at hl 2 rfl) ?_
      refine lv_iload C.1 C.2.1 dX2_invert_71 (lv_at hl 0 rfl) ?_
      refine lv_iload C.1 C.2.1 dX2_invert_73 (lv_at hl 1 rfl) ?_
      refine z_calli (As := [.int (nI i), .int (nI j)]) C (m_place l G h0 r d σ i j) (cwV 2 C.2.2.2.2 (lw_V q223 q225 qs12 q28 q226) rfl rfl rfl (by decide +kernel) ⟨Nat.le_of_ble_eq_true rfl, Nat.le_of_ble_eq_true rfl⟩) w (ml_rc w) rfl hl.1 rfl (Nat.le_of_ble_eq_true rfl) dX2_invert_75 ⟨Nat.le_refl _, Nat.le_refl _⟩ (fun v1 s1 H locs hp w => ?_)
      obtain ⟨hv, hσ⟩ := hp
      subst hv
      rw [hσ] at w
      refine lv_aload_n C.1 C.2.1 dX2_invert_78 rfl (lv_at hl 2 rfl) ?_
      refine ml_g2 C w dX2_invert_79 ?_
      refine lv_aload_n C.1 C.2.1 dX2_invert_82 rfl (lv_at hl 2 rfl) ?_
      refine lv_iload C.1 C.2.1 dX2_invert_83 (lv_at hl 0 rfl) ?_
      refine lv_iload C.1 C.2.1 dX2_invert_85 (lv_at hl 1 rfl) ?_
      refine z_calli (As := [.int (nI i), .int (nI j)]) C (m_place l G h0 r d σ i j) (cwV 2 C.2.2.2.2 (lw_V q223 q225 qs12 q28 q226) rfl rfl rfl (by decide +kernel) ⟨Nat.le_of_ble_eq_true rfl, Nat.le_of_ble_eq_true rfl⟩) w (ml_rc w) rfl hl.1 rfl (Nat.le_of_ble_eq_true rfl) dX2_invert_87 ⟨Nat.le_refl _, Nat.le_refl _⟩ (fun v2 s2 H locs hp w => ?_)
      obtain ⟨hv, hσ⟩ := hp
      subst hv
      rw [hσ] at w
      refine ml_l2 C w (by omega) dX2_invert_90 ?_
      refine z_if_ne (tgt := 98) C dX2_invert_91 (by decide) (by omega) (fun c_91 => ?_) (fun c_91 => ?_)
      · refine lv_iconst (v := nI 0) C.1 C.2.1 dX2_invert_98 (by decide) ?_
        refine ml_s2 C w (by omega) (by omega) dX2_invert_99 (fun H locs w => ?_)
        refine lv_iinc (lv' := [(6, .int (nI (i + 1))), (5, .int (nI j)), (0, .ref h0), (1, .int (nI x)), (2, .int (nI y)), (3, .int (nI a)), (4, .int (nI b))]) C.1 C.2.1 dX2_invert_100 hl (k := 0) rfl (nI_add _ _) (by decide) rfl (fun ls hl => ?_)
        refine lv_goto (tgt := 58) C.1 C.2.1 dX2_invert_103 (by decide) ?_
        have e1 : mvS j i σ = up σ 2 (14 * (j + 1) + i + 1) 0 := by unfold mvS; rw [if_pos c_91]
        exact ih (i + 1) (mvS j i σ) H locs (by rw [e1]; exact w) (by omega) ls hl K
      · refine lv_iconst (v := nI 1) C.1 C.2.1 dX2_invert_94 (by decide) ?_
        refine lv_goto (tgt := 99) C.1 C.2.1 dX2_invert_95 (by decide) ?_
        refine ml_s2 C w (by omega) (by omega) dX2_invert_99 (fun H locs w => ?_)
        refine lv_iinc (lv' := [(6, .int (nI (i + 1))), (5, .int (nI j)), (0, .ref h0), (1, .int (nI x)), (2, .int (nI y)), (3, .int (nI a)), (4, .int (nI b))]) C.1 C.2.1 dX2_invert_100 hl (k := 0) rfl (nI_add _ _) (by decide) rfl (fun ls hl => ?_)
        refine lv_goto (tgt := 58) C.1 C.2.1 dX2_invert_103 (by decide) ?_
        have e1 : mvS j i σ = up σ 2 (14 * (j + 1) + i + 1) 1 := by unfold mvS; rw [if_neg (fun z => z c_91)]
        exact ih (i + 1) (mvS j i σ) H locs (by rw [e1]; exact w) (by omega) ls hl K
theorem mv_out {x y a b : Nat} (C : zC p m c cX2_invert 7 s args RX2) (hyb : y + b ≤ 12) (hxa : x + a ≤ 12) : ∀ n j σ H locs, mlW G h0 r d A s H0 H locs σ → y + b = j + n → ∀ ls, lv_has ls 7 [(5, .int (nI j)), (0, .ref h0), (1, .int (nI x)), (2, .int (nI y)), (3, .int (nI a)), (4, .int (nI b))] → (∀ H locs ls, mlW G h0 r d A s H0 H locs (fwd (mvR x a) n j σ) → W p l e (rmF 1 22) s m args below meth c H locs 0 0 Q (F0 m 112 ls [])) → W p l e (rmF 1 22) s m args below meth c H locs 0 0 Q (F0 m 46 ls []) := by
  intro n
  induction n with
  | zero =>
    intro j σ H locs w hn ls hl K
    refine lv_iload C.1 C.2.1 dX2_invert_46 (lv_at hl 0 rfl) ?_
    refine lv_iload_n C.1 C.2.1 dX2_invert_48 rfl (lv_at hl 3 rfl) ?_
    refine lv_iload C.1 C.2.1 dX2_invert_49 (lv_at hl 5 rfl) ?_
    refine z_iadd C dX2_invert_51 ?_
    refine z_cmp_ge (tgt := 112) C dX2_invert_52 (by decide) (by omega) (by omega) (fun c_52 => ?_) (fun c_52 => ?_)
    · exact K H locs ls w
    · exact absurd c_52 (by omega)
  | succ n ih =>
    intro j σ H locs w hn ls hl K
    refine lv_iload C.1 C.2.1 dX2_invert_46 (lv_at hl 0 rfl) ?_
    refine lv_iload_n C.1 C.2.1 dX2_invert_48 rfl (lv_at hl 3 rfl) ?_
    refine lv_iload C.1 C.2.1 dX2_invert_49 (lv_at hl 5 rfl) ?_
    refine z_iadd C dX2_invert_51 ?_
    refine z_cmp_ge (tgt := 112) C dX2_invert_52 (by decide) (by omega) (by omega) (fun c_52 => ?_) (fun c_52 => ?_)
    · exact absurd c_52 (by omega)
    · refine lv_iload_n C.1 C.2.1 dX2_invert_55 rfl (lv_at hl 2 rfl) ?_
      refine lv_istore (lv' := [(6, .int (nI x)), (5, .int (nI j)), (0, .ref h0), (1, .int (nI x)), (2, .int (nI y)), (3, .int (nI a)), (4, .int (nI b))]) C.1 C.2.1 dX2_invert_56 hl (by decide) rfl (fun ls hl => ?_)
      refine mv_in C (by omega) hxa a x σ _ _ w rfl ls hl (fun H locs ls w hl => ?_)
      refine lv_iinc (lv' := [(5, .int (nI (j + 1))), (0, .ref h0), (1, .int (nI x)), (2, .int (nI y)), (3, .int (nI a)), (4, .int (nI b))]) C.1 C.2.1 dX2_invert_106 hl (k := 0) rfl (nI_add _ _) (by decide) rfl (fun ls hl => ?_)
      refine lv_goto (tgt := 46) C.1 C.2.1 dX2_invert_109 (by decide) ?_
      exact ih (j + 1) (mvR x a j σ) H locs w (by omega) ls hl K
end
theorem m_minvert (l : Launch) (G : va_G) (h0 : Nat) (r : Nat → Nat) (d : Nat → ClassId) (σ : Nat → Nat → Nat) (X Y P Q : Int32) (k2 : σ 0 0 ≤ 12) (k4 : σ 1 0 ≤ 12) : zMi l yX2_invert cX2_invert 7 (some .boolean) (rmF 1 22) G (mlT d) (mlC h0 r d) [.ref h0, .int X, .int Y, .int P, .int Q] σ (fun v σ' => (¬ ivP (σ 0 0) (σ 1 0) X Y P Q ∧ v = nI 0 ∧ σ' = σ) ∨ (∃ x y a b, X = nI x ∧ Y = nI y ∧ P = nI a ∧ Q = nI b ∧ 1 ≤ a ∧ x + a ≤ σ 0 0 ∧ 1 ≤ b ∧ y + b ≤ σ 1 0 ∧ v = nI 1 ∧ σ' = mvF a b x y σ)) := by
  refine zMi_of (own := RX2) (by decide) rfl (Nat.le_of_ble_eq_true rfl) ?_
  intro p e s m args below meth c A ls C hr hlk w hl
  have hl : lv_has ls 7 [(0, .ref h0), (1, .int X), (2, .int Y), (3, .int P), (4, .int Q)] := hl
  have hbd := w.2.2.2.2.2
  refine lv_aload_n C.1 C.2.1 dX2_invert_0 rfl (lv_at hl 0 rfl) ?_
  refine lv_iload_n C.1 C.2.1 dX2_invert_1 rfl (lv_at hl 1 rfl) ?_
  refine lv_iload_n C.1 C.2.1 dX2_invert_2 rfl (lv_at hl 2 rfl) ?_
  refine z_calli (As := [.int X, .int Y]) C (m_inside l G h0 r d σ X Y) (cwV 2 C.2.2.2.2 (lw_V q219 q221 qs11 q28 q222) rfl rfl rfl (by decide +kernel) ⟨Nat.le_of_ble_eq_true rfl, Nat.le_of_ble_eq_true rfl⟩) w (ml_rc w) rfl hl.1 rfl (Nat.le_of_ble_eq_true rfl) dX2_invert_3 ⟨Nat.le_refl _, Nat.le_refl _⟩ (fun v1 s1 H locs hp w => ?_)
  obtain ⟨hv, hσ⟩ := hp
  subst hv
  rw [hσ] at w
  refine z_if_eq (tgt := 41) C dX2_invert_6 (by decide) z_ifB (fun c_6 => ?_) (fun c_6 => ?_)
  · refine lv_iconst (v := nI 0) C.1 C.2.1 dX2_invert_41 (by decide) ?_
    exact z_zret C hr hlk w (by decide) (Or.inl ⟨fun q => z_ifN c_6 q.1, rfl, rfl⟩) dX2_invert_42
  · obtain ⟨x, y, rfl, rfl, hx, hy⟩ := inP_nat (by omega) (by omega) (z_ifP c_6)
    refine lv_iload_n C.1 C.2.1 dX2_invert_9 rfl (lv_at hl 3 rfl) ?_
    refine lv_iconst (v := nI 1) C.1 C.2.1 dX2_invert_10 (by decide) ?_
    refine lv_icmp_lt (tgt := 41) C.1 C.2.1 dX2_invert_11 (by decide) (fun c_11 => ?_) (fun c_11 => ?_)
    · refine lv_iconst (v := nI 0) C.1 C.2.1 dX2_invert_41 (by decide) ?_
      exact z_zret C hr hlk w (by decide) (Or.inl ⟨fun q => q.2.1 c_11, rfl, rfl⟩) dX2_invert_42
    · refine lv_iload_n C.1 C.2.1 dX2_invert_14 rfl (lv_at hl 3 rfl) ?_
      refine lv_aload_n C.1 C.2.1 dX2_invert_15 rfl (lv_at hl 0 rfl) ?_
      refine ml_g0 C w dX2_invert_16 ?_
      refine lv_iload_n C.1 C.2.1 dX2_invert_19 rfl (lv_at hl 1 rfl) ?_
      refine z_isub C (by omega) dX2_invert_20 ?_
      refine lv_icmp_gt (tgt := 41) C.1 C.2.1 dX2_invert_21 (by decide) (fun c_21 => ?_) (fun c_21 => ?_)
      · refine lv_iconst (v := nI 0) C.1 C.2.1 dX2_invert_41 (by decide) ?_
        exact z_zret C hr hlk w (by decide) (Or.inl ⟨fun q => q.2.2.1 (by rw [pk_sub (by omega)]; exact c_21), rfl, rfl⟩) dX2_invert_42
      · refine lv_iload C.1 C.2.1 dX2_invert_24 (lv_at hl 4 rfl) ?_
        refine lv_iconst (v := nI 1) C.1 C.2.1 dX2_invert_26 (by decide) ?_
        refine lv_icmp_lt (tgt := 41) C.1 C.2.1 dX2_invert_27 (by decide) (fun c_27 => ?_) (fun c_27 => ?_)
        · refine lv_iconst (v := nI 0) C.1 C.2.1 dX2_invert_41 (by decide) ?_
          exact z_zret C hr hlk w (by decide) (Or.inl ⟨fun q => q.2.2.2.1 c_27, rfl, rfl⟩) dX2_invert_42
        · refine lv_iload C.1 C.2.1 dX2_invert_30 (lv_at hl 4 rfl) ?_
          refine lv_aload_n C.1 C.2.1 dX2_invert_32 rfl (lv_at hl 0 rfl) ?_
          refine ml_g1 C w dX2_invert_33 ?_
          refine lv_iload_n C.1 C.2.1 dX2_invert_36 rfl (lv_at hl 2 rfl) ?_
          refine z_isub C (by omega) dX2_invert_37 ?_
          refine lv_icmp_le (tgt := 43) C.1 C.2.1 dX2_invert_38 (by decide) (fun c_38 => ?_) (fun c_38 => ?_)
          · obtain ⟨a, ha1, ha2, rfl⟩ := z_ge1 c_11
            obtain ⟨b, hb1, hb2, rfl⟩ := z_ge1 c_27
            have ha3 := (nI_leI ha2 (by omega)).mp (Int32.not_lt.mp c_21)
            have hb3 := (nI_leI hb2 (by omega)).mp c_38
            refine lv_iload_n C.1 C.2.1 dX2_invert_43 rfl (lv_at hl 2 rfl) ?_
            refine lv_istore (lv' := [(5, .int (nI y)), (0, .ref h0), (1, .int (nI x)), (2, .int (nI y)), (3, .int (nI a)), (4, .int (nI b))]) C.1 C.2.1 dX2_invert_44 hl (by decide) rfl (fun ls hl => ?_)
            refine mv_out C (by omega) (by omega) b y σ _ _ w rfl ls (lv_sub hl [0, 1, 2, 3, 4, 5] rfl) (fun H locs ls w => ?_)
            refine lv_iconst (v := nI 1) C.1 C.2.1 dX2_invert_112 (by decide) ?_
            exact z_zret C hr hlk w (by decide) (Or.inr ⟨x, y, a, b, rfl, rfl, rfl, rfl, ha1, by omega, hb1, by omega, rfl, rfl⟩) dX2_invert_113
          · refine lv_iconst (v := nI 0) C.1 C.2.1 dX2_invert_41 (by decide) ?_
            exact z_zret C hr hlk w (by decide) (Or.inl ⟨fun q => c_38 (by have := q.2.2.2.2; rw [pk_sub (by omega)] at this; exact this), rfl, rfl⟩) dX2_invert_42
end
section
set_option maxRecDepth 100000
/-! ===== CompLabelModel: spreading ===== -/
theorem z_eta {α β : Type} (p : α × β) : (p.1, p.2) = p := by cases p; rfl
def srR (s : Nat → Nat → Nat) : Nat → Nat → Nat := (sweep srS 9 s).1
def srC (s : Nat → Nat → Nat) : Nat := (sweep srS 9 s).2
def scR (s : Nat → Nat → Nat) : Nat → Nat → Nat := (sweep scS 9 s).1
def scC (s : Nat → Nat → Nat) : Nat := (sweep scS 9 s).2
def saR (av : Nat) (s : Nat → Nat → Nat) : Nat → Nat → Nat := (sweep (saS av) 4 s).1
def saC (av : Nat) (s : Nat → Nat → Nat) : Nat := (sweep (saS av) 4 s).2
theorem srE (s : Nat → Nat → Nat) : sweep srS 9 s = (srR s, srC s) := (z_eta (sweep srS 9 s)).symm
theorem scE (s : Nat → Nat → Nat) : sweep scS 9 s = (scR s, scC s) := (z_eta (sweep scS 9 s)).symm
theorem saE (av : Nat) (s : Nat → Nat → Nat) : sweep (saS av) 4 s = (saR av s, saC av s) := (z_eta (sweep (saS av) 4 s)).symm
theorem srC_lt (s : Nat → Nat → Nat) : srC s < 2 := by
  refine sweep_inv (fun t => t.2 < 2) (fun p d t _ _ ht => ?_) s (show 0 < 2 by decide)
  unfold srS
  split
  · exact Nat.lt_succ_self 1
  · exact ht
theorem scC_lt (s : Nat → Nat → Nat) : scC s < 2 := by
  refine sweep_inv (fun t => t.2 < 2) (fun p d t _ _ ht => ?_) s (show 0 < 2 by decide)
  unfold scS
  split
  · exact Nat.lt_succ_self 1
  · exact ht
theorem saC_lt (av : Nat) (s : Nat → Nat → Nat) : saC av s < 2 := by
  refine sweep_inv (fun t => t.2 < 2) (fun p d t _ _ ht => ?_) s (show 0 < 2 by decide)
  unfold saS
  split
  · exact Nat.lt_succ_self 1
  · exact ht
section
variable {p : Program} {l : Launch} {e : Env} {R : Room} {s : State} {m : MethodId} {args : Array Value} {below : List Frame} {meth : Method} {c : Code} {H : Heap} {locs : List Loc} {Q : State → Prop}
variable {G : va_G} {A : Nat → Prop} {H0 : Heap} {σ : Nat → Nat → Nat} {h0 : Nat} {r : Nat → Nat} {d : Nat → ClassId}
theorem sr_in {q : Nat} (C : zC p m c cX2_spreadRoots 5 s args RX2) (hq : q < 196) : ∀ n k σ ch H locs, mlW G h0 r d A s H0 H locs σ → ch < 2 → k + n = 9 → ∀ ls, lv_has ls 5 [(3, .int (nI k)), (2, .int (nI q)), (1, .int (nI ch)), (0, .ref h0)] → (∀ H locs ls, mlW G h0 r d A s H0 H locs (fwd (srS q) n k (σ, ch)).1 → (fwd (srS q) n k (σ, ch)).2 < 2 → lv_has ls 5 [(2, .int (nI q)), (1, .int (nI ((fwd (srS q) n k (σ, ch)).2))), (0, .ref h0)] → W p l e (rmF 2 46) s m args below meth c H locs 0 0 Q (F0 m 80 ls [])) → W p l e (rmF 2 46) s m args below meth c H locs 0 0 Q (F0 m 13 ls []) := by
  intro n
  induction n with
  | zero =>
    intro k σ ch H locs w hch hn ls hl K
    refine lv_iload_n C.1 C.2.1 dX2_spreadRoots_13 rfl (lv_at hl 0 rfl) ?_
    refine lv_bipush (v := nI 9) C.1 C.2.1 dX2_spreadRoots_14 (by decide) ?_
    refine z_cmp_ge (tgt := 80) C dX2_spreadRoots_16 (by decide) (by omega) (by omega) (fun c_16 => ?_) (fun c_16 => ?_)
    · exact K H locs ls w hch (lv_sub hl [1, 2, 3] rfl)
    · exact absurd c_16 (by omega)
  | succ n ih =>
    intro k σ ch H locs w hch hn ls hl K
    have r1 := w.2.2.2.2.2 3 q
    have r2 := w.2.2.2.2.2 3 (nr q k)
    refine lv_iload_n C.1 C.2.1 dX2_spreadRoots_13 rfl (lv_at hl 0 rfl) ?_
    refine lv_bipush (v := nI 9) C.1 C.2.1 dX2_spreadRoots_14 (by decide) ?_
    refine z_cmp_ge (tgt := 80) C dX2_spreadRoots_16 (by decide) (by omega) (by omega) (fun c_16 => ?_) (fun c_16 => ?_)
    · exact absurd c_16 (by omega)
    · refine lv_aload_n C.1 C.2.1 dX2_spreadRoots_19 rfl (lv_at hl 3 rfl) ?_
      refine lv_iload_n C.1 C.2.1 dX2_spreadRoots_20 rfl (lv_at hl 1 rfl) ?_
      refine lv_iload_n C.1 C.2.1 dX2_spreadRoots_21 rfl (lv_at hl 0 rfl) ?_
      refine z_calli (As := [.int (nI q), .int (nI k)]) C (m_near l G h0 r d σ q k (by omega) (by omega)) (cwV 2 C.2.2.2.2 (lw_V q247 q249 qs15 q28 q250) rfl rfl rfl (by decide +kernel) ⟨Nat.le_of_ble_eq_true rfl, Nat.le_of_ble_eq_true rfl⟩) w (ml_rc w) rfl hl.1 rfl (Nat.le_of_ble_eq_true rfl) dX2_spreadRoots_22 ⟨Nat.le_refl _, Nat.le_refl _⟩ (fun v1 s1 H locs hp w => ?_)
      obtain ⟨hv, hσ⟩ := hp
      subst hv
      rw [hσ] at w
      by_cases hn : nr q k < 196
      · rw [if_pos hn]
        refine lv_istore (lv' := [(4, .int (nI (nr q k))), (3, .int (nI k)), (2, .int (nI q)), (1, .int (nI ch)), (0, .ref h0)]) C.1 C.2.1 dX2_spreadRoots_25 hl (by decide) rfl (fun ls hl => ?_)
        refine lv_iload C.1 C.2.1 dX2_spreadRoots_27 (lv_at hl 0 rfl) ?_
        refine z_if_lt (tgt := 74) C dX2_spreadRoots_29 (by decide) (by omega) ?_
        refine lv_aload_n C.1 C.2.1 dX2_spreadRoots_32 rfl (lv_at hl 4 rfl) ?_
        refine lv_iload_n C.1 C.2.1 dX2_spreadRoots_33 rfl (lv_at hl 2 rfl) ?_
        refine lv_iload C.1 C.2.1 dX2_spreadRoots_34 (lv_at hl 0 rfl) ?_
        refine lv_iload_n C.1 C.2.1 dX2_spreadRoots_36 rfl (lv_at hl 1 rfl) ?_
        refine z_calli (As := [.int (nI q), .int (nI (nr q k)), .int (nI k)]) C (m_step l G h0 r d σ q (nr q k) k (by omega) (by omega) (by omega)) (cwV 3 C.2.2.2.2 (lw_V q251 q253 qs16 q28 q254) rfl rfl rfl (by decide +kernel) ⟨Nat.le_of_ble_eq_true rfl, Nat.le_of_ble_eq_true rfl⟩) w (ml_rc w) rfl hl.1 rfl (Nat.le_of_ble_eq_true rfl) dX2_spreadRoots_37 ⟨Nat.le_refl _, Nat.le_refl _⟩ (fun v2 s2 H locs hp w => ?_)
        obtain ⟨hv, hσ⟩ := hp
        subst hv
        rw [hσ] at w
        refine z_if_eq (tgt := 74) C dX2_spreadRoots_40 (by decide) z_ifB (fun c_40 => ?_) (fun c_40 => ?_)
        · refine lv_iinc (lv' := [(3, .int (nI (k + 1))), (4, .int (nI (nr q k))), (2, .int (nI q)), (1, .int (nI ch)), (0, .ref h0)]) C.1 C.2.1 dX2_spreadRoots_74 hl (k := 1) rfl (nI_add _ _) (by decide) rfl (fun ls hl => ?_)
          refine lv_goto (tgt := 13) C.1 C.2.1 dX2_spreadRoots_77 (by decide) ?_
          have e1 : srS q k (σ, ch) = (σ, ch) := if_neg (fun z => z_ifN c_40 z.2.1)
          rw [show fwd (srS q) (n + 1) k (σ, ch) = fwd (srS q) n (k + 1) (srS q k (σ, ch)) from rfl, e1] at K
          exact ih (k + 1) σ ch H locs w hch (by omega) ls (lv_sub hl [0, 2, 3, 4] rfl) K
        · refine lv_aload_n C.1 C.2.1 dX2_spreadRoots_43 rfl (lv_at hl 4 rfl) ?_
          refine ml_g3 C w dX2_spreadRoots_44 ?_
          refine lv_iload C.1 C.2.1 dX2_spreadRoots_47 (lv_at hl 0 rfl) ?_
          refine ml_l3 C w (by omega) dX2_spreadRoots_49 ?_
          refine lv_aload_n C.1 C.2.1 dX2_spreadRoots_50 rfl (lv_at hl 4 rfl) ?_
          refine ml_g3 C w dX2_spreadRoots_51 ?_
          refine lv_iload_n C.1 C.2.1 dX2_spreadRoots_54 rfl (lv_at hl 2 rfl) ?_
          refine ml_l3 C w (by omega) dX2_spreadRoots_55 ?_
          refine z_cmp_ge (tgt := 74) C dX2_spreadRoots_56 (by decide) (by omega) (by omega) (fun c_56 => ?_) (fun c_56 => ?_)
          · refine lv_iinc (lv' := [(3, .int (nI (k + 1))), (4, .int (nI (nr q k))), (2, .int (nI q)), (1, .int (nI ch)), (0, .ref h0)]) C.1 C.2.1 dX2_spreadRoots_74 hl (k := 1) rfl (nI_add _ _) (by decide) rfl (fun ls hl => ?_)
            refine lv_goto (tgt := 13) C.1 C.2.1 dX2_spreadRoots_77 (by decide) ?_
            have e1 : srS q k (σ, ch) = (σ, ch) := if_neg (fun z => absurd (show σ 3 (nr q k) < σ 3 q from z.2.2) (by omega))
            rw [show fwd (srS q) (n + 1) k (σ, ch) = fwd (srS q) n (k + 1) (srS q k (σ, ch)) from rfl, e1] at K
            exact ih (k + 1) σ ch H locs w hch (by omega) ls (lv_sub hl [0, 2, 3, 4] rfl) K
          · refine lv_aload_n C.1 C.2.1 dX2_spreadRoots_59 rfl (lv_at hl 4 rfl) ?_
            refine ml_g3 C w dX2_spreadRoots_60 ?_
            refine lv_iload_n C.1 C.2.1 dX2_spreadRoots_63 rfl (lv_at hl 2 rfl) ?_
            refine lv_aload_n C.1 C.2.1 dX2_spreadRoots_64 rfl (lv_at hl 4 rfl) ?_
            refine ml_g3 C w dX2_spreadRoots_65 ?_
            refine lv_iload C.1 C.2.1 dX2_spreadRoots_68 (lv_at hl 0 rfl) ?_
            refine ml_l3 C w (by omega) dX2_spreadRoots_70 ?_
            refine ml_s3 C w (by omega) (by omega) dX2_spreadRoots_71 (fun H locs w => ?_)
            refine lv_iconst (v := nI 1) C.1 C.2.1 dX2_spreadRoots_72 (by decide) ?_
            refine lv_istore_n (lv' := [(1, .int (nI 1)), (4, .int (nI (nr q k))), (3, .int (nI k)), (2, .int (nI q)), (0, .ref h0)]) C.1 C.2.1 dX2_spreadRoots_73 rfl hl (by decide) rfl (fun ls hl => ?_)
            refine lv_iinc (lv' := [(3, .int (nI (k + 1))), (1, .int (nI 1)), (4, .int (nI (nr q k))), (2, .int (nI q)), (0, .ref h0)]) C.1 C.2.1 dX2_spreadRoots_74 hl (k := 2) rfl (nI_add _ _) (by decide) rfl (fun ls hl => ?_)
            refine lv_goto (tgt := 13) C.1 C.2.1 dX2_spreadRoots_77 (by decide) ?_
            have e1 : srS q k (σ, ch) = (up σ 3 q (σ 3 (nr q k)), 1) := if_pos ⟨hn, z_ifP c_40, c_56⟩
            rw [show fwd (srS q) (n + 1) k (σ, ch) = fwd (srS q) n (k + 1) (srS q k (σ, ch)) from rfl, e1] at K
            exact ih (k + 1) (up σ 3 q (σ 3 (nr q k))) 1 H locs w (by decide) (by omega) ls (lv_sub hl [0, 3, 1, 4] rfl) K
      · rw [if_neg hn]
        refine lv_istore (lv' := [(4, .int (-1)), (3, .int (nI k)), (2, .int (nI q)), (1, .int (nI ch)), (0, .ref h0)]) C.1 C.2.1 dX2_spreadRoots_25 hl (by decide) rfl (fun ls hl => ?_)
        refine lv_iload C.1 C.2.1 dX2_spreadRoots_27 (lv_at hl 0 rfl) ?_
        refine lv_if_lt (tgt := 74) C.1 C.2.1 dX2_spreadRoots_29 (by decide) (fun c_29 => ?_) (fun c_29 => ?_)
        · refine lv_iinc (lv' := [(3, .int (nI (k + 1))), (4, .int (-1)), (2, .int (nI q)), (1, .int (nI ch)), (0, .ref h0)]) C.1 C.2.1 dX2_spreadRoots_74 hl (k := 1) rfl (nI_add _ _) (by decide) rfl (fun ls hl => ?_)
          refine lv_goto (tgt := 13) C.1 C.2.1 dX2_spreadRoots_77 (by decide) ?_
          have e1 : srS q k (σ, ch) = (σ, ch) := if_neg (fun z => hn z.1)
          rw [show fwd (srS q) (n + 1) k (σ, ch) = fwd (srS q) n (k + 1) (srS q k (σ, ch)) from rfl, e1] at K
          exact ih (k + 1) σ ch H locs w hch (by omega) ls (lv_sub hl [0, 2, 3, 4] rfl) K
        · exact absurd (by decide) c_29
theorem sr_out (C : zC p m c cX2_spreadRoots 5 s args RX2) : ∀ n q σ ch H locs, mlW G h0 r d A s H0 H locs σ → ch < 2 → q + n = 196 → ∀ ls, lv_has ls 5 [(2, .int (nI q)), (1, .int (nI ch)), (0, .ref h0)] → (∀ H locs ls, mlW G h0 r d A s H0 H locs (fwd (fun p t => fwd (srS p) 9 0 t) n q (σ, ch)).1 → lv_has ls 5 [(1, .int (nI ((fwd (fun p t => fwd (srS p) 9 0 t) n q (σ, ch)).2))), (0, .ref h0)] → W p l e (rmF 2 46) s m args below meth c H locs 0 0 Q (F0 m 86 ls [])) → W p l e (rmF 2 46) s m args below meth c H locs 0 0 Q (F0 m 4 ls []) := by
  intro n
  induction n with
  | zero =>
    intro q σ ch H locs w hch hn ls hl K
    refine lv_iload_n C.1 C.2.1 dX2_spreadRoots_4 rfl (lv_at hl 0 rfl) ?_
    refine lv_sipush (v := nI 196) C.1 C.2.1 dX2_spreadRoots_5 (by decide) ?_
    refine z_cmp_ge (tgt := 86) C dX2_spreadRoots_8 (by decide) (by omega) (by omega) (fun c_8 => ?_) (fun c_8 => ?_)
    · exact K H locs ls w (lv_sub hl [1, 2] rfl)
    · exact absurd c_8 (by omega)
  | succ n ih =>
    intro q σ ch H locs w hch hn ls hl K
    refine lv_iload_n C.1 C.2.1 dX2_spreadRoots_4 rfl (lv_at hl 0 rfl) ?_
    refine lv_sipush (v := nI 196) C.1 C.2.1 dX2_spreadRoots_5 (by decide) ?_
    refine z_cmp_ge (tgt := 86) C dX2_spreadRoots_8 (by decide) (by omega) (by omega) (fun c_8 => ?_) (fun c_8 => ?_)
    · exact absurd c_8 (by omega)
    · refine lv_iconst (v := nI 0) C.1 C.2.1 dX2_spreadRoots_11 (by decide) ?_
      refine lv_istore_n (lv' := [(3, .int (nI 0)), (2, .int (nI q)), (1, .int (nI ch)), (0, .ref h0)]) C.1 C.2.1 dX2_spreadRoots_12 rfl hl (by decide) rfl (fun ls hl => ?_)
      refine sr_in C (by omega) 9 0 σ ch _ _ w hch (by omega) ls (lv_sub hl [0, 1, 2, 3] rfl) (fun H locs ls w hch hl => ?_)
      rw [show fwd (fun p t => fwd (srS p) 9 0 t) (n + 1) q (σ, ch) = fwd (fun p t => fwd (srS p) 9 0 t) n (q + 1) (fwd (srS q) 9 0 (σ, ch)) from rfl] at K
      generalize fwd (srS q) 9 0 (σ, ch) = t at w hch hl K
      obtain ⟨τ, ch2⟩ := t
      have hl : lv_has ls 5 [(2, .int (nI q)), (1, .int (nI ch2)), (0, .ref h0)] := hl
      have w : mlW G h0 r d A s H0 H locs τ := w
      refine lv_iinc (lv' := [(2, .int (nI (q + 1))), (1, .int (nI ch2)), (0, .ref h0)]) C.1 C.2.1 dX2_spreadRoots_80 hl (k := 0) rfl (nI_add _ _) (by decide) rfl (fun ls hl => ?_)
      refine lv_goto (tgt := 4) C.1 C.2.1 dX2_spreadRoots_83 (by decide) ?_
      exact ih (q + 1) τ ch2 H locs w hch (by omega) ls (lv_sub hl [0, 1, 2] rfl) K
end
theorem m_spreadRoots (l : Launch) (G : va_G) (h0 : Nat) (r : Nat → Nat) (d : Nat → ClassId) (σ : Nat → Nat → Nat)   : zMi l yX2_spreadRoots cX2_spreadRoots 5 (some .boolean) (rmF 2 46) G (mlT d) (mlC h0 r d) [.ref h0] σ (fun v σ' => v = nI (srC σ) ∧ σ' = srR σ) := by
  refine zMi_of (own := RX2) (by decide) rfl (Nat.le_of_ble_eq_true rfl) ?_
  intro p e s m args below meth c A ls C hr hlk w hl
  have hl : lv_has ls 5 [(0, .ref h0)] := hl
  have hbd := w.2.2.2.2.2
  refine lv_iconst (v := nI 0) C.1 C.2.1 dX2_spreadRoots_0 (by decide) ?_
  refine lv_istore_n (lv' := [(1, .int (nI 0)), (0, .ref h0)]) C.1 C.2.1 dX2_spreadRoots_1 rfl hl (by decide) rfl (fun ls hl => ?_)
  refine lv_iconst (v := nI 0) C.1 C.2.1 dX2_spreadRoots_2 (by decide) ?_
  refine lv_istore_n (lv' := [(2, .int (nI 0)), (1, .int (nI 0)), (0, .ref h0)]) C.1 C.2.1 dX2_spreadRoots_3 rfl hl (by decide) rfl (fun ls hl => ?_)
  refine sr_out C 196 0 σ 0 _ _ w (by decide) (by omega) ls (lv_sub hl [0, 1, 2] rfl) (fun H locs ls w hl => ?_)
  have w : mlW G h0 r d A s s.heap H locs (srR σ) := w
  have hl : lv_has ls 5 [(1, .int (nI (srC σ))), (0, .ref h0)] := hl
  refine lv_iload_n C.1 C.2.1 dX2_spreadRoots_86 rfl (lv_at hl 0 rfl) ?_
  exact z_zret C hr hlk w (srC_lt σ) ⟨rfl, rfl⟩ dX2_spreadRoots_87
section
variable {p : Program} {l : Launch} {e : Env} {R : Room} {s : State} {m : MethodId} {args : Array Value} {below : List Frame} {meth : Method} {c : Code} {H : Heap} {locs : List Loc} {Q : State → Prop}
variable {G : va_G} {A : Nat → Prop} {H0 : Heap} {σ : Nat → Nat → Nat} {h0 : Nat} {r : Nat → Nat} {d : Nat → ClassId}
theorem fr_i (C : zC p m c cX2_findRoots 3 s args RX2) : ∀ n q σ H locs, mlW G h0 r d A s H0 H locs σ → q + n = 196 → ∀ ls, lv_has ls 3 [(1, .int (nI q)), (0, .ref h0)] → (∀ H locs ls, mlW G h0 r d A s H0 H locs (fwd (fun p s => up s 3 p p) n q σ) → lv_has ls 3 [(0, .ref h0)] → W p l e (rmF 3 71) s m args below meth c H locs 0 0 Q (F0 m 22 ls [])) → W p l e (rmF 3 71) s m args below meth c H locs 0 0 Q (F0 m 2 ls []) := by
  intro n
  induction n with
  | zero =>
    intro q σ H locs w hn ls hl K
    refine lv_iload_n C.1 C.2.1 dX2_findRoots_2 rfl (lv_at hl 0 rfl) ?_
    refine lv_sipush (v := nI 196) C.1 C.2.1 dX2_findRoots_3 (by decide) ?_
    refine z_cmp_ge (tgt := 22) C dX2_findRoots_6 (by decide) (by omega) (by omega) (fun c_6 => ?_) (fun c_6 => ?_)
    · exact K H locs ls w (lv_sub hl [1] rfl)
    · exact absurd c_6 (by omega)
  | succ n ih =>
    intro q σ H locs w hn ls hl K
    refine lv_iload_n C.1 C.2.1 dX2_findRoots_2 rfl (lv_at hl 0 rfl) ?_
    refine lv_sipush (v := nI 196) C.1 C.2.1 dX2_findRoots_3 (by decide) ?_
    refine z_cmp_ge (tgt := 22) C dX2_findRoots_6 (by decide) (by omega) (by omega) (fun c_6 => ?_) (fun c_6 => ?_)
    · exact absurd c_6 (by omega)
    · refine lv_aload_n C.1 C.2.1 dX2_findRoots_9 rfl (lv_at hl 1 rfl) ?_
      refine ml_g3 C w dX2_findRoots_10 ?_
      refine lv_iload_n C.1 C.2.1 dX2_findRoots_13 rfl (lv_at hl 0 rfl) ?_
      refine lv_iload_n C.1 C.2.1 dX2_findRoots_14 rfl (lv_at hl 0 rfl) ?_
      refine ml_s3 C w (by omega) (by omega) dX2_findRoots_15 (fun H locs w => ?_)
      refine lv_iinc (lv' := [(1, .int (nI (q + 1))), (0, .ref h0)]) C.1 C.2.1 dX2_findRoots_16 hl (k := 0) rfl (nI_add _ _) (by decide) rfl (fun ls hl => ?_)
      refine lv_goto (tgt := 2) C.1 C.2.1 dX2_findRoots_19 (by decide) ?_
      exact ih (q + 1) _ H locs w (by omega) ls hl K
theorem fr_r (C : zC p m c cX2_findRoots 3 s args RX2) : ∀ n rd σ ch H locs, mlW G h0 r d A s H0 H locs σ → ch < 2 → rd + n = 197 → ∀ ls, lv_has ls 3 [(2, .int (nI rd)), (1, .int (nI ch)), (0, .ref h0)] → (∀ H locs ls, mlW G h0 r d A s H0 H locs (rounds (sweep srS 9) n (σ, ch)).1 → W p l e (rmF 3 71) s m args below meth c H locs 0 0 Q (F0 m 48 ls [])) → W p l e (rmF 3 71) s m args below meth c H locs 0 0 Q (F0 m 26 ls []) := by
  intro n
  induction n with
  | zero =>
    intro rd σ ch H locs w hch hn ls hl K
    refine lv_iload_n C.1 C.2.1 dX2_findRoots_26 rfl (lv_at hl 0 rfl) ?_
    refine lv_sipush (v := nI 197) C.1 C.2.1 dX2_findRoots_27 (by decide) ?_
    refine z_cmp_ge (tgt := 48) C dX2_findRoots_30 (by decide) (by omega) (by omega) (fun c_30 => ?_) (fun c_30 => ?_)
    · exact K H locs ls w
    · exact absurd c_30 (by omega)
  | succ n ih =>
    intro rd σ ch H locs w hch hn ls hl K
    refine lv_iload_n C.1 C.2.1 dX2_findRoots_26 rfl (lv_at hl 0 rfl) ?_
    refine lv_sipush (v := nI 197) C.1 C.2.1 dX2_findRoots_27 (by decide) ?_
    refine z_cmp_ge (tgt := 48) C dX2_findRoots_30 (by decide) (by omega) (by omega) (fun c_30 => ?_) (fun c_30 => ?_)
    · exact absurd c_30 (by omega)
    · refine lv_iload_n C.1 C.2.1 dX2_findRoots_33 rfl (lv_at hl 1 rfl) ?_
      refine z_if_eq (tgt := 48) C dX2_findRoots_34 (by decide) (by omega) (fun c_34 => ?_) (fun c_34 => ?_)
      · have e1 : rounds (sweep srS 9) (n + 1) (σ, ch) = (σ, ch) := if_pos c_34
        rw [e1] at K
        exact K H locs ls w
      · refine lv_aload_n C.1 C.2.1 dX2_findRoots_37 rfl (lv_at hl 2 rfl) ?_
        refine z_calli (As := []) C (m_spreadRoots l G h0 r d σ) (cwV 0 C.2.2.2.2 (lw_V q243 q245 qs14 q28 q246) rfl rfl rfl (by decide +kernel) ⟨Nat.le_of_ble_eq_true rfl, Nat.le_of_ble_eq_true rfl⟩) w (ml_rc w) rfl hl.1 rfl (Nat.le_of_ble_eq_true rfl) dX2_findRoots_38 ⟨Nat.le_refl _, Nat.le_refl _⟩ (fun v1 s1 H locs hp w => ?_)
        obtain ⟨hv, hσ⟩ := hp
        subst hv
        rw [hσ] at w
        refine lv_istore_n (lv' := [(1, .int (nI (srC σ))), (2, .int (nI rd)), (0, .ref h0)]) C.1 C.2.1 dX2_findRoots_41 rfl hl (by decide) rfl (fun ls hl => ?_)
        refine lv_iinc (lv' := [(2, .int (nI (rd + 1))), (1, .int (nI (srC σ))), (0, .ref h0)]) C.1 C.2.1 dX2_findRoots_42 hl (k := 1) rfl (nI_add _ _) (by decide) rfl (fun ls hl => ?_)
        refine lv_goto (tgt := 26) C.1 C.2.1 dX2_findRoots_45 (by decide) ?_
        have e1 : rounds (sweep srS 9) (n + 1) (σ, ch) = rounds (sweep srS 9) n (sweep srS 9 σ) := if_neg c_34
        rw [e1, srE] at K
        exact ih (rd + 1) (srR σ) (srC σ) H locs w (srC_lt σ) (by omega) ls (lv_sub hl [0, 1, 2] rfl) K
end
theorem m_findRoots (l : Launch) (G : va_G) (h0 : Nat) (r : Nat → Nat) (d : Nat → ClassId) (σ : Nat → Nat → Nat)   : zMv l yX2_findRoots cX2_findRoots 3 none (rmF 3 71) G (mlT d) (mlC h0 r d) [.ref h0] σ (fun σ' => σ' = frF σ) := by
  refine zMv_of (own := RX2) (by decide) rfl (Nat.le_of_ble_eq_true rfl) ?_
  intro p e s m args below meth c A ls C hr hlk w hl
  have hl : lv_has ls 3 [(0, .ref h0)] := hl
  have hbd := w.2.2.2.2.2
  refine lv_iconst (v := nI 0) C.1 C.2.1 dX2_findRoots_0 (by decide) ?_
  refine lv_istore_n (lv' := [(1, .int (nI 0)), (0, .ref h0)]) C.1 C.2.1 dX2_findRoots_1 rfl hl (by decide) rfl (fun ls hl => ?_)
  refine fr_i C 196 0 σ _ _ w (by omega) ls (lv_sub hl [0, 1] rfl) (fun H locs ls w hl => ?_)
  have w : mlW G h0 r d A s s.heap H locs (frI σ) := w
  refine lv_iconst (v := nI 1) C.1 C.2.1 dX2_findRoots_22 (by decide) ?_
  refine lv_istore_n (lv' := [(1, .int (nI 1)), (0, .ref h0)]) C.1 C.2.1 dX2_findRoots_23 rfl hl (by decide) rfl (fun ls hl => ?_)
  refine lv_iconst (v := nI 0) C.1 C.2.1 dX2_findRoots_24 (by decide) ?_
  refine lv_istore_n (lv' := [(2, .int (nI 0)), (1, .int (nI 1)), (0, .ref h0)]) C.1 C.2.1 dX2_findRoots_25 rfl hl (by decide) rfl (fun ls hl => ?_)
  refine fr_r C 197 0 (frI σ) 1 _ _ w (by decide) (by omega) ls (lv_sub hl [0, 1, 2] rfl) (fun H locs ls w => ?_)
  have w : mlW G h0 r d A s s.heap H locs (frN 197 (frI σ)) := w
  exact z_vret C hr hlk w rfl dX2_findRoots_48
section
variable {p : Program} {l : Launch} {e : Env} {R : Room} {s : State} {m : MethodId} {args : Array Value} {below : List Frame} {meth : Method} {c : Code} {H : Heap} {locs : List Loc} {Q : State → Prop}
variable {G : va_G} {A : Nat → Prop} {H0 : Heap} {σ : Nat → Nat → Nat} {h0 : Nat} {r : Nat → Nat} {d : Nat → ClassId}
theorem sc_in {q : Nat} (C : zC p m c cX2_spreadChanges 6 s args RX2) (hq : q < 196) : ∀ n k σ ch H locs, mlW G h0 r d A s H0 H locs σ → ch < 2 → k + n = 9 → ∀ ls, lv_has ls 6 [(3, .int (nI k)), (2, .int (nI q)), (1, .int (nI ch)), (0, .ref h0)] → (∀ H locs ls, mlW G h0 r d A s H0 H locs (fwd (scS q) n k (σ, ch)).1 → (fwd (scS q) n k (σ, ch)).2 < 2 → lv_has ls 6 [(2, .int (nI q)), (1, .int (nI ((fwd (scS q) n k (σ, ch)).2))), (0, .ref h0)] → W p l e (rmF 2 46) s m args below meth c H locs 0 0 Q (F0 m 134 ls [])) → W p l e (rmF 2 46) s m args below meth c H locs 0 0 Q (F0 m 13 ls []) := by
  intro n
  induction n with
  | zero =>
    intro k σ ch H locs w hch hn ls hl K
    refine lv_iload_n C.1 C.2.1 dX2_spreadChanges_13 rfl (lv_at hl 0 rfl) ?_
    refine lv_bipush (v := nI 9) C.1 C.2.1 dX2_spreadChanges_14 (by decide) ?_
    refine z_cmp_ge (tgt := 134) C dX2_spreadChanges_16 (by decide) (by omega) (by omega) (fun c_16 => ?_) (fun c_16 => ?_)
    · exact K H locs ls w hch (lv_sub hl [1, 2, 3] rfl)
    · exact absurd c_16 (by omega)
  | succ n ih =>
    intro k σ ch H locs w hch hn ls hl K
    have r1 := w.2.2.2.2.2 4 q
    have r2 := w.2.2.2.2.2 4 (nr q k)
    have r3 := w.2.2.2.2.2 2 q
    have r4 := w.2.2.2.2.2 2 (nr q k)
    have K2 : ∀ cs H locs ls, mlW G h0 r d A s H0 H locs σ → nr q k < 196 → cs = cst (σ 2) q (nr q k) k → lv_has ls 6 [(5, .int (nI cs)), (4, .int (nI (nr q k))), (3, .int (nI k)), (2, .int (nI q)), (1, .int (nI ch)), (0, .ref h0)] → W p l e (rmF 2 46) s m args below meth c H locs 0 0 Q (F0 m 86 ls []) := by
      intro cs H locs ls w hn hcs hl
      have hc2 : cs ≤ 1000 := by rw [hcs]; unfold cst; split <;> (try split) <;> decide
      refine lv_iload C.1 C.2.1 dX2_spreadChanges_86 (lv_at hl 1 rfl) ?_
      refine z_if_lt (tgt := 128) C dX2_spreadChanges_88 (by decide) (by omega) ?_
      refine lv_aload_n C.1 C.2.1 dX2_spreadChanges_91 rfl (lv_at hl 5 rfl) ?_
      refine ml_g4 C w dX2_spreadChanges_92 ?_
      refine lv_iload C.1 C.2.1 dX2_spreadChanges_95 (lv_at hl 1 rfl) ?_
      refine ml_l4 C w (by omega) dX2_spreadChanges_97 ?_
      refine lv_iload C.1 C.2.1 dX2_spreadChanges_98 (lv_at hl 0 rfl) ?_
      refine z_iadd C dX2_spreadChanges_100 ?_
      refine lv_aload_n C.1 C.2.1 dX2_spreadChanges_101 rfl (lv_at hl 5 rfl) ?_
      refine ml_g4 C w dX2_spreadChanges_102 ?_
      refine lv_iload_n C.1 C.2.1 dX2_spreadChanges_105 rfl (lv_at hl 3 rfl) ?_
      refine ml_l4 C w (by omega) dX2_spreadChanges_106 ?_
      refine z_cmp_ge (tgt := 128) C dX2_spreadChanges_107 (by decide) (by omega) (by omega) (fun c_107 => ?_) (fun c_107 => ?_)
      · refine lv_iinc (lv' := [(3, .int (nI (k + 1))), (5, .int (nI cs)), (4, .int (nI (nr q k))), (2, .int (nI q)), (1, .int (nI ch)), (0, .ref h0)]) C.1 C.2.1 dX2_spreadChanges_128 hl (k := 2) rfl (nI_add _ _) (by decide) rfl (fun ls hl => ?_)
        refine lv_goto (tgt := 13) C.1 C.2.1 dX2_spreadChanges_131 (by decide) ?_
        have e1 : scS q k (σ, ch) = (σ, ch) := by subst hcs; exact if_neg (fun z => absurd (show σ 4 (nr q k) + cst (σ 2) q (nr q k) k < σ 4 q from z.2) (by omega))
        rw [show fwd (scS q) (n + 1) k (σ, ch) = fwd (scS q) n (k + 1) (scS q k (σ, ch)) from rfl, e1] at K
        exact ih (k + 1) σ ch H locs w hch (by omega) ls (lv_sub hl [0, 3, 4, 5] rfl) K
      · refine lv_aload_n C.1 C.2.1 dX2_spreadChanges_110 rfl (lv_at hl 5 rfl) ?_
        refine ml_g4 C w dX2_spreadChanges_111 ?_
        refine lv_iload_n C.1 C.2.1 dX2_spreadChanges_114 rfl (lv_at hl 3 rfl) ?_
        refine lv_aload_n C.1 C.2.1 dX2_spreadChanges_115 rfl (lv_at hl 5 rfl) ?_
        refine ml_g4 C w dX2_spreadChanges_116 ?_
        refine lv_iload C.1 C.2.1 dX2_spreadChanges_119 (lv_at hl 1 rfl) ?_
        refine ml_l4 C w (by omega) dX2_spreadChanges_121 ?_
        refine lv_iload C.1 C.2.1 dX2_spreadChanges_122 (lv_at hl 0 rfl) ?_
        refine z_iadd C dX2_spreadChanges_124 ?_
        refine ml_s4 C w (by omega) (by omega) dX2_spreadChanges_125 (fun H locs w => ?_)
        refine lv_iconst (v := nI 1) C.1 C.2.1 dX2_spreadChanges_126 (by decide) ?_
        refine lv_istore_n (lv' := [(1, .int (nI 1)), (5, .int (nI cs)), (4, .int (nI (nr q k))), (3, .int (nI k)), (2, .int (nI q)), (0, .ref h0)]) C.1 C.2.1 dX2_spreadChanges_127 rfl hl (by decide) rfl (fun ls hl => ?_)
        refine lv_iinc (lv' := [(3, .int (nI (k + 1))), (1, .int (nI 1)), (5, .int (nI cs)), (4, .int (nI (nr q k))), (2, .int (nI q)), (0, .ref h0)]) C.1 C.2.1 dX2_spreadChanges_128 hl (k := 3) rfl (nI_add _ _) (by decide) rfl (fun ls hl => ?_)
        refine lv_goto (tgt := 13) C.1 C.2.1 dX2_spreadChanges_131 (by decide) ?_
        have e1 : scS q k (σ, ch) = (up σ 4 q ((σ 4 (nr q k)) + cs), 1) := by subst hcs; exact if_pos ⟨hn, c_107⟩
        rw [show fwd (scS q) (n + 1) k (σ, ch) = fwd (scS q) n (k + 1) (scS q k (σ, ch)) from rfl, e1] at K
        exact ih (k + 1) (up σ 4 q ((σ 4 (nr q k)) + cs)) 1 H locs w (by decide) (by omega) ls (lv_sub hl [0, 4, 1, 5] rfl) K
    refine lv_iload_n C.1 C.2.1 dX2_spreadChanges_13 rfl (lv_at hl 0 rfl) ?_
    refine lv_bipush (v := nI 9) C.1 C.2.1 dX2_spreadChanges_14 (by decide) ?_
    refine z_cmp_ge (tgt := 134) C dX2_spreadChanges_16 (by decide) (by omega) (by omega) (fun c_16 => ?_) (fun c_16 => ?_)
    · exact absurd c_16 (by omega)
    · refine lv_aload_n C.1 C.2.1 dX2_spreadChanges_19 rfl (lv_at hl 3 rfl) ?_
      refine lv_iload_n C.1 C.2.1 dX2_spreadChanges_20 rfl (lv_at hl 1 rfl) ?_
      refine lv_iload_n C.1 C.2.1 dX2_spreadChanges_21 rfl (lv_at hl 0 rfl) ?_
      refine z_calli (As := [.int (nI q), .int (nI k)]) C (m_near l G h0 r d σ q k (by omega) (by omega)) (cwV 2 C.2.2.2.2 (lw_V q247 q249 qs15 q28 q250) rfl rfl rfl (by decide +kernel) ⟨Nat.le_of_ble_eq_true rfl, Nat.le_of_ble_eq_true rfl⟩) w (ml_rc w) rfl hl.1 rfl (Nat.le_of_ble_eq_true rfl) dX2_spreadChanges_22 ⟨Nat.le_refl _, Nat.le_refl _⟩ (fun v1 s1 H locs hp w => ?_)
      obtain ⟨hv, hσ⟩ := hp
      subst hv
      rw [hσ] at w
      by_cases hn : nr q k < 196
      · rw [if_pos hn]
        refine lv_istore (lv' := [(4, .int (nI (nr q k))), (3, .int (nI k)), (2, .int (nI q)), (1, .int (nI ch)), (0, .ref h0)]) C.1 C.2.1 dX2_spreadChanges_25 hl (by decide) rfl (fun ls hl => ?_)
        refine lv_iload C.1 C.2.1 dX2_spreadChanges_27 (lv_at hl 0 rfl) ?_
        refine z_if_ge (tgt := 38) C dX2_spreadChanges_29 (by decide) (by omega) ?_
        refine lv_aload_n C.1 C.2.1 dX2_spreadChanges_38 rfl (lv_at hl 4 rfl) ?_
        refine lv_iload_n C.1 C.2.1 dX2_spreadChanges_39 rfl (lv_at hl 2 rfl) ?_
        refine lv_iload C.1 C.2.1 dX2_spreadChanges_40 (lv_at hl 0 rfl) ?_
        refine lv_iload_n C.1 C.2.1 dX2_spreadChanges_42 rfl (lv_at hl 1 rfl) ?_
        refine z_calli (As := [.int (nI q), .int (nI (nr q k)), .int (nI k)]) C (m_step l G h0 r d σ q (nr q k) k (by omega) (by omega) (by omega)) (cwV 3 C.2.2.2.2 (lw_V q251 q253 qs16 q28 q254) rfl rfl rfl (by decide +kernel) ⟨Nat.le_of_ble_eq_true rfl, Nat.le_of_ble_eq_true rfl⟩) w (ml_rc w) rfl hl.1 rfl (Nat.le_of_ble_eq_true rfl) dX2_spreadChanges_43 ⟨Nat.le_refl _, Nat.le_refl _⟩ (fun v2 s2 H locs hp w => ?_)
        obtain ⟨hv, hσ⟩ := hp
        subst hv
        rw [hσ] at w
        refine z_if_eq (tgt := 53) C dX2_spreadChanges_46 (by decide) z_ifB (fun c_46 => ?_) (fun c_46 => ?_)
        · refine lv_aload_n C.1 C.2.1 dX2_spreadChanges_53 rfl (lv_at hl 4 rfl) ?_
          refine ml_g2 C w dX2_spreadChanges_54 ?_
          refine lv_iload_n C.1 C.2.1 dX2_spreadChanges_57 rfl (lv_at hl 2 rfl) ?_
          refine ml_l2 C w (by omega) dX2_spreadChanges_58 ?_
          refine lv_aload_n C.1 C.2.1 dX2_spreadChanges_59 rfl (lv_at hl 4 rfl) ?_
          refine ml_g2 C w dX2_spreadChanges_60 ?_
          refine lv_iload C.1 C.2.1 dX2_spreadChanges_63 (lv_at hl 0 rfl) ?_
          refine ml_l2 C w (by omega) dX2_spreadChanges_65 ?_
          refine z_cmp_eq (tgt := 81) C dX2_spreadChanges_66 (by decide) (by omega) (by omega) (fun c_66 => ?_) (fun c_66 => ?_)
          · refine lv_sipush (v := nI 1000) C.1 C.2.1 dX2_spreadChanges_81 (by decide) ?_
            refine lv_istore (lv' := [(5, .int (nI 1000)), (4, .int (nI (nr q k))), (3, .int (nI k)), (2, .int (nI q)), (1, .int (nI ch)), (0, .ref h0)]) C.1 C.2.1 dX2_spreadChanges_84 hl (by decide) rfl (fun ls hl => ?_)
            exact K2 1000 H locs ls w hn (by unfold cst; rw [if_neg (z_ifN c_46), if_neg (fun z => z.1 c_66)]) (lv_sub hl [0, 1, 2, 3, 4, 5] rfl)
          · refine lv_aload_n C.1 C.2.1 dX2_spreadChanges_69 rfl (lv_at hl 4 rfl) ?_
            refine lv_iload_n C.1 C.2.1 dX2_spreadChanges_70 rfl (lv_at hl 1 rfl) ?_
            refine z_calli (As := [.int (nI k)]) C (m_besideWay l G h0 r d σ k (by omega)) (cwV 1 C.2.2.2.2 (lw_V q255 q257 qs17 q28 q258) rfl rfl rfl (by decide +kernel) ⟨Nat.le_of_ble_eq_true rfl, Nat.le_of_ble_eq_true rfl⟩) w (ml_rc w) rfl hl.1 rfl (Nat.le_of_ble_eq_true rfl) dX2_spreadChanges_71 ⟨Nat.le_refl _, Nat.le_refl _⟩ (fun v3 s3 H locs hp w => ?_)
            obtain ⟨hv, hσ⟩ := hp
            subst hv
            rw [hσ] at w
            refine z_if_eq (tgt := 81) C dX2_spreadChanges_74 (by decide) z_ifB (fun c_74 => ?_) (fun c_74 => ?_)
            · refine lv_sipush (v := nI 1000) C.1 C.2.1 dX2_spreadChanges_81 (by decide) ?_
              refine lv_istore (lv' := [(5, .int (nI 1000)), (4, .int (nI (nr q k))), (3, .int (nI k)), (2, .int (nI q)), (1, .int (nI ch)), (0, .ref h0)]) C.1 C.2.1 dX2_spreadChanges_84 hl (by decide) rfl (fun ls hl => ?_)
              exact K2 1000 H locs ls w hn (by unfold cst; rw [if_neg (z_ifN c_46), if_neg (fun z => z_ifN c_74 z.2)]) (lv_sub hl [0, 1, 2, 3, 4, 5] rfl)
            · refine lv_iconst (v := nI 1) C.1 C.2.1 dX2_spreadChanges_77 (by decide) ?_
              refine lv_goto (tgt := 84) C.1 C.2.1 dX2_spreadChanges_78 (by decide) ?_
              refine lv_istore (lv' := [(5, .int (nI 1)), (4, .int (nI (nr q k))), (3, .int (nI k)), (2, .int (nI q)), (1, .int (nI ch)), (0, .ref h0)]) C.1 C.2.1 dX2_spreadChanges_84 hl (by decide) rfl (fun ls hl => ?_)
              exact K2 1 H locs ls w hn (by unfold cst; rw [if_neg (z_ifN c_46), if_pos ⟨c_66, z_ifP c_74⟩]) (lv_sub hl [0, 1, 2, 3, 4, 5] rfl)
        · refine lv_iconst (v := nI 0) C.1 C.2.1 dX2_spreadChanges_49 (by decide) ?_
          refine lv_goto (tgt := 84) C.1 C.2.1 dX2_spreadChanges_50 (by decide) ?_
          refine lv_istore (lv' := [(5, .int (nI 0)), (4, .int (nI (nr q k))), (3, .int (nI k)), (2, .int (nI q)), (1, .int (nI ch)), (0, .ref h0)]) C.1 C.2.1 dX2_spreadChanges_84 hl (by decide) rfl (fun ls hl => ?_)
          exact K2 0 H locs ls w hn (by unfold cst; rw [if_pos (z_ifP c_46)]) (lv_sub hl [0, 1, 2, 3, 4, 5] rfl)
      · rw [if_neg hn]
        refine lv_istore (lv' := [(4, .int (-1)), (3, .int (nI k)), (2, .int (nI q)), (1, .int (nI ch)), (0, .ref h0)]) C.1 C.2.1 dX2_spreadChanges_25 hl (by decide) rfl (fun ls hl => ?_)
        refine lv_iload C.1 C.2.1 dX2_spreadChanges_27 (lv_at hl 0 rfl) ?_
        refine lv_if_ge (tgt := 38) C.1 C.2.1 dX2_spreadChanges_29 (by decide) (fun c_29 => ?_) (fun c_29 => ?_)
        · exact absurd c_29 (by decide)
        · refine lv_sipush (v := nI 1000) C.1 C.2.1 dX2_spreadChanges_32 (by decide) ?_
          refine lv_goto (tgt := 84) C.1 C.2.1 dX2_spreadChanges_35 (by decide) ?_
          refine lv_istore (lv' := [(5, .int (nI 1000)), (4, .int (-1)), (3, .int (nI k)), (2, .int (nI q)), (1, .int (nI ch)), (0, .ref h0)]) C.1 C.2.1 dX2_spreadChanges_84 hl (by decide) rfl (fun ls hl => ?_)
          refine lv_iload C.1 C.2.1 dX2_spreadChanges_86 (lv_at hl 1 rfl) ?_
          refine lv_if_lt (tgt := 128) C.1 C.2.1 dX2_spreadChanges_88 (by decide) (fun c_88 => ?_) (fun c_88 => ?_)
          · refine lv_iinc (lv' := [(3, .int (nI (k + 1))), (5, .int (nI 1000)), (4, .int (-1)), (2, .int (nI q)), (1, .int (nI ch)), (0, .ref h0)]) C.1 C.2.1 dX2_spreadChanges_128 hl (k := 2) rfl (nI_add _ _) (by decide) rfl (fun ls hl => ?_)
            refine lv_goto (tgt := 13) C.1 C.2.1 dX2_spreadChanges_131 (by decide) ?_
            have e1 : scS q k (σ, ch) = (σ, ch) := if_neg (fun z => hn z.1)
            rw [show fwd (scS q) (n + 1) k (σ, ch) = fwd (scS q) n (k + 1) (scS q k (σ, ch)) from rfl, e1] at K
            exact ih (k + 1) σ ch H locs w hch (by omega) ls (lv_sub hl [0, 3, 4, 5] rfl) K
          · exact absurd (by decide) c_88
theorem sc_out (C : zC p m c cX2_spreadChanges 6 s args RX2) : ∀ n q σ ch H locs, mlW G h0 r d A s H0 H locs σ → ch < 2 → q + n = 196 → ∀ ls, lv_has ls 6 [(2, .int (nI q)), (1, .int (nI ch)), (0, .ref h0)] → (∀ H locs ls, mlW G h0 r d A s H0 H locs (fwd (fun p t => fwd (scS p) 9 0 t) n q (σ, ch)).1 → lv_has ls 6 [(1, .int (nI ((fwd (fun p t => fwd (scS p) 9 0 t) n q (σ, ch)).2))), (0, .ref h0)] → W p l e (rmF 2 46) s m args below meth c H locs 0 0 Q (F0 m 140 ls [])) → W p l e (rmF 2 46) s m args below meth c H locs 0 0 Q (F0 m 4 ls []) := by
  intro n
  induction n with
  | zero =>
    intro q σ ch H locs w hch hn ls hl K
    refine lv_iload_n C.1 C.2.1 dX2_spreadChanges_4 rfl (lv_at hl 0 rfl) ?_
    refine lv_sipush (v := nI 196) C.1 C.2.1 dX2_spreadChanges_5 (by decide) ?_
    refine z_cmp_ge (tgt := 140) C dX2_spreadChanges_8 (by decide) (by omega) (by omega) (fun c_8 => ?_) (fun c_8 => ?_)
    · exact K H locs ls w (lv_sub hl [1, 2] rfl)
    · exact absurd c_8 (by omega)
  | succ n ih =>
    intro q σ ch H locs w hch hn ls hl K
    refine lv_iload_n C.1 C.2.1 dX2_spreadChanges_4 rfl (lv_at hl 0 rfl) ?_
    refine lv_sipush (v := nI 196) C.1 C.2.1 dX2_spreadChanges_5 (by decide) ?_
    refine z_cmp_ge (tgt := 140) C dX2_spreadChanges_8 (by decide) (by omega) (by omega) (fun c_8 => ?_) (fun c_8 => ?_)
    · exact absurd c_8 (by omega)
    · refine lv_iconst (v := nI 0) C.1 C.2.1 dX2_spreadChanges_11 (by decide) ?_
      refine lv_istore_n (lv' := [(3, .int (nI 0)), (2, .int (nI q)), (1, .int (nI ch)), (0, .ref h0)]) C.1 C.2.1 dX2_spreadChanges_12 rfl hl (by decide) rfl (fun ls hl => ?_)
      refine sc_in C (by omega) 9 0 σ ch _ _ w hch (by omega) ls (lv_sub hl [0, 1, 2, 3] rfl) (fun H locs ls w hch hl => ?_)
      rw [show fwd (fun p t => fwd (scS p) 9 0 t) (n + 1) q (σ, ch) = fwd (fun p t => fwd (scS p) 9 0 t) n (q + 1) (fwd (scS q) 9 0 (σ, ch)) from rfl] at K
      generalize fwd (scS q) 9 0 (σ, ch) = t at w hch hl K
      obtain ⟨τ, ch2⟩ := t
      have hl : lv_has ls 6 [(2, .int (nI q)), (1, .int (nI ch2)), (0, .ref h0)] := hl
      have w : mlW G h0 r d A s H0 H locs τ := w
      refine lv_iinc (lv' := [(2, .int (nI (q + 1))), (1, .int (nI ch2)), (0, .ref h0)]) C.1 C.2.1 dX2_spreadChanges_134 hl (k := 0) rfl (nI_add _ _) (by decide) rfl (fun ls hl => ?_)
      refine lv_goto (tgt := 4) C.1 C.2.1 dX2_spreadChanges_137 (by decide) ?_
      exact ih (q + 1) τ ch2 H locs w hch (by omega) ls (lv_sub hl [0, 1, 2] rfl) K
end
theorem m_spreadChanges (l : Launch) (G : va_G) (h0 : Nat) (r : Nat → Nat) (d : Nat → ClassId) (σ : Nat → Nat → Nat)   : zMi l yX2_spreadChanges cX2_spreadChanges 6 (some .boolean) (rmF 2 46) G (mlT d) (mlC h0 r d) [.ref h0] σ (fun v σ' => v = nI (scC σ) ∧ σ' = scR σ) := by
  refine zMi_of (own := RX2) (by decide) rfl (Nat.le_of_ble_eq_true rfl) ?_
  intro p e s m args below meth c A ls C hr hlk w hl
  have hl : lv_has ls 6 [(0, .ref h0)] := hl
  have hbd := w.2.2.2.2.2
  refine lv_iconst (v := nI 0) C.1 C.2.1 dX2_spreadChanges_0 (by decide) ?_
  refine lv_istore_n (lv' := [(1, .int (nI 0)), (0, .ref h0)]) C.1 C.2.1 dX2_spreadChanges_1 rfl hl (by decide) rfl (fun ls hl => ?_)
  refine lv_iconst (v := nI 0) C.1 C.2.1 dX2_spreadChanges_2 (by decide) ?_
  refine lv_istore_n (lv' := [(2, .int (nI 0)), (1, .int (nI 0)), (0, .ref h0)]) C.1 C.2.1 dX2_spreadChanges_3 rfl hl (by decide) rfl (fun ls hl => ?_)
  refine sc_out C 196 0 σ 0 _ _ w (by decide) (by omega) ls (lv_sub hl [0, 1, 2] rfl) (fun H locs ls w hl => ?_)
  have w : mlW G h0 r d A s s.heap H locs (scR σ) := w
  have hl : lv_has ls 6 [(1, .int (nI (scC σ))), (0, .ref h0)] := hl
  refine lv_iload_n C.1 C.2.1 dX2_spreadChanges_140 rfl (lv_at hl 0 rfl) ?_
  exact z_zret C hr hlk w (scC_lt σ) ⟨rfl, rfl⟩ dX2_spreadChanges_141
section
variable {p : Program} {l : Launch} {e : Env} {R : Room} {s : State} {m : MethodId} {args : Array Value} {below : List Frame} {meth : Method} {c : Code} {H : Heap} {locs : List Loc} {Q : State → Prop}
variable {G : va_G} {A : Nat → Prop} {H0 : Heap} {σ : Nat → Nat → Nat} {h0 : Nat} {r : Nat → Nat} {d : Nat → ClassId}
theorem fc_i (C : zC p m c cX2_findChanges 3 s args RX2) : ∀ n q σ H locs, mlW G h0 r d A s H0 H locs σ → q + n = 196 → ∀ ls, lv_has ls 3 [(1, .int (nI q)), (0, .ref h0)] → (∀ H locs ls, mlW G h0 r d A s H0 H locs (fwd (fun p s => up s 4 p (if p = 0 then 0 else 500)) n q σ) → lv_has ls 3 [(0, .ref h0)] → W p l e (rmF 3 71) s m args below meth c H locs 0 0 Q (F0 m 32 ls [])) → W p l e (rmF 3 71) s m args below meth c H locs 0 0 Q (F0 m 2 ls []) := by
  intro n
  induction n with
  | zero =>
    intro q σ H locs w hn ls hl K
    refine lv_iload_n C.1 C.2.1 dX2_findChanges_2 rfl (lv_at hl 0 rfl) ?_
    refine lv_sipush (v := nI 196) C.1 C.2.1 dX2_findChanges_3 (by decide) ?_
    refine z_cmp_ge (tgt := 32) C dX2_findChanges_6 (by decide) (by omega) (by omega) (fun c_6 => ?_) (fun c_6 => ?_)
    · exact K H locs ls w (lv_sub hl [1] rfl)
    · exact absurd c_6 (by omega)
  | succ n ih =>
    intro q σ H locs w hn ls hl K
    refine lv_iload_n C.1 C.2.1 dX2_findChanges_2 rfl (lv_at hl 0 rfl) ?_
    refine lv_sipush (v := nI 196) C.1 C.2.1 dX2_findChanges_3 (by decide) ?_
    refine z_cmp_ge (tgt := 32) C dX2_findChanges_6 (by decide) (by omega) (by omega) (fun c_6 => ?_) (fun c_6 => ?_)
    · exact absurd c_6 (by omega)
    · refine lv_aload_n C.1 C.2.1 dX2_findChanges_9 rfl (lv_at hl 1 rfl) ?_
      refine ml_g4 C w dX2_findChanges_10 ?_
      refine lv_iload_n C.1 C.2.1 dX2_findChanges_13 rfl (lv_at hl 0 rfl) ?_
      refine lv_iload_n C.1 C.2.1 dX2_findChanges_14 rfl (lv_at hl 0 rfl) ?_
      refine z_if_ne (tgt := 22) C dX2_findChanges_15 (by decide) (by omega) (fun c_15 => ?_) (fun c_15 => ?_)
      · refine lv_sipush (v := nI 500) C.1 C.2.1 dX2_findChanges_22 (by decide) ?_
        refine ml_s4 C w (by omega) (by omega) dX2_findChanges_25 (fun H locs w => ?_)
        refine lv_iinc (lv' := [(1, .int (nI (q + 1))), (0, .ref h0)]) C.1 C.2.1 dX2_findChanges_26 hl (k := 0) rfl (nI_add _ _) (by decide) rfl (fun ls hl => ?_)
        refine lv_goto (tgt := 2) C.1 C.2.1 dX2_findChanges_29 (by decide) ?_
        have e1 : up σ 4 q (if q = 0 then 0 else 500) = up σ 4 q 500 := by rw [if_neg c_15]
        exact ih (q + 1) (up σ 4 q (if q = 0 then 0 else 500)) H locs (by rw [e1]; exact w) (by omega) ls hl K
      · refine lv_iconst (v := nI 0) C.1 C.2.1 dX2_findChanges_18 (by decide) ?_
        refine lv_goto (tgt := 25) C.1 C.2.1 dX2_findChanges_19 (by decide) ?_
        refine ml_s4 C w (by omega) (by omega) dX2_findChanges_25 (fun H locs w => ?_)
        refine lv_iinc (lv' := [(1, .int (nI (q + 1))), (0, .ref h0)]) C.1 C.2.1 dX2_findChanges_26 hl (k := 0) rfl (nI_add _ _) (by decide) rfl (fun ls hl => ?_)
        refine lv_goto (tgt := 2) C.1 C.2.1 dX2_findChanges_29 (by decide) ?_
        have e1 : up σ 4 q (if q = 0 then 0 else 500) = up σ 4 q 0 := by rw [if_pos c_15]
        exact ih (q + 1) (up σ 4 q (if q = 0 then 0 else 500)) H locs (by rw [e1]; exact w) (by omega) ls hl K
theorem fc_r (C : zC p m c cX2_findChanges 3 s args RX2) : ∀ n rd σ ch H locs, mlW G h0 r d A s H0 H locs σ → ch < 2 → rd + n = 197 → ∀ ls, lv_has ls 3 [(2, .int (nI rd)), (1, .int (nI ch)), (0, .ref h0)] → (∀ H locs ls, mlW G h0 r d A s H0 H locs (rounds (sweep scS 9) n (σ, ch)).1 → W p l e (rmF 3 71) s m args below meth c H locs 0 0 Q (F0 m 58 ls [])) → W p l e (rmF 3 71) s m args below meth c H locs 0 0 Q (F0 m 36 ls []) := by
  intro n
  induction n with
  | zero =>
    intro rd σ ch H locs w hch hn ls hl K
    refine lv_iload_n C.1 C.2.1 dX2_findChanges_36 rfl (lv_at hl 0 rfl) ?_
    refine lv_sipush (v := nI 197) C.1 C.2.1 dX2_findChanges_37 (by decide) ?_
    refine z_cmp_ge (tgt := 58) C dX2_findChanges_40 (by decide) (by omega) (by omega) (fun c_40 => ?_) (fun c_40 => ?_)
    · exact K H locs ls w
    · exact absurd c_40 (by omega)
  | succ n ih =>
    intro rd σ ch H locs w hch hn ls hl K
    refine lv_iload_n C.1 C.2.1 dX2_findChanges_36 rfl (lv_at hl 0 rfl) ?_
    refine lv_sipush (v := nI 197) C.1 C.2.1 dX2_findChanges_37 (by decide) ?_
    refine z_cmp_ge (tgt := 58) C dX2_findChanges_40 (by decide) (by omega) (by omega) (fun c_40 => ?_) (fun c_40 => ?_)
    · exact absurd c_40 (by omega)
    · refine lv_iload_n C.1 C.2.1 dX2_findChanges_43 rfl (lv_at hl 1 rfl) ?_
      refine z_if_eq (tgt := 58) C dX2_findChanges_44 (by decide) (by omega) (fun c_44 => ?_) (fun c_44 => ?_)
      · have e1 : rounds (sweep scS 9) (n + 1) (σ, ch) = (σ, ch) := if_pos c_44
        rw [e1] at K
        exact K H locs ls w
      · refine lv_aload_n C.1 C.2.1 dX2_findChanges_47 rfl (lv_at hl 2 rfl) ?_
        refine z_calli (As := []) C (m_spreadChanges l G h0 r d σ) (cwV 0 C.2.2.2.2 (lw_V q291 q293 qs22 q28 q294) rfl rfl rfl (by decide +kernel) ⟨Nat.le_of_ble_eq_true rfl, Nat.le_of_ble_eq_true rfl⟩) w (ml_rc w) rfl hl.1 rfl (Nat.le_of_ble_eq_true rfl) dX2_findChanges_48 ⟨Nat.le_refl _, Nat.le_refl _⟩ (fun v1 s1 H locs hp w => ?_)
        obtain ⟨hv, hσ⟩ := hp
        subst hv
        rw [hσ] at w
        refine lv_istore_n (lv' := [(1, .int (nI (scC σ))), (2, .int (nI rd)), (0, .ref h0)]) C.1 C.2.1 dX2_findChanges_51 rfl hl (by decide) rfl (fun ls hl => ?_)
        refine lv_iinc (lv' := [(2, .int (nI (rd + 1))), (1, .int (nI (scC σ))), (0, .ref h0)]) C.1 C.2.1 dX2_findChanges_52 hl (k := 1) rfl (nI_add _ _) (by decide) rfl (fun ls hl => ?_)
        refine lv_goto (tgt := 36) C.1 C.2.1 dX2_findChanges_55 (by decide) ?_
        have e1 : rounds (sweep scS 9) (n + 1) (σ, ch) = rounds (sweep scS 9) n (sweep scS 9 σ) := if_neg c_44
        rw [e1, scE] at K
        exact ih (rd + 1) (scR σ) (scC σ) H locs w (scC_lt σ) (by omega) ls (lv_sub hl [0, 1, 2] rfl) K
end
theorem m_findChanges (l : Launch) (G : va_G) (h0 : Nat) (r : Nat → Nat) (d : Nat → ClassId) (σ : Nat → Nat → Nat)   : zMv l yX2_findChanges cX2_findChanges 3 none (rmF 3 71) G (mlT d) (mlC h0 r d) [.ref h0] σ (fun σ' => σ' = fcF σ) := by
  refine zMv_of (own := RX2) (by decide) rfl (Nat.le_of_ble_eq_true rfl) ?_
  intro p e s m args below meth c A ls C hr hlk w hl
  have hl : lv_has ls 3 [(0, .ref h0)] := hl
  have hbd := w.2.2.2.2.2
  refine lv_iconst (v := nI 0) C.1 C.2.1 dX2_findChanges_0 (by decide) ?_
  refine lv_istore_n (lv' := [(1, .int (nI 0)), (0, .ref h0)]) C.1 C.2.1 dX2_findChanges_1 rfl hl (by decide) rfl (fun ls hl => ?_)
  refine fc_i C 196 0 σ _ _ w (by omega) ls (lv_sub hl [0, 1] rfl) (fun H locs ls w hl => ?_)
  have w : mlW G h0 r d A s s.heap H locs (fcI σ) := w
  refine lv_iconst (v := nI 1) C.1 C.2.1 dX2_findChanges_32 (by decide) ?_
  refine lv_istore_n (lv' := [(1, .int (nI 1)), (0, .ref h0)]) C.1 C.2.1 dX2_findChanges_33 rfl hl (by decide) rfl (fun ls hl => ?_)
  refine lv_iconst (v := nI 0) C.1 C.2.1 dX2_findChanges_34 (by decide) ?_
  refine lv_istore_n (lv' := [(2, .int (nI 0)), (1, .int (nI 1)), (0, .ref h0)]) C.1 C.2.1 dX2_findChanges_35 rfl hl (by decide) rfl (fun ls hl => ?_)
  refine fc_r C 197 0 (fcI σ) 1 _ _ w (by decide) (by omega) ls (lv_sub hl [0, 1, 2] rfl) (fun H locs ls w => ?_)
  have w : mlW G h0 r d A s s.heap H locs (fcN 197 (fcI σ)) := w
  exact z_vret C hr hlk w rfl dX2_findChanges_58
end
section
set_option maxRecDepth 100000
/-! ===== CompLabelModel: reached, counts, answers ===== -/
section
variable {p : Program} {l : Launch} {e : Env} {R : Room} {s : State} {m : MethodId} {args : Array Value} {below : List Frame} {meth : Method} {c : Code} {H : Heap} {locs : List Loc} {Q : State → Prop}
variable {G : va_G} {A : Nat → Prop} {H0 : Heap} {σ : Nat → Nat → Nat} {h0 : Nat} {r : Nat → Nat} {d : Nat → ClassId}
theorem sa_in {av q : Nat} (C : zC p m c cX2_spreadReached 6 s args RX2) (hq : q < 196) (hav : av < 196) : ∀ n k σ ch H locs, mlW G h0 r d A s H0 H locs σ → ch < 2 → k + n = 4 → ∀ ls, lv_has ls 6 [(4, .int (nI (2 * k + 1))), (3, .int (nI q)), (2, .int (nI ch)), (0, .ref h0), (1, .int (nI av))] → (∀ H locs ls, mlW G h0 r d A s H0 H locs (fwd (saS av q) n k (σ, ch)).1 → (fwd (saS av q) n k (σ, ch)).2 < 2 → lv_has ls 6 [(3, .int (nI q)), (2, .int (nI ((fwd (saS av q) n k (σ, ch)).2))), (0, .ref h0), (1, .int (nI av))] → W p l e (rmF 1 24) s m args below meth c H locs 0 0 Q (F0 m 81 ls [])) → W p l e (rmF 1 24) s m args below meth c H locs 0 0 Q (F0 m 14 ls []) := by
  intro n
  induction n with
  | zero =>
    intro k σ ch H locs w hch hn ls hl K
    refine lv_iload C.1 C.2.1 dX2_spreadReached_14 (lv_at hl 0 rfl) ?_
    refine lv_bipush (v := nI 9) C.1 C.2.1 dX2_spreadReached_16 (by decide) ?_
    refine z_cmp_ge (tgt := 81) C dX2_spreadReached_18 (by decide) (by omega) (by omega) (fun c_18 => ?_) (fun c_18 => ?_)
    · exact K H locs ls w hch (lv_sub hl [1, 2, 3, 4] rfl)
    · exact absurd c_18 (by omega)
  | succ n ih =>
    intro k σ ch H locs w hch hn ls hl K
    have r1 := w.2.2.2.2.2 5 q
    have r2 := w.2.2.2.2.2 5 (nr q (2 * k + 1))
    have r3 := w.2.2.2.2.2 3 (nr q (2 * k + 1))
    refine lv_iload C.1 C.2.1 dX2_spreadReached_14 (lv_at hl 0 rfl) ?_
    refine lv_bipush (v := nI 9) C.1 C.2.1 dX2_spreadReached_16 (by decide) ?_
    refine z_cmp_ge (tgt := 81) C dX2_spreadReached_18 (by decide) (by omega) (by omega) (fun c_18 => ?_) (fun c_18 => ?_)
    · exact absurd c_18 (by omega)
    · refine lv_aload_n C.1 C.2.1 dX2_spreadReached_21 rfl (lv_at hl 3 rfl) ?_
      refine lv_iload_n C.1 C.2.1 dX2_spreadReached_22 rfl (lv_at hl 1 rfl) ?_
      refine lv_iload C.1 C.2.1 dX2_spreadReached_23 (lv_at hl 0 rfl) ?_
      refine z_calli (As := [.int (nI q), .int (nI (2 * k + 1))]) C (m_near l G h0 r d σ q (2 * k + 1) (by omega) (by omega)) (cwV 2 C.2.2.2.2 (lw_V q247 q249 qs15 q28 q250) rfl rfl rfl (by decide +kernel) ⟨Nat.le_of_ble_eq_true rfl, Nat.le_of_ble_eq_true rfl⟩) w (ml_rc w) rfl hl.1 rfl (Nat.le_of_ble_eq_true rfl) dX2_spreadReached_25 ⟨Nat.le_refl _, Nat.le_refl _⟩ (fun v1 s1 H locs hp w => ?_)
      obtain ⟨hv, hσ⟩ := hp
      subst hv
      rw [hσ] at w
      by_cases hn : nr q (2 * k + 1) < 196
      · rw [if_pos hn]
        refine lv_istore (lv' := [(5, .int (nI (nr q (2 * k + 1)))), (4, .int (nI (2 * k + 1))), (3, .int (nI q)), (2, .int (nI ch)), (0, .ref h0), (1, .int (nI av))]) C.1 C.2.1 dX2_spreadReached_28 hl (by decide) rfl (fun ls hl => ?_)
        refine lv_iload C.1 C.2.1 dX2_spreadReached_30 (lv_at hl 0 rfl) ?_
        refine z_if_lt (tgt := 75) C dX2_spreadReached_32 (by decide) (by omega) ?_
        refine lv_aload_n C.1 C.2.1 dX2_spreadReached_35 rfl (lv_at hl 4 rfl) ?_
        refine ml_g5 C w dX2_spreadReached_36 ?_
        refine lv_iload_n C.1 C.2.1 dX2_spreadReached_39 rfl (lv_at hl 2 rfl) ?_
        refine ml_l5 C w (by omega) dX2_spreadReached_40 ?_
        refine z_if_eq (tgt := 75) C dX2_spreadReached_41 (by decide) (by omega) (fun c_41 => ?_) (fun c_41 => ?_)
        · refine lv_iinc (lv' := [(4, .int (nI ((2 * k + 1) + 2))), (5, .int (nI (nr q (2 * k + 1)))), (3, .int (nI q)), (2, .int (nI ch)), (0, .ref h0), (1, .int (nI av))]) C.1 C.2.1 dX2_spreadReached_75 hl (k := 1) rfl (nI_add _ _) (by decide) rfl (fun ls hl => ?_)
          refine lv_goto (tgt := 14) C.1 C.2.1 dX2_spreadReached_78 (by decide) ?_
          have e1 : saS av q k (σ, ch) = (σ, ch) := if_neg (fun z => z.2.1 c_41)
          rw [show fwd (saS av q) (n + 1) k (σ, ch) = fwd (saS av q) n (k + 1) (saS av q k (σ, ch)) from rfl, e1] at K
          rw [show 2 * k + 1 + 2 = 2 * (k + 1) + 1 by omega] at hl
          exact ih (k + 1) σ ch H locs w hch (by omega) ls (lv_sub hl [0, 2, 3, 4, 5] rfl) K
        · refine lv_aload_n C.1 C.2.1 dX2_spreadReached_44 rfl (lv_at hl 4 rfl) ?_
          refine ml_g5 C w dX2_spreadReached_45 ?_
          refine lv_iload C.1 C.2.1 dX2_spreadReached_48 (lv_at hl 0 rfl) ?_
          refine ml_l5 C w (by omega) dX2_spreadReached_50 ?_
          refine z_if_ne (tgt := 75) C dX2_spreadReached_51 (by decide) (by omega) (fun c_51 => ?_) (fun c_51 => ?_)
          · refine lv_iinc (lv' := [(4, .int (nI ((2 * k + 1) + 2))), (5, .int (nI (nr q (2 * k + 1)))), (3, .int (nI q)), (2, .int (nI ch)), (0, .ref h0), (1, .int (nI av))]) C.1 C.2.1 dX2_spreadReached_75 hl (k := 1) rfl (nI_add _ _) (by decide) rfl (fun ls hl => ?_)
            refine lv_goto (tgt := 14) C.1 C.2.1 dX2_spreadReached_78 (by decide) ?_
            have e1 : saS av q k (σ, ch) = (σ, ch) := if_neg (fun z => c_51 z.2.2.1)
            rw [show fwd (saS av q) (n + 1) k (σ, ch) = fwd (saS av q) n (k + 1) (saS av q k (σ, ch)) from rfl, e1] at K
            rw [show 2 * k + 1 + 2 = 2 * (k + 1) + 1 by omega] at hl
            exact ih (k + 1) σ ch H locs w hch (by omega) ls (lv_sub hl [0, 2, 3, 4, 5] rfl) K
          · refine lv_aload_n C.1 C.2.1 dX2_spreadReached_54 rfl (lv_at hl 4 rfl) ?_
            refine ml_g3 C w dX2_spreadReached_55 ?_
            refine lv_iload C.1 C.2.1 dX2_spreadReached_58 (lv_at hl 0 rfl) ?_
            refine ml_l3 C w (by omega) dX2_spreadReached_60 ?_
            refine lv_iload_n C.1 C.2.1 dX2_spreadReached_61 rfl (lv_at hl 5 rfl) ?_
            refine z_cmp_eq (tgt := 75) C dX2_spreadReached_62 (by decide) (by omega) (by omega) (fun c_62 => ?_) (fun c_62 => ?_)
            · refine lv_iinc (lv' := [(4, .int (nI ((2 * k + 1) + 2))), (5, .int (nI (nr q (2 * k + 1)))), (3, .int (nI q)), (2, .int (nI ch)), (0, .ref h0), (1, .int (nI av))]) C.1 C.2.1 dX2_spreadReached_75 hl (k := 1) rfl (nI_add _ _) (by decide) rfl (fun ls hl => ?_)
              refine lv_goto (tgt := 14) C.1 C.2.1 dX2_spreadReached_78 (by decide) ?_
              have e1 : saS av q k (σ, ch) = (σ, ch) := if_neg (fun z => z.2.2.2 c_62)
              rw [show fwd (saS av q) (n + 1) k (σ, ch) = fwd (saS av q) n (k + 1) (saS av q k (σ, ch)) from rfl, e1] at K
              rw [show 2 * k + 1 + 2 = 2 * (k + 1) + 1 by omega] at hl
              exact ih (k + 1) σ ch H locs w hch (by omega) ls (lv_sub hl [0, 2, 3, 4, 5] rfl) K
            · refine lv_aload_n C.1 C.2.1 dX2_spreadReached_65 rfl (lv_at hl 4 rfl) ?_
              refine ml_g5 C w dX2_spreadReached_66 ?_
              refine lv_iload C.1 C.2.1 dX2_spreadReached_69 (lv_at hl 0 rfl) ?_
              refine lv_iconst (v := nI 1) C.1 C.2.1 dX2_spreadReached_71 (by decide) ?_
              refine ml_s5 C w (by omega) (by omega) dX2_spreadReached_72 (fun H locs w => ?_)
              refine lv_iconst (v := nI 1) C.1 C.2.1 dX2_spreadReached_73 (by decide) ?_
              refine lv_istore_n (lv' := [(2, .int (nI 1)), (5, .int (nI (nr q (2 * k + 1)))), (4, .int (nI (2 * k + 1))), (3, .int (nI q)), (0, .ref h0), (1, .int (nI av))]) C.1 C.2.1 dX2_spreadReached_74 rfl hl (by decide) rfl (fun ls hl => ?_)
              refine lv_iinc (lv' := [(4, .int (nI ((2 * k + 1) + 2))), (2, .int (nI 1)), (5, .int (nI (nr q (2 * k + 1)))), (3, .int (nI q)), (0, .ref h0), (1, .int (nI av))]) C.1 C.2.1 dX2_spreadReached_75 hl (k := 2) rfl (nI_add _ _) (by decide) rfl (fun ls hl => ?_)
              refine lv_goto (tgt := 14) C.1 C.2.1 dX2_spreadReached_78 (by decide) ?_
              have e1 : saS av q k (σ, ch) = (up σ 5 (nr q (2 * k + 1)) 1, 1) := if_pos ⟨hn, c_41, c_51, c_62⟩
              rw [show fwd (saS av q) (n + 1) k (σ, ch) = fwd (saS av q) n (k + 1) (saS av q k (σ, ch)) from rfl, e1] at K
              rw [show 2 * k + 1 + 2 = 2 * (k + 1) + 1 by omega] at hl
              exact ih (k + 1) (up σ 5 (nr q (2 * k + 1)) 1) 1 H locs w (by decide) (by omega) ls (lv_sub hl [0, 3, 1, 4, 5] rfl) K
      · rw [if_neg hn]
        refine lv_istore (lv' := [(5, .int (-1)), (4, .int (nI (2 * k + 1))), (3, .int (nI q)), (2, .int (nI ch)), (0, .ref h0), (1, .int (nI av))]) C.1 C.2.1 dX2_spreadReached_28 hl (by decide) rfl (fun ls hl => ?_)
        refine lv_iload C.1 C.2.1 dX2_spreadReached_30 (lv_at hl 0 rfl) ?_
        refine lv_if_lt (tgt := 75) C.1 C.2.1 dX2_spreadReached_32 (by decide) (fun c_32 => ?_) (fun c_32 => ?_)
        · refine lv_iinc (lv' := [(4, .int (nI ((2 * k + 1) + 2))), (5, .int (-1)), (3, .int (nI q)), (2, .int (nI ch)), (0, .ref h0), (1, .int (nI av))]) C.1 C.2.1 dX2_spreadReached_75 hl (k := 1) rfl (nI_add _ _) (by decide) rfl (fun ls hl => ?_)
          refine lv_goto (tgt := 14) C.1 C.2.1 dX2_spreadReached_78 (by decide) ?_
          have e1 : saS av q k (σ, ch) = (σ, ch) := if_neg (fun z => hn z.1)
          rw [show fwd (saS av q) (n + 1) k (σ, ch) = fwd (saS av q) n (k + 1) (saS av q k (σ, ch)) from rfl, e1] at K
          rw [show 2 * k + 1 + 2 = 2 * (k + 1) + 1 by omega] at hl
          exact ih (k + 1) σ ch H locs w hch (by omega) ls (lv_sub hl [0, 2, 3, 4, 5] rfl) K
        · exact absurd (by decide) c_32
theorem sa_out {av : Nat} (C : zC p m c cX2_spreadReached 6 s args RX2) (hav : av < 196) : ∀ n q σ ch H locs, mlW G h0 r d A s H0 H locs σ → ch < 2 → q + n = 196 → ∀ ls, lv_has ls 6 [(3, .int (nI q)), (2, .int (nI ch)), (0, .ref h0), (1, .int (nI av))] → (∀ H locs ls, mlW G h0 r d A s H0 H locs (fwd (fun p t => fwd (saS av p) 4 0 t) n q (σ, ch)).1 → lv_has ls 6 [(2, .int (nI ((fwd (fun p t => fwd (saS av p) 4 0 t) n q (σ, ch)).2))), (0, .ref h0)] → W p l e (rmF 1 24) s m args below meth c H locs 0 0 Q (F0 m 87 ls [])) → W p l e (rmF 1 24) s m args below meth c H locs 0 0 Q (F0 m 4 ls []) := by
  intro n
  induction n with
  | zero =>
    intro q σ ch H locs w hch hn ls hl K
    refine lv_iload_n C.1 C.2.1 dX2_spreadReached_4 rfl (lv_at hl 0 rfl) ?_
    refine lv_sipush (v := nI 196) C.1 C.2.1 dX2_spreadReached_5 (by decide) ?_
    refine z_cmp_ge (tgt := 87) C dX2_spreadReached_8 (by decide) (by omega) (by omega) (fun c_8 => ?_) (fun c_8 => ?_)
    · exact K H locs ls w (lv_sub hl [1, 2] rfl)
    · exact absurd c_8 (by omega)
  | succ n ih =>
    intro q σ ch H locs w hch hn ls hl K
    refine lv_iload_n C.1 C.2.1 dX2_spreadReached_4 rfl (lv_at hl 0 rfl) ?_
    refine lv_sipush (v := nI 196) C.1 C.2.1 dX2_spreadReached_5 (by decide) ?_
    refine z_cmp_ge (tgt := 87) C dX2_spreadReached_8 (by decide) (by omega) (by omega) (fun c_8 => ?_) (fun c_8 => ?_)
    · exact absurd c_8 (by omega)
    · refine lv_iconst (v := nI 1) C.1 C.2.1 dX2_spreadReached_11 (by decide) ?_
      refine lv_istore (lv' := [(4, .int (nI 1)), (3, .int (nI q)), (2, .int (nI ch)), (0, .ref h0), (1, .int (nI av))]) C.1 C.2.1 dX2_spreadReached_12 hl (by decide) rfl (fun ls hl => ?_)
      refine sa_in C (by omega) hav 4 0 σ ch _ _ w hch (by omega) ls (lv_sub hl [0, 1, 2, 3, 4] rfl) (fun H locs ls w hch hl => ?_)
      rw [show fwd (fun p t => fwd (saS av p) 4 0 t) (n + 1) q (σ, ch) = fwd (fun p t => fwd (saS av p) 4 0 t) n (q + 1) (fwd (saS av q) 4 0 (σ, ch)) from rfl] at K
      generalize fwd (saS av q) 4 0 (σ, ch) = t at w hch hl K
      obtain ⟨τ, ch2⟩ := t
      have hl : lv_has ls 6 [(3, .int (nI q)), (2, .int (nI ch2)), (0, .ref h0), (1, .int (nI av))] := hl
      have w : mlW G h0 r d A s H0 H locs τ := w
      refine lv_iinc (lv' := [(3, .int (nI (q + 1))), (2, .int (nI ch2)), (0, .ref h0), (1, .int (nI av))]) C.1 C.2.1 dX2_spreadReached_81 hl (k := 0) rfl (nI_add _ _) (by decide) rfl (fun ls hl => ?_)
      refine lv_goto (tgt := 4) C.1 C.2.1 dX2_spreadReached_84 (by decide) ?_
      exact ih (q + 1) τ ch2 H locs w hch (by omega) ls (lv_sub hl [0, 1, 2, 3] rfl) K
end
theorem m_spreadReached (l : Launch) (G : va_G) (h0 : Nat) (r : Nat → Nat) (d : Nat → ClassId) (σ : Nat → Nat → Nat) (av : Nat) (hav : av < 196) : zMi l yX2_spreadReached cX2_spreadReached 6 (some .boolean) (rmF 1 24) G (mlT d) (mlC h0 r d) [.ref h0, .int (nI av)] σ (fun v σ' => v = nI (saC av σ) ∧ σ' = saR av σ) := by
  refine zMi_of (own := RX2) (by decide) rfl (Nat.le_of_ble_eq_true rfl) ?_
  intro p e s m args below meth c A ls C hr hlk w hl
  have hl : lv_has ls 6 [(0, .ref h0), (1, .int (nI av))] := hl
  have hbd := w.2.2.2.2.2
  refine lv_iconst (v := nI 0) C.1 C.2.1 dX2_spreadReached_0 (by decide) ?_
  refine lv_istore_n (lv' := [(2, .int (nI 0)), (0, .ref h0), (1, .int (nI av))]) C.1 C.2.1 dX2_spreadReached_1 rfl hl (by decide) rfl (fun ls hl => ?_)
  refine lv_iconst (v := nI 0) C.1 C.2.1 dX2_spreadReached_2 (by decide) ?_
  refine lv_istore_n (lv' := [(3, .int (nI 0)), (2, .int (nI 0)), (0, .ref h0), (1, .int (nI av))]) C.1 C.2.1 dX2_spreadReached_3 rfl hl (by decide) rfl (fun ls hl => ?_)
  refine sa_out C hav 196 0 σ 0 _ _ w (by decide) (by omega) ls (lv_sub hl [0, 1, 2, 3] rfl) (fun H locs ls w hl => ?_)
  have w : mlW G h0 r d A s s.heap H locs (saR av σ) := w
  have hl : lv_has ls 6 [(2, .int (nI (saC av σ))), (0, .ref h0)] := hl
  refine lv_iload_n C.1 C.2.1 dX2_spreadReached_87 rfl (lv_at hl 0 rfl) ?_
  exact z_zret C hr hlk w (saC_lt av σ) ⟨rfl, rfl⟩ dX2_spreadReached_88
section
variable {p : Program} {l : Launch} {e : Env} {R : Room} {s : State} {m : MethodId} {args : Array Value} {below : List Frame} {meth : Method} {c : Code} {H : Heap} {locs : List Loc} {Q : State → Prop}
variable {G : va_G} {A : Nat → Prop} {H0 : Heap} {σ : Nat → Nat → Nat} {h0 : Nat} {r : Nat → Nat} {d : Nat → ClassId}
theorem fa_i {av : Nat} (C : zC p m c cX2_findReached 4 s args RX2) : ∀ n q σ H locs, mlW G h0 r d A s H0 H locs σ → q + n = 196 → ∀ ls, lv_has ls 4 [(2, .int (nI q)), (0, .ref h0), (1, .int (nI av))] → (∀ H locs ls, mlW G h0 r d A s H0 H locs (fwd (fun p s => up s 5 p (if p = 0 then 1 else 0)) n q σ) → lv_has ls 4 [(0, .ref h0), (1, .int (nI av))] → W p l e (rmF 2 49) s m args below meth c H locs 0 0 Q (F0 m 30 ls [])) → W p l e (rmF 2 49) s m args below meth c H locs 0 0 Q (F0 m 2 ls []) := by
  intro n
  induction n with
  | zero =>
    intro q σ H locs w hn ls hl K
    refine lv_iload_n C.1 C.2.1 dX2_findReached_2 rfl (lv_at hl 0 rfl) ?_
    refine lv_sipush (v := nI 196) C.1 C.2.1 dX2_findReached_3 (by decide) ?_
    refine z_cmp_ge (tgt := 30) C dX2_findReached_6 (by decide) (by omega) (by omega) (fun c_6 => ?_) (fun c_6 => ?_)
    · exact K H locs ls w (lv_sub hl [1, 2] rfl)
    · exact absurd c_6 (by omega)
  | succ n ih =>
    intro q σ H locs w hn ls hl K
    refine lv_iload_n C.1 C.2.1 dX2_findReached_2 rfl (lv_at hl 0 rfl) ?_
    refine lv_sipush (v := nI 196) C.1 C.2.1 dX2_findReached_3 (by decide) ?_
    refine z_cmp_ge (tgt := 30) C dX2_findReached_6 (by decide) (by omega) (by omega) (fun c_6 => ?_) (fun c_6 => ?_)
    · exact absurd c_6 (by omega)
    · refine lv_aload_n C.1 C.2.1 dX2_findReached_9 rfl (lv_at hl 1 rfl) ?_
      refine ml_g5 C w dX2_findReached_10 ?_
      refine lv_iload_n C.1 C.2.1 dX2_findReached_13 rfl (lv_at hl 0 rfl) ?_
      refine lv_iload_n C.1 C.2.1 dX2_findReached_14 rfl (lv_at hl 0 rfl) ?_
      refine z_if_ne (tgt := 22) C dX2_findReached_15 (by decide) (by omega) (fun c_15 => ?_) (fun c_15 => ?_)
      · refine lv_iconst (v := nI 0) C.1 C.2.1 dX2_findReached_22 (by decide) ?_
        refine ml_s5 C w (by omega) (by omega) dX2_findReached_23 (fun H locs w => ?_)
        refine lv_iinc (lv' := [(2, .int (nI (q + 1))), (0, .ref h0), (1, .int (nI av))]) C.1 C.2.1 dX2_findReached_24 hl (k := 0) rfl (nI_add _ _) (by decide) rfl (fun ls hl => ?_)
        refine lv_goto (tgt := 2) C.1 C.2.1 dX2_findReached_27 (by decide) ?_
        have e1 : up σ 5 q (if q = 0 then 1 else 0) = up σ 5 q 0 := by rw [if_neg c_15]
        exact ih (q + 1) (up σ 5 q (if q = 0 then 1 else 0)) H locs (by rw [e1]; exact w) (by omega) ls hl K
      · refine lv_iconst (v := nI 1) C.1 C.2.1 dX2_findReached_18 (by decide) ?_
        refine lv_goto (tgt := 23) C.1 C.2.1 dX2_findReached_19 (by decide) ?_
        refine ml_s5 C w (by omega) (by omega) dX2_findReached_23 (fun H locs w => ?_)
        refine lv_iinc (lv' := [(2, .int (nI (q + 1))), (0, .ref h0), (1, .int (nI av))]) C.1 C.2.1 dX2_findReached_24 hl (k := 0) rfl (nI_add _ _) (by decide) rfl (fun ls hl => ?_)
        refine lv_goto (tgt := 2) C.1 C.2.1 dX2_findReached_27 (by decide) ?_
        have e1 : up σ 5 q (if q = 0 then 1 else 0) = up σ 5 q 1 := by rw [if_pos c_15]
        exact ih (q + 1) (up σ 5 q (if q = 0 then 1 else 0)) H locs (by rw [e1]; exact w) (by omega) ls hl K
theorem fa_r {av : Nat} (C : zC p m c cX2_findReached 4 s args RX2) (hav : av < 196) : ∀ n rd σ ch H locs, mlW G h0 r d A s H0 H locs σ → ch < 2 → rd + n = 197 → ∀ ls, lv_has ls 4 [(3, .int (nI rd)), (2, .int (nI ch)), (0, .ref h0), (1, .int (nI av))] → (∀ H locs ls, mlW G h0 r d A s H0 H locs (rounds (sweep (saS av) 4) n (σ, ch)).1 → W p l e (rmF 2 49) s m args below meth c H locs 0 0 Q (F0 m 57 ls [])) → W p l e (rmF 2 49) s m args below meth c H locs 0 0 Q (F0 m 34 ls []) := by
  intro n
  induction n with
  | zero =>
    intro rd σ ch H locs w hch hn ls hl K
    refine lv_iload_n C.1 C.2.1 dX2_findReached_34 rfl (lv_at hl 0 rfl) ?_
    refine lv_sipush (v := nI 197) C.1 C.2.1 dX2_findReached_35 (by decide) ?_
    refine z_cmp_ge (tgt := 57) C dX2_findReached_38 (by decide) (by omega) (by omega) (fun c_38 => ?_) (fun c_38 => ?_)
    · exact K H locs ls w
    · exact absurd c_38 (by omega)
  | succ n ih =>
    intro rd σ ch H locs w hch hn ls hl K
    refine lv_iload_n C.1 C.2.1 dX2_findReached_34 rfl (lv_at hl 0 rfl) ?_
    refine lv_sipush (v := nI 197) C.1 C.2.1 dX2_findReached_35 (by decide) ?_
    refine z_cmp_ge (tgt := 57) C dX2_findReached_38 (by decide) (by omega) (by omega) (fun c_38 => ?_) (fun c_38 => ?_)
    · exact absurd c_38 (by omega)
    · refine lv_iload_n C.1 C.2.1 dX2_findReached_41 rfl (lv_at hl 1 rfl) ?_
      refine z_if_eq (tgt := 57) C dX2_findReached_42 (by decide) (by omega) (fun c_42 => ?_) (fun c_42 => ?_)
      · have e1 : rounds (sweep (saS av) 4) (n + 1) (σ, ch) = (σ, ch) := if_pos c_42
        rw [e1] at K
        exact K H locs ls w
      · refine lv_aload_n C.1 C.2.1 dX2_findReached_45 rfl (lv_at hl 2 rfl) ?_
        refine lv_iload_n C.1 C.2.1 dX2_findReached_46 rfl (lv_at hl 3 rfl) ?_
        refine z_calli (As := [.int (nI av)]) C (m_spreadReached l G h0 r d σ av hav) (cwV 1 C.2.2.2.2 (lw_V q307 q309 qs25 q28 q310) rfl rfl rfl (by decide +kernel) ⟨Nat.le_of_ble_eq_true rfl, Nat.le_of_ble_eq_true rfl⟩) w (ml_rc w) rfl hl.1 rfl (Nat.le_of_ble_eq_true rfl) dX2_findReached_47 ⟨Nat.le_refl _, Nat.le_refl _⟩ (fun v1 s1 H locs hp w => ?_)
        obtain ⟨hv, hσ⟩ := hp
        subst hv
        rw [hσ] at w
        refine lv_istore_n (lv' := [(2, .int (nI (saC av σ))), (3, .int (nI rd)), (0, .ref h0), (1, .int (nI av))]) C.1 C.2.1 dX2_findReached_50 rfl hl (by decide) rfl (fun ls hl => ?_)
        refine lv_iinc (lv' := [(3, .int (nI (rd + 1))), (2, .int (nI (saC av σ))), (0, .ref h0), (1, .int (nI av))]) C.1 C.2.1 dX2_findReached_51 hl (k := 1) rfl (nI_add _ _) (by decide) rfl (fun ls hl => ?_)
        refine lv_goto (tgt := 34) C.1 C.2.1 dX2_findReached_54 (by decide) ?_
        have e1 : rounds (sweep (saS av) 4) (n + 1) (σ, ch) = rounds (sweep (saS av) 4) n (sweep (saS av) 4 σ) := if_neg c_42
        rw [e1, saE] at K
        exact ih (rd + 1) (saR av σ) (saC av σ) H locs w (saC_lt av σ) (by omega) ls (lv_sub hl [0, 1, 2, 3] rfl) K
end
theorem m_findReached (l : Launch) (G : va_G) (h0 : Nat) (r : Nat → Nat) (d : Nat → ClassId) (σ : Nat → Nat → Nat) (av : Nat) (hav : av < 196) : zMv l yX2_findReached cX2_findReached 4 none (rmF 2 49) G (mlT d) (mlC h0 r d) [.ref h0, .int (nI av)] σ (fun σ' => σ' = faF av σ) := by
  refine zMv_of (own := RX2) (by decide) rfl (Nat.le_of_ble_eq_true rfl) ?_
  intro p e s m args below meth c A ls C hr hlk w hl
  have hl : lv_has ls 4 [(0, .ref h0), (1, .int (nI av))] := hl
  have hbd := w.2.2.2.2.2
  refine lv_iconst (v := nI 0) C.1 C.2.1 dX2_findReached_0 (by decide) ?_
  refine lv_istore_n (lv' := [(2, .int (nI 0)), (0, .ref h0), (1, .int (nI av))]) C.1 C.2.1 dX2_findReached_1 rfl hl (by decide) rfl (fun ls hl => ?_)
  refine fa_i C 196 0 σ _ _ w (by omega) ls (lv_sub hl [0, 1, 2] rfl) (fun H locs ls w hl => ?_)
  have w : mlW G h0 r d A s s.heap H locs (faI σ) := w
  refine lv_iconst (v := nI 1) C.1 C.2.1 dX2_findReached_30 (by decide) ?_
  refine lv_istore_n (lv' := [(2, .int (nI 1)), (0, .ref h0), (1, .int (nI av))]) C.1 C.2.1 dX2_findReached_31 rfl hl (by decide) rfl (fun ls hl => ?_)
  refine lv_iconst (v := nI 0) C.1 C.2.1 dX2_findReached_32 (by decide) ?_
  refine lv_istore_n (lv' := [(3, .int (nI 0)), (2, .int (nI 1)), (0, .ref h0), (1, .int (nI av))]) C.1 C.2.1 dX2_findReached_33 rfl hl (by decide) rfl (fun ls hl => ?_)
  refine fa_r C hav 197 0 (faI σ) 1 _ _ w (by decide) (by omega) ls (lv_sub hl [0, 1, 2, 3] rfl) (fun H locs ls w => ?_)
  have w : mlW G h0 r d A s s.heap H locs (faN av 197 (faI σ)) := w
  exact z_vret C hr hlk w rfl dX2_findReached_57
section
variable {p : Program} {l : Launch} {e : Env} {R : Room} {s : State} {m : MethodId} {args : Array Value} {below : List Frame} {meth : Method} {c : Code} {H : Heap} {locs : List Loc} {Q : State → Prop}
variable {G : va_G} {A : Nat → Prop} {H0 : Heap} {σ : Nat → Nat → Nat} {h0 : Nat} {r : Nat → Nat} {d : Nat → ClassId}
theorem ct_loop {co b : Nat} (C : zC p m c cX2_count 5 s args RX2) (hco : co < 2) (hb : b ≤ 196) : ∀ n q H locs, mlW G h0 r d A s H0 H locs σ → q + n = b → ∀ ls, lv_has ls 5 [(4, .int (nI q)), (3, .int (nI (ncnt (fun q => σ 2 q = co ∧ σ 3 q = q) q))), (0, .ref h0), (1, .int (nI co)), (2, .int (nI b))] → (∀ H locs ls, mlW G h0 r d A s H0 H locs σ → lv_has ls 5 [(3, .int (nI (ncnt (fun q => σ 2 q = co ∧ σ 3 q = q) b)))] → W p l e (rmF 1 22) s m args below meth c H locs 0 0 Q (F0 m 30 ls [])) → W p l e (rmF 1 22) s m args below meth c H locs 0 0 Q (F0 m 5 ls []) := by
  intro n
  induction n with
  | zero =>
    intro q H locs w hn ls hl K
    obtain rfl : q = b := by omega
    refine lv_iload C.1 C.2.1 dX2_count_5 (lv_at hl 0 rfl) ?_
    refine lv_iload_n C.1 C.2.1 dX2_count_7 rfl (lv_at hl 4 rfl) ?_
    refine z_cmp_ge (tgt := 30) C dX2_count_8 (by decide) (by omega) (by omega) (fun c_8 => ?_) (fun c_8 => ?_)
    · exact K H locs ls w (lv_sub hl [1] rfl)
    · exact absurd c_8 (by omega)
  | succ n ih =>
    intro q H locs w hn ls hl K
    refine lv_iload C.1 C.2.1 dX2_count_5 (lv_at hl 0 rfl) ?_
    refine lv_iload_n C.1 C.2.1 dX2_count_7 rfl (lv_at hl 4 rfl) ?_
    refine z_cmp_ge (tgt := 30) C dX2_count_8 (by decide) (by omega) (by omega) (fun c_8 => ?_) (fun c_8 => ?_)
    · exact absurd c_8 (by omega)
    · refine lv_aload_n C.1 C.2.1 dX2_count_11 rfl (lv_at hl 2 rfl) ?_
      refine lv_iload C.1 C.2.1 dX2_count_12 (lv_at hl 0 rfl) ?_
      refine lv_iload_n C.1 C.2.1 dX2_count_14 rfl (lv_at hl 3 rfl) ?_
      refine z_calli (As := [.int (nI q), .int (nI co)]) C (m_isFirst l G h0 r d σ q co (by omega) (by omega)) (cwV 2 C.2.2.2.2 (lw_V q263 q265 qs19 q28 q266) rfl rfl rfl (by decide +kernel) ⟨Nat.le_of_ble_eq_true rfl, Nat.le_of_ble_eq_true rfl⟩) w (ml_rc w) rfl hl.1 rfl (Nat.le_of_ble_eq_true rfl) dX2_count_15 ⟨Nat.le_refl _, Nat.le_refl _⟩ (fun v1 s1 H locs hp w => ?_)
      obtain ⟨hv, hσ⟩ := hp
      subst hv
      rw [hσ] at w
      refine z_if_eq (tgt := 24) C dX2_count_18 (by decide) z_ifB (fun c_18 => ?_) (fun c_18 => ?_)
      · refine lv_iinc (lv' := [(4, .int (nI (q + 1))), (3, .int (nI (ncnt (fun q => σ 2 q = co ∧ σ 3 q = q) q))), (0, .ref h0), (1, .int (nI co)), (2, .int (nI b))]) C.1 C.2.1 dX2_count_24 hl (k := 0) rfl (nI_add _ _) (by decide) rfl (fun ls hl => ?_)
        refine lv_goto (tgt := 5) C.1 C.2.1 dX2_count_27 (by decide) ?_
        rw [← ncnt_s0 (P := (fun q => σ 2 q = co ∧ σ 3 q = q)) (n := q) (z_ifN c_18)] at hl
        exact ih (q + 1) H locs w (by omega) ls (lv_sub hl [0, 1, 2, 3, 4] rfl) K
      · refine lv_iinc (lv' := [(3, .int (nI ((ncnt (fun q => σ 2 q = co ∧ σ 3 q = q) q) + 1))), (4, .int (nI q)), (0, .ref h0), (1, .int (nI co)), (2, .int (nI b))]) C.1 C.2.1 dX2_count_21 hl (k := 1) rfl (nI_add _ _) (by decide) rfl (fun ls hl => ?_)
        refine lv_iinc (lv' := [(4, .int (nI (q + 1))), (3, .int (nI ((ncnt (fun q => σ 2 q = co ∧ σ 3 q = q) q) + 1))), (0, .ref h0), (1, .int (nI co)), (2, .int (nI b))]) C.1 C.2.1 dX2_count_24 hl (k := 1) rfl (nI_add _ _) (by decide) rfl (fun ls hl => ?_)
        refine lv_goto (tgt := 5) C.1 C.2.1 dX2_count_27 (by decide) ?_
        rw [← ncnt_s1 (P := (fun q => σ 2 q = co ∧ σ 3 q = q)) (n := q) (z_ifP c_18)] at hl
        exact ih (q + 1) H locs w (by omega) ls (lv_sub hl [0, 1, 2, 3, 4] rfl) K
end
theorem m_count (l : Launch) (G : va_G) (h0 : Nat) (r : Nat → Nat) (d : Nat → ClassId) (σ : Nat → Nat → Nat) (co b : Nat) (hco : co < 2) (hb : b ≤ 196) : zMi l yX2_count cX2_count 5 (some .int) (rmF 1 22) G (mlT d) (mlC h0 r d) [.ref h0, .int (nI co), .int (nI b)] σ (fun v σ' => v = nI (ncnt (fun q => σ 2 q = co ∧ σ 3 q = q) b) ∧ σ' = σ) := by
  refine zMi_of (own := RX2) (by decide) rfl (Nat.le_of_ble_eq_true rfl) ?_
  intro p e s m args below meth c A ls C hr hlk w hl
  have hl : lv_has ls 5 [(0, .ref h0), (1, .int (nI co)), (2, .int (nI b))] := hl
  have hbd := w.2.2.2.2.2
  refine lv_iconst (v := nI 0) C.1 C.2.1 dX2_count_0 (by decide) ?_
  refine lv_istore_n (lv' := [(3, .int (nI 0)), (0, .ref h0), (1, .int (nI co)), (2, .int (nI b))]) C.1 C.2.1 dX2_count_1 rfl hl (by decide) rfl (fun ls hl => ?_)
  refine lv_iconst (v := nI 0) C.1 C.2.1 dX2_count_2 (by decide) ?_
  refine lv_istore (lv' := [(4, .int (nI 0)), (3, .int (nI 0)), (0, .ref h0), (1, .int (nI co)), (2, .int (nI b))]) C.1 C.2.1 dX2_count_3 hl (by decide) rfl (fun ls hl => ?_)
  refine ct_loop C hco hb b 0 _ _ w (by omega) ls (lv_sub hl [0, 1, 2, 3, 4] rfl) (fun H locs ls w hl => ?_)
  refine lv_iload_n C.1 C.2.1 dX2_count_30 rfl (lv_at hl 0 rfl) ?_
  exact z_iret C hr hlk w ⟨rfl, rfl⟩ dX2_count_31
theorem m_mcomponents (l : Launch) (G : va_G) (h0 : Nat) (r : Nat → Nat) (d : Nat → ClassId) (σ : Nat → Nat → Nat)   : zMi l yX2_components cX2_components 1 (some .int) (rmF 4 93) G (mlT d) (mlC h0 r d) [.ref h0] σ (fun v σ' => v = nI (ncnt (fun q => (frF σ) 2 q = 1 ∧ (frF σ) 3 q = q) 196) ∧ σ' = frF σ) := by
  refine zMi_of (own := RX2) (by decide) rfl (Nat.le_of_ble_eq_true rfl) ?_
  intro p e s m args below meth c A ls C hr hlk w hl
  have hl : lv_has ls 1 [(0, .ref h0)] := hl
  have hbd := w.2.2.2.2.2
  refine lv_aload_n C.1 C.2.1 dX2_components_0 rfl (lv_at hl 0 rfl) ?_
  refine z_callv (As := []) C (m_findRoots l G h0 r d σ) (cwV 0 C.2.2.2.2 (lw_V q239 q241 qs13 q28 q242) rfl rfl rfl (by decide +kernel) ⟨Nat.le_of_ble_eq_true rfl, Nat.le_of_ble_eq_true rfl⟩) w (ml_rc w) rfl hl.1 rfl (Nat.le_of_ble_eq_true rfl) dX2_components_1 ⟨Nat.le_refl _, Nat.le_refl _⟩ (fun s1 H locs hp w => ?_)
  have hσ := hp
  rw [hσ] at w
  refine lv_aload_n C.1 C.2.1 dX2_components_4 rfl (lv_at hl 0 rfl) ?_
  refine lv_iconst (v := nI 1) C.1 C.2.1 dX2_components_5 (by decide) ?_
  refine lv_sipush (v := nI 196) C.1 C.2.1 dX2_components_6 (by decide) ?_
  refine z_calli (As := [.int (nI 1), .int (nI 196)]) C (m_count l G h0 r d (frF σ) 1 196 (by decide) (by omega)) (cwV 2 C.2.2.2.2 (lw_V q259 q261 qs18 q28 q262) rfl rfl rfl (by decide +kernel) ⟨Nat.le_of_ble_eq_true rfl, Nat.le_of_ble_eq_true rfl⟩) w (ml_rc w) rfl hl.1 rfl (Nat.le_of_ble_eq_true rfl) dX2_components_9 ⟨Nat.le_refl _, Nat.le_refl _⟩ (fun v2 s2 H locs hp w => ?_)
  obtain ⟨hv, hσ⟩ := hp
  subst hv
  rw [hσ] at w
  exact z_iret C hr hlk w ⟨rfl, rfl⟩ dX2_components_12
theorem m_meuler (l : Launch) (G : va_G) (h0 : Nat) (r : Nat → Nat) (d : Nat → ClassId) (σ : Nat → Nat → Nat)   : zMi l yX2_euler cX2_euler 1 (some .int) (rmF 4 93) G (mlT d) (mlC h0 r d) [.ref h0] σ (fun v σ' => v = nI (ncnt (fun q => (frF σ) 2 q = 1 ∧ (frF σ) 3 q = q) 196) - (nI (ncnt (fun q => (frF σ) 2 q = 0 ∧ (frF σ) 3 q = q) 196) - nI 1) ∧ σ' = frF σ) := by
  refine zMi_of (own := RX2) (by decide) rfl (Nat.le_of_ble_eq_true rfl) ?_
  intro p e s m args below meth c A ls C hr hlk w hl
  have hl : lv_has ls 1 [(0, .ref h0)] := hl
  have hbd := w.2.2.2.2.2
  refine lv_aload_n C.1 C.2.1 dX2_euler_0 rfl (lv_at hl 0 rfl) ?_
  refine z_callv (As := []) C (m_findRoots l G h0 r d σ) (cwV 0 C.2.2.2.2 (lw_V q239 q241 qs13 q28 q242) rfl rfl rfl (by decide +kernel) ⟨Nat.le_of_ble_eq_true rfl, Nat.le_of_ble_eq_true rfl⟩) w (ml_rc w) rfl hl.1 rfl (Nat.le_of_ble_eq_true rfl) dX2_euler_1 ⟨Nat.le_refl _, Nat.le_refl _⟩ (fun s1 H locs hp w => ?_)
  have hσ := hp
  rw [hσ] at w
  refine lv_aload_n C.1 C.2.1 dX2_euler_4 rfl (lv_at hl 0 rfl) ?_
  refine lv_iconst (v := nI 1) C.1 C.2.1 dX2_euler_5 (by decide) ?_
  refine lv_sipush (v := nI 196) C.1 C.2.1 dX2_euler_6 (by decide) ?_
  refine z_calli (As := [.int (nI 1), .int (nI 196)]) C (m_count l G h0 r d (frF σ) 1 196 (by decide) (by omega)) (cwV 2 C.2.2.2.2 (lw_V q259 q261 qs18 q28 q262) rfl rfl rfl (by decide +kernel) ⟨Nat.le_of_ble_eq_true rfl, Nat.le_of_ble_eq_true rfl⟩) w (ml_rc w) rfl hl.1 rfl (Nat.le_of_ble_eq_true rfl) dX2_euler_9 ⟨Nat.le_refl _, Nat.le_refl _⟩ (fun v2 s2 H locs hp w => ?_)
  obtain ⟨hv, hσ⟩ := hp
  subst hv
  rw [hσ] at w
  refine lv_aload_n C.1 C.2.1 dX2_euler_12 rfl (lv_at hl 0 rfl) ?_
  refine lv_iconst (v := nI 0) C.1 C.2.1 dX2_euler_13 (by decide) ?_
  refine lv_sipush (v := nI 196) C.1 C.2.1 dX2_euler_14 (by decide) ?_
  refine z_calli (As := [.int (nI 0), .int (nI 196)]) C (m_count l G h0 r d (frF σ) 0 196 (by decide) (by omega)) (cwV 2 C.2.2.2.2 (lw_V q259 q261 qs18 q28 q262) rfl rfl rfl (by decide +kernel) ⟨Nat.le_of_ble_eq_true rfl, Nat.le_of_ble_eq_true rfl⟩) w (ml_rc w) rfl hl.1 rfl (Nat.le_of_ble_eq_true rfl) dX2_euler_17 ⟨Nat.le_refl _, Nat.le_refl _⟩ (fun v3 s3 H locs hp w => ?_)
  obtain ⟨hv, hσ⟩ := hp
  subst hv
  rw [hσ] at w
  refine lv_iconst (v := nI 1) C.1 C.2.1 dX2_euler_20 (by decide) ?_
  refine lv_isub C.1 C.2.1 dX2_euler_21 ?_
  refine lv_isub C.1 C.2.1 dX2_euler_22 ?_
  exact z_iret C hr hlk w ⟨rfl, rfl⟩ dX2_euler_23
theorem m_mlabel (l : Launch) (G : va_G) (h0 : Nat) (r : Nat → Nat) (d : Nat → ClassId) (σ : Nat → Nat → Nat) (X Y : Int32) (k2 : σ 0 0 ≤ 12) (k4 : σ 1 0 ≤ 12) : zMi l yX2_label cX2_label 4 (some .int) (rmF 4 93) G (mlT d) (mlC h0 r d) [.ref h0, .int X, .int Y] σ (fun v σ' => (¬ inP (σ 0 0) (σ 1 0) X Y ∧ v = -1 ∧ σ' = σ) ∨ (∃ x y, X = nI x ∧ Y = nI y ∧ x < σ 0 0 ∧ y < σ 1 0 ∧ ((σ 2 (14 * (y + 1) + x + 1) = 0 ∧ v = -2 ∧ σ' = σ) ∨ (σ 2 (14 * (y + 1) + x + 1) ≠ 0 ∧ v = nI (ncnt (fun q => (frF σ) 2 q = 1 ∧ (frF σ) 3 q = q) (frF σ 3 (14 * (y + 1) + x + 1))) ∧ σ' = frF σ)))) := by
  refine zMi_of (own := RX2) (by decide) rfl (Nat.le_of_ble_eq_true rfl) ?_
  intro p e s m args below meth c A ls C hr hlk w hl
  have hl : lv_has ls 4 [(0, .ref h0), (1, .int X), (2, .int Y)] := hl
  have hbd := w.2.2.2.2.2
  refine lv_aload_n C.1 C.2.1 dX2_label_0 rfl (lv_at hl 0 rfl) ?_
  refine lv_iload_n C.1 C.2.1 dX2_label_1 rfl (lv_at hl 1 rfl) ?_
  refine lv_iload_n C.1 C.2.1 dX2_label_2 rfl (lv_at hl 2 rfl) ?_
  refine z_calli (As := [.int X, .int Y]) C (m_inside l G h0 r d σ X Y) (cwV 2 C.2.2.2.2 (lw_V q219 q221 qs11 q28 q222) rfl rfl rfl (by decide +kernel) ⟨Nat.le_of_ble_eq_true rfl, Nat.le_of_ble_eq_true rfl⟩) w (ml_rc w) rfl hl.1 rfl (Nat.le_of_ble_eq_true rfl) dX2_label_3 ⟨Nat.le_refl _, Nat.le_refl _⟩ (fun v1 s1 H locs hp w => ?_)
  obtain ⟨hv, hσ⟩ := hp
  subst hv
  rw [hσ] at w
  refine z_if_ne (tgt := 11) C dX2_label_6 (by decide) z_ifB (fun c_6 => ?_) (fun c_6 => ?_)
  · obtain ⟨x, y, rfl, rfl, hx, hy⟩ := inP_nat (by omega) (by omega) (z_ifP c_6)
    have b2 := hbd 2 (14 * (y + 1) + x + 1)
    refine lv_aload_n C.1 C.2.1 dX2_label_11 rfl (lv_at hl 0 rfl) ?_
    refine lv_iload_n C.1 C.2.1 dX2_label_12 rfl (lv_at hl 1 rfl) ?_
    refine lv_iload_n C.1 C.2.1 dX2_label_13 rfl (lv_at hl 2 rfl) ?_
    refine z_calli (As := [.int (nI x), .int (nI y)]) C (m_place l G h0 r d σ x y) (cwV 2 C.2.2.2.2 (lw_V q223 q225 qs12 q28 q226) rfl rfl rfl (by decide +kernel) ⟨Nat.le_of_ble_eq_true rfl, Nat.le_of_ble_eq_true rfl⟩) w (ml_rc w) rfl hl.1 rfl (Nat.le_of_ble_eq_true rfl) dX2_label_14 ⟨Nat.le_refl _, Nat.le_refl _⟩ (fun v2 s2 H locs hp w => ?_)
    obtain ⟨hv, hσ⟩ := hp
    subst hv
    rw [hσ] at w
    refine lv_istore_n (lv' := [(3, .int (nI (14 * (y + 1) + x + 1))), (0, .ref h0), (1, .int (nI x)), (2, .int (nI y))]) C.1 C.2.1 dX2_label_17 rfl hl (by decide) rfl (fun ls hl => ?_)
    refine lv_aload_n C.1 C.2.1 dX2_label_18 rfl (lv_at hl 1 rfl) ?_
    refine ml_g2 C w dX2_label_19 ?_
    refine lv_iload_n C.1 C.2.1 dX2_label_22 rfl (lv_at hl 0 rfl) ?_
    refine ml_l2 C w (by omega) dX2_label_23 ?_
    refine z_if_ne (tgt := 30) C dX2_label_24 (by decide) (by omega) (fun c_24 => ?_) (fun c_24 => ?_)
    · refine lv_aload_n C.1 C.2.1 dX2_label_30 rfl (lv_at hl 1 rfl) ?_
      refine z_callv (As := []) C (m_findRoots l G h0 r d σ) (cwV 0 C.2.2.2.2 (lw_V q239 q241 qs13 q28 q242) rfl rfl rfl (by decide +kernel) ⟨Nat.le_of_ble_eq_true rfl, Nat.le_of_ble_eq_true rfl⟩) w (ml_rc w) rfl hl.1 rfl (Nat.le_of_ble_eq_true rfl) dX2_label_31 ⟨Nat.le_refl _, Nat.le_refl _⟩ (fun s3 H locs hp w => ?_)
      have hσ := hp
      rw [hσ] at w
      have hρ := (frF_ok σ).2 (14 * (y + 1) + x + 1) (by omega)
      have hρ2 := rt_le (σ 2) (14 * (y + 1) + x + 1)
      refine lv_aload_n C.1 C.2.1 dX2_label_34 rfl (lv_at hl 1 rfl) ?_
      refine lv_iconst (v := nI 1) C.1 C.2.1 dX2_label_35 (by decide) ?_
      refine lv_aload_n C.1 C.2.1 dX2_label_36 rfl (lv_at hl 1 rfl) ?_
      refine ml_g3 C w dX2_label_37 ?_
      refine lv_iload_n C.1 C.2.1 dX2_label_40 rfl (lv_at hl 0 rfl) ?_
      refine ml_l3 C w (by omega) dX2_label_41 ?_
      refine z_calli (As := [.int (nI 1), .int (nI (frF σ 3 (14 * (y + 1) + x + 1)))]) C (m_count l G h0 r d (frF σ) 1 (frF σ 3 (14 * (y + 1) + x + 1)) (by decide) (by omega)) (cwV 2 C.2.2.2.2 (lw_V q259 q261 qs18 q28 q262) rfl rfl rfl (by decide +kernel) ⟨Nat.le_of_ble_eq_true rfl, Nat.le_of_ble_eq_true rfl⟩) w (ml_rc w) rfl hl.1 rfl (Nat.le_of_ble_eq_true rfl) dX2_label_42 ⟨Nat.le_refl _, Nat.le_refl _⟩ (fun v4 s4 H locs hp w => ?_)
      obtain ⟨hv, hσ⟩ := hp
      subst hv
      rw [hσ] at w
      exact z_iret C hr hlk w (Or.inr ⟨x, y, rfl, rfl, hx, hy, Or.inr ⟨c_24, rfl, rfl⟩⟩) dX2_label_45
    · refine lv_bipush (v := (-2)) C.1 C.2.1 dX2_label_27 (by decide) ?_
      exact z_iret C hr hlk w (Or.inr ⟨x, y, rfl, rfl, hx, hy, Or.inl ⟨c_24, rfl, rfl⟩⟩) dX2_label_29
  · refine lv_iconst (v := (-1)) C.1 C.2.1 dX2_label_9 (by decide) ?_
    exact z_iret C hr hlk w (Or.inl ⟨z_ifN c_6, rfl, rfl⟩) dX2_label_10
theorem m_mdepth (l : Launch) (G : va_G) (h0 : Nat) (r : Nat → Nat) (d : Nat → ClassId) (σ : Nat → Nat → Nat) (X Y : Int32) (k2 : σ 0 0 ≤ 12) (k4 : σ 1 0 ≤ 12) : zMi l yX2_depth cX2_depth 3 (some .int) (rmF 4 93) G (mlT d) (mlC h0 r d) [.ref h0, .int X, .int Y] σ (fun v σ' => (¬ inP (σ 0 0) (σ 1 0) X Y ∧ v = -1 ∧ σ' = σ) ∨ (∃ x y, X = nI x ∧ Y = nI y ∧ x < σ 0 0 ∧ y < σ 1 0 ∧ v = nI (fcF σ 4 (14 * (y + 1) + x + 1)) ∧ σ' = fcF σ)) := by
  refine zMi_of (own := RX2) (by decide) rfl (Nat.le_of_ble_eq_true rfl) ?_
  intro p e s m args below meth c A ls C hr hlk w hl
  have hl : lv_has ls 3 [(0, .ref h0), (1, .int X), (2, .int Y)] := hl
  have hbd := w.2.2.2.2.2
  refine lv_aload_n C.1 C.2.1 dX2_depth_0 rfl (lv_at hl 0 rfl) ?_
  refine lv_iload_n C.1 C.2.1 dX2_depth_1 rfl (lv_at hl 1 rfl) ?_
  refine lv_iload_n C.1 C.2.1 dX2_depth_2 rfl (lv_at hl 2 rfl) ?_
  refine z_calli (As := [.int X, .int Y]) C (m_inside l G h0 r d σ X Y) (cwV 2 C.2.2.2.2 (lw_V q219 q221 qs11 q28 q222) rfl rfl rfl (by decide +kernel) ⟨Nat.le_of_ble_eq_true rfl, Nat.le_of_ble_eq_true rfl⟩) w (ml_rc w) rfl hl.1 rfl (Nat.le_of_ble_eq_true rfl) dX2_depth_3 ⟨Nat.le_refl _, Nat.le_refl _⟩ (fun v1 s1 H locs hp w => ?_)
  obtain ⟨hv, hσ⟩ := hp
  subst hv
  rw [hσ] at w
  refine z_if_ne (tgt := 11) C dX2_depth_6 (by decide) z_ifB (fun c_6 => ?_) (fun c_6 => ?_)
  · obtain ⟨x, y, rfl, rfl, hx, hy⟩ := inP_nat (by omega) (by omega) (z_ifP c_6)
    refine lv_aload_n C.1 C.2.1 dX2_depth_11 rfl (lv_at hl 0 rfl) ?_
    refine z_callv (As := []) C (m_findChanges l G h0 r d σ) (cwV 0 C.2.2.2.2 (lw_V q287 q289 qs21 q28 q290) rfl rfl rfl (by decide +kernel) ⟨Nat.le_of_ble_eq_true rfl, Nat.le_of_ble_eq_true rfl⟩) w (ml_rc w) rfl hl.1 rfl (Nat.le_of_ble_eq_true rfl) dX2_depth_12 ⟨Nat.le_refl _, Nat.le_refl _⟩ (fun s2 H locs hp w => ?_)
    have hσ := hp
    rw [hσ] at w
    refine lv_aload_n C.1 C.2.1 dX2_depth_15 rfl (lv_at hl 0 rfl) ?_
    refine ml_g4 C w dX2_depth_16 ?_
    refine lv_aload_n C.1 C.2.1 dX2_depth_19 rfl (lv_at hl 0 rfl) ?_
    refine lv_iload_n C.1 C.2.1 dX2_depth_20 rfl (lv_at hl 1 rfl) ?_
    refine lv_iload_n C.1 C.2.1 dX2_depth_21 rfl (lv_at hl 2 rfl) ?_
    refine z_calli (As := [.int (nI x), .int (nI y)]) C (m_place l G h0 r d (fcF σ) x y) (cwV 2 C.2.2.2.2 (lw_V q223 q225 qs12 q28 q226) rfl rfl rfl (by decide +kernel) ⟨Nat.le_of_ble_eq_true rfl, Nat.le_of_ble_eq_true rfl⟩) w (ml_rc w) rfl hl.1 rfl (Nat.le_of_ble_eq_true rfl) dX2_depth_22 ⟨Nat.le_refl _, Nat.le_refl _⟩ (fun v3 s3 H locs hp w => ?_)
    obtain ⟨hv, hσ⟩ := hp
    subst hv
    rw [hσ] at w
    refine ml_l4 C w (by omega) dX2_depth_25 ?_
    exact z_iret C hr hlk w (Or.inr ⟨x, y, rfl, rfl, hx, hy, rfl, rfl⟩) dX2_depth_26
  · refine lv_iconst (v := (-1)) C.1 C.2.1 dX2_depth_9 (by decide) ?_
    exact z_iret C hr hlk w (Or.inl ⟨z_ifN c_6, rfl, rfl⟩) dX2_depth_10
section
variable {p : Program} {l : Launch} {e : Env} {R : Room} {s : State} {m : MethodId} {args : Array Value} {below : List Frame} {meth : Method} {c : Code} {H : Heap} {locs : List Loc} {Q : State → Prop}
variable {G : va_G} {A : Nat → Prop} {H0 : Heap} {σ : Nat → Nat → Nat} {h0 : Nat} {r : Nat → Nat} {d : Nat → ClassId}
theorem fo_loop {K : Int32} (C : zC p m c cX2_firstOf 4 s args RX2) (KR : ∀ q H locs ls, q < 196 → σ 2 q = 1 ∧ σ 3 q = q → nI (ncnt (fun q => σ 2 q = 1 ∧ σ 3 q = q) q) = K → mlW G h0 r d A s H0 H locs σ → lv_has ls 4 [(3, .int (nI q))] → W p l e (rmF 4 93) s m args below meth c H locs 0 0 Q (F0 m 29 ls [])) (KX : ∀ H locs ls, (∀ q, q < 196 → σ 2 q = 1 ∧ σ 3 q = q → nI (ncnt (fun q => σ 2 q = 1 ∧ σ 3 q = q) q) ≠ K) → mlW G h0 r d A s H0 H locs σ → W p l e (rmF 4 93) s m args below meth c H locs 0 0 Q (F0 m 40 ls [])) :
    ∀ n q H locs, mlW G h0 r d A s H0 H locs σ → q + n = 196 → (∀ q', q' < q → σ 2 q' = 1 ∧ σ 3 q' = q' → nI (ncnt (fun q => σ 2 q = 1 ∧ σ 3 q = q) q') ≠ K) → ∀ ls, lv_has ls 4 [(3, .int (nI q)), (2, .int (nI (ncnt (fun q => σ 2 q = 1 ∧ σ 3 q = q) q))), (0, .ref h0), (1, .int K)] → W p l e (rmF 4 93) s m args below meth c H locs 0 0 Q (F0 m 8 ls []) := by
  intro n
  induction n with
  | zero =>
    intro q H locs w hn hno ls hl
    obtain rfl : q = 196 := by omega
    refine lv_iload_n C.1 C.2.1 dX2_firstOf_8 rfl (lv_at hl 0 rfl) ?_
    refine lv_sipush (v := nI 196) C.1 C.2.1 dX2_firstOf_9 (by decide) ?_
    refine z_cmp_ge (tgt := 40) C dX2_firstOf_12 (by decide) (by decide) (by omega) (fun c_12 => ?_) (fun c_12 => ?_)
    · exact KX H locs ls hno w
    · exact absurd c_12 (by decide)
  | succ n ih =>
    intro q H locs w hn hno ls hl
    refine lv_iload_n C.1 C.2.1 dX2_firstOf_8 rfl (lv_at hl 0 rfl) ?_
    refine lv_sipush (v := nI 196) C.1 C.2.1 dX2_firstOf_9 (by decide) ?_
    refine z_cmp_ge (tgt := 40) C dX2_firstOf_12 (by decide) (by omega) (by omega) (fun c_12 => ?_) (fun c_12 => ?_)
    · exact absurd c_12 (by omega)
    · refine lv_aload_n C.1 C.2.1 dX2_firstOf_15 rfl (lv_at hl 2 rfl) ?_
      refine lv_iload_n C.1 C.2.1 dX2_firstOf_16 rfl (lv_at hl 0 rfl) ?_
      refine lv_iconst (v := nI 1) C.1 C.2.1 dX2_firstOf_17 (by decide) ?_
      refine z_calli (As := [.int (nI q), .int (nI 1)]) C (m_isFirst l G h0 r d σ q 1 (by omega) (by omega)) (cwV 2 C.2.2.2.2 (lw_V q263 q265 qs19 q28 q266) rfl rfl rfl (by decide +kernel) ⟨Nat.le_of_ble_eq_true rfl, Nat.le_of_ble_eq_true rfl⟩) w (ml_rc w) rfl hl.1 rfl (Nat.le_of_ble_eq_true rfl) dX2_firstOf_18 ⟨Nat.le_refl _, Nat.le_refl _⟩ (fun v1 s1 H locs hp w => ?_)
      obtain ⟨hv, hσ⟩ := hp
      subst hv
      rw [hσ] at w
      refine z_if_eq (tgt := 34) C dX2_firstOf_21 (by decide) z_ifB (fun c_21 => ?_) (fun c_21 => ?_)
      · refine lv_iinc (lv' := [(3, .int (nI (q + 1))), (2, .int (nI (ncnt (fun q => σ 2 q = 1 ∧ σ 3 q = q) q))), (0, .ref h0), (1, .int K)]) C.1 C.2.1 dX2_firstOf_34 hl (k := 0) rfl (nI_add _ _) (by decide) rfl (fun ls hl => ?_)
        refine lv_goto (tgt := 8) C.1 C.2.1 dX2_firstOf_37 (by decide) ?_
        rw [← ncnt_s0 (P := (fun q => σ 2 q = 1 ∧ σ 3 q = q)) (n := q) (z_ifN c_21)] at hl
        refine ih (q + 1) H locs w (by omega) (fun q' hq' hf => ?_) ls (lv_sub hl [0, 1, 2, 3] rfl)
        rcases Nat.lt_or_eq_of_le (Nat.le_of_lt_succ hq') with z | z
        · exact hno q' z hf
        · rw [z] at hf; exact absurd hf (z_ifN c_21)
      · refine lv_iload_n C.1 C.2.1 dX2_firstOf_24 rfl (lv_at hl 1 rfl) ?_
        refine lv_iload_n C.1 C.2.1 dX2_firstOf_25 rfl (lv_at hl 3 rfl) ?_
        refine lv_icmp_ne (tgt := 31) C.1 C.2.1 dX2_firstOf_26 (by decide) (fun c_26 => ?_) (fun c_26 => ?_)
        · refine lv_iinc (lv' := [(2, .int (nI ((ncnt (fun q => σ 2 q = 1 ∧ σ 3 q = q) q) + 1))), (3, .int (nI q)), (0, .ref h0), (1, .int K)]) C.1 C.2.1 dX2_firstOf_31 hl (k := 1) rfl (nI_add _ _) (by decide) rfl (fun ls hl => ?_)
          refine lv_iinc (lv' := [(3, .int (nI (q + 1))), (2, .int (nI ((ncnt (fun q => σ 2 q = 1 ∧ σ 3 q = q) q) + 1))), (0, .ref h0), (1, .int K)]) C.1 C.2.1 dX2_firstOf_34 hl (k := 1) rfl (nI_add _ _) (by decide) rfl (fun ls hl => ?_)
          refine lv_goto (tgt := 8) C.1 C.2.1 dX2_firstOf_37 (by decide) ?_
          rw [← ncnt_s1 (P := (fun q => σ 2 q = 1 ∧ σ 3 q = q)) (n := q) (z_ifP c_21)] at hl
          refine ih (q + 1) H locs w (by omega) (fun q' hq' hf => ?_) ls (lv_sub hl [0, 1, 2, 3] rfl)
          rcases Nat.lt_or_eq_of_le (Nat.le_of_lt_succ hq') with z | z
          · exact hno q' z hf
          · rw [z]; exact c_26
        · exact KR q H locs ls (by omega) (z_ifP c_21) c_26 w (lv_sub hl [0] rfl)
end
theorem m_firstOf (l : Launch) (G : va_G) (h0 : Nat) (r : Nat → Nat) (d : Nat → ClassId) (σ : Nat → Nat → Nat) (K : Int32)  : zMi l yX2_firstOf cX2_firstOf 4 (some .int) (rmF 4 93) G (mlT d) (mlC h0 r d) [.ref h0, .int K] σ (fun v σ' => ((∃ f, (f < 196 ∧ (frF σ 2 f = 1 ∧ frF σ 3 f = f) ∧ nI (ncnt (fun q => (frF σ) 2 q = 1 ∧ (frF σ) 3 q = q) f) = K) ∧ v = nI f) ∨ (v = -1 ∧ (∀ q, q < 196 → frF σ 2 q = 1 ∧ frF σ 3 q = q → nI (ncnt (fun q => (frF σ) 2 q = 1 ∧ (frF σ) 3 q = q) q) ≠ K))) ∧ σ' = frF σ) := by
  refine zMi_of (own := RX2) (by decide) rfl (Nat.le_of_ble_eq_true rfl) ?_
  intro p e s m args below meth c A ls C hr hlk w hl
  have hl : lv_has ls 4 [(0, .ref h0), (1, .int K)] := hl
  have hbd := w.2.2.2.2.2
  refine lv_aload_n C.1 C.2.1 dX2_firstOf_0 rfl (lv_at hl 0 rfl) ?_
  refine z_callv (As := []) C (m_findRoots l G h0 r d σ) (cwV 0 C.2.2.2.2 (lw_V q239 q241 qs13 q28 q242) rfl rfl rfl (by decide +kernel) ⟨Nat.le_of_ble_eq_true rfl, Nat.le_of_ble_eq_true rfl⟩) w (ml_rc w) rfl hl.1 rfl (Nat.le_of_ble_eq_true rfl) dX2_firstOf_1 ⟨Nat.le_refl _, Nat.le_refl _⟩ (fun s1 H locs hp w => ?_)
  have hσ := hp
  rw [hσ] at w
  refine lv_iconst (v := nI 0) C.1 C.2.1 dX2_firstOf_4 (by decide) ?_
  refine lv_istore_n (lv' := [(2, .int (nI 0)), (0, .ref h0), (1, .int K)]) C.1 C.2.1 dX2_firstOf_5 rfl hl (by decide) rfl (fun ls hl => ?_)
  refine lv_iconst (v := nI 0) C.1 C.2.1 dX2_firstOf_6 (by decide) ?_
  refine lv_istore_n (lv' := [(3, .int (nI 0)), (2, .int (nI 0)), (0, .ref h0), (1, .int K)]) C.1 C.2.1 dX2_firstOf_7 rfl hl (by decide) rfl (fun ls hl => ?_)
  refine fo_loop C (fun q H locs ls h1 h2 h3 w hl => ?_) (fun H locs ls h1 w => ?_) 196 0 _ _ w (by omega) (fun q' hq' => absurd hq' (Nat.not_lt_zero _)) ls (lv_sub hl [0, 1, 2, 3] rfl)
  · refine lv_iload_n C.1 C.2.1 dX2_firstOf_29 rfl (lv_at hl 0 rfl) ?_
    exact z_iret C hr hlk w ⟨Or.inl ⟨q, ⟨h1, h2, h3⟩, rfl⟩, rfl⟩ dX2_firstOf_30
  · refine lv_iconst (v := (-1)) C.1 C.2.1 dX2_firstOf_40 (by decide) ?_
    exact z_iret C hr hlk w ⟨Or.inr ⟨rfl, h1⟩, rfl⟩ dX2_firstOf_41
section
variable {p : Program} {l : Launch} {e : Env} {R : Room} {s : State} {m : MethodId} {args : Array Value} {below : List Frame} {meth : Method} {c : Code} {H : Heap} {locs : List Loc} {Q : State → Prop}
variable {G : va_G} {A : Nat → Prop} {H0 : Heap} {σ : Nat → Nat → Nat} {h0 : Nat} {r : Nat → Nat} {d : Nat → ClassId}
theorem ar_loop {f : Nat} (C : zC p m c cX2_area 5 s args RX2) (hf : f < 196) : ∀ n q H locs, mlW G h0 r d A s H0 H locs σ → q + n = 196 → ∀ ls, lv_has ls 5 [(4, .int (nI q)), (3, .int (nI (ncnt (fun q => σ 3 q = f) q))), (0, .ref h0), (2, .int (nI f))] → (∀ H locs ls, mlW G h0 r d A s H0 H locs σ → lv_has ls 5 [(3, .int (nI (ncnt (fun q => σ 3 q = f) 196)))] → W p l e (rmF 5 116) s m args below meth c H locs 0 0 Q (F0 m 45 ls [])) → W p l e (rmF 5 116) s m args below meth c H locs 0 0 Q (F0 m 17 ls []) := by
  intro n
  induction n with
  | zero =>
    intro q H locs w hn ls hl K
    obtain rfl : q = 196 := by omega
    refine lv_iload C.1 C.2.1 dX2_area_17 (lv_at hl 0 rfl) ?_
    refine lv_sipush (v := nI 196) C.1 C.2.1 dX2_area_19 (by decide) ?_
    refine z_cmp_ge (tgt := 45) C dX2_area_22 (by decide) (by decide) (by omega) (fun c_22 => ?_) (fun c_22 => ?_)
    · exact K H locs ls w (lv_sub hl [1] rfl)
    · exact absurd c_22 (by decide)
  | succ n ih =>
    intro q H locs w hn ls hl K
    have b3 := w.2.2.2.2.2 3 q
    refine lv_iload C.1 C.2.1 dX2_area_17 (lv_at hl 0 rfl) ?_
    refine lv_sipush (v := nI 196) C.1 C.2.1 dX2_area_19 (by decide) ?_
    refine z_cmp_ge (tgt := 45) C dX2_area_22 (by decide) (by omega) (by omega) (fun c_22 => ?_) (fun c_22 => ?_)
    · exact absurd c_22 (by omega)
    · refine lv_aload_n C.1 C.2.1 dX2_area_25 rfl (lv_at hl 2 rfl) ?_
      refine ml_g3 C w dX2_area_26 ?_
      refine lv_iload C.1 C.2.1 dX2_area_29 (lv_at hl 0 rfl) ?_
      refine ml_l3 C w (by omega) dX2_area_31 ?_
      refine lv_iload_n C.1 C.2.1 dX2_area_32 rfl (lv_at hl 3 rfl) ?_
      refine z_cmp_ne (tgt := 39) C dX2_area_33 (by decide) (by omega) (by omega) (fun c_33 => ?_) (fun c_33 => ?_)
      · refine lv_iinc (lv' := [(4, .int (nI (q + 1))), (3, .int (nI (ncnt (fun q => σ 3 q = f) q))), (0, .ref h0), (2, .int (nI f))]) C.1 C.2.1 dX2_area_39 hl (k := 0) rfl (nI_add _ _) (by decide) rfl (fun ls hl => ?_)
        refine lv_goto (tgt := 17) C.1 C.2.1 dX2_area_42 (by decide) ?_
        rw [← ncnt_s0 (P := (fun q => σ 3 q = f)) (n := q) (c_33)] at hl
        exact ih (q + 1) H locs w (by omega) ls (lv_sub hl [0, 1, 2, 3] rfl) K
      · refine lv_iinc (lv' := [(3, .int (nI ((ncnt (fun q => σ 3 q = f) q) + 1))), (4, .int (nI q)), (0, .ref h0), (2, .int (nI f))]) C.1 C.2.1 dX2_area_36 hl (k := 1) rfl (nI_add _ _) (by decide) rfl (fun ls hl => ?_)
        refine lv_iinc (lv' := [(4, .int (nI (q + 1))), (3, .int (nI ((ncnt (fun q => σ 3 q = f) q) + 1))), (0, .ref h0), (2, .int (nI f))]) C.1 C.2.1 dX2_area_39 hl (k := 1) rfl (nI_add _ _) (by decide) rfl (fun ls hl => ?_)
        refine lv_goto (tgt := 17) C.1 C.2.1 dX2_area_42 (by decide) ?_
        rw [← ncnt_s1 (P := (fun q => σ 3 q = f)) (n := q) (c_33)] at hl
        exact ih (q + 1) H locs w (by omega) ls (lv_sub hl [0, 1, 2, 3] rfl) K
end
theorem m_marea (l : Launch) (G : va_G) (h0 : Nat) (r : Nat → Nat) (d : Nat → ClassId) (σ : Nat → Nat → Nat) (K : Int32)  : zMi l yX2_area cX2_area 5 (some .int) (rmF 5 116) G (mlT d) (mlC h0 r d) [.ref h0, .int K] σ (fun v σ' => ((∃ f, (f < 196 ∧ (frF σ 2 f = 1 ∧ frF σ 3 f = f) ∧ nI (ncnt (fun q => (frF σ) 2 q = 1 ∧ (frF σ) 3 q = q) f) = K) ∧ v = nI (ncnt (fun q => frF σ 3 q = f) 196)) ∨ (v = -1 ∧ (∀ q, q < 196 → frF σ 2 q = 1 ∧ frF σ 3 q = q → nI (ncnt (fun q => (frF σ) 2 q = 1 ∧ (frF σ) 3 q = q) q) ≠ K))) ∧ σ' = frF σ) := by
  refine zMi_of (own := RX2) (by decide) rfl (Nat.le_of_ble_eq_true rfl) ?_
  intro p e s m args below meth c A ls C hr hlk w hl
  have hl : lv_has ls 5 [(0, .ref h0), (1, .int K)] := hl
  have hbd := w.2.2.2.2.2
  refine lv_aload_n C.1 C.2.1 dX2_area_0 rfl (lv_at hl 0 rfl) ?_
  refine lv_iload_n C.1 C.2.1 dX2_area_1 rfl (lv_at hl 1 rfl) ?_
  refine z_calli (As := [.int K]) C (m_firstOf l G h0 r d σ K) (cwV 1 C.2.2.2.2 (lw_V q279 q281 qs20 q28 q282) rfl rfl rfl (by decide +kernel) ⟨Nat.le_of_ble_eq_true rfl, Nat.le_of_ble_eq_true rfl⟩) w (ml_rc w) rfl hl.1 rfl (Nat.le_of_ble_eq_true rfl) dX2_area_2 ⟨Nat.le_refl _, Nat.le_refl _⟩ (fun v1 s1 H locs hp w => ?_)
  obtain ⟨hv, hσ⟩ := hp
  rw [hσ] at w
  have hbd := w.2.2.2.2.2
  rcases hv with ⟨f, ⟨f1, f2, f3⟩, rfl⟩ | ⟨rfl, hno⟩
  · refine lv_istore_n (lv' := [(2, .int (nI f)), (0, .ref h0), (1, .int K)]) C.1 C.2.1 dX2_area_5 rfl hl (by decide) rfl (fun ls hl => ?_)
    refine lv_iload_n C.1 C.2.1 dX2_area_6 rfl (lv_at hl 0 rfl) ?_
    refine z_if_ge (tgt := 12) C dX2_area_7 (by decide) (by omega) ?_
    refine lv_iconst (v := nI 0) C.1 C.2.1 dX2_area_12 (by decide) ?_
    refine lv_istore_n (lv' := [(3, .int (nI 0)), (2, .int (nI f)), (0, .ref h0), (1, .int K)]) C.1 C.2.1 dX2_area_13 rfl hl (by decide) rfl (fun ls hl => ?_)
    refine lv_iconst (v := nI 0) C.1 C.2.1 dX2_area_14 (by decide) ?_
    refine lv_istore (lv' := [(4, .int (nI 0)), (3, .int (nI 0)), (2, .int (nI f)), (0, .ref h0), (1, .int K)]) C.1 C.2.1 dX2_area_15 hl (by decide) rfl (fun ls hl => ?_)
    refine ar_loop C f1 196 0 _ _ w (by omega) ls (lv_sub hl [0, 1, 3, 2] rfl) (fun H locs ls w hl => ?_)
    refine lv_iload_n C.1 C.2.1 dX2_area_45 rfl (lv_at hl 0 rfl) ?_
    exact z_iret C hr hlk w ⟨Or.inl ⟨f, ⟨f1, f2, f3⟩, rfl⟩, rfl⟩ dX2_area_46
  · refine lv_istore_n (lv' := [(2, .int (-1)), (0, .ref h0), (1, .int K)]) C.1 C.2.1 dX2_area_5 rfl hl (by decide) rfl (fun ls hl => ?_)
    refine lv_iload_n C.1 C.2.1 dX2_area_6 rfl (lv_at hl 0 rfl) ?_
    refine lv_if_ge (tgt := 12) C.1 C.2.1 dX2_area_7 (by decide) (fun c_7 => ?_) (fun c_7 => ?_)
    · exact absurd c_7 (by decide)
    · refine lv_iconst (v := (-1)) C.1 C.2.1 dX2_area_10 (by decide) ?_
      exact z_iret C hr hlk w ⟨Or.inr ⟨rfl, hno⟩, rfl⟩ dX2_area_11
end
section
set_option maxRecDepth 100000
/-! ===== CompLabelModel: holes, around, enclosed ===== -/
theorem z_eqs {a b k : Nat} (ha : a < 32768) (hb : b < 32768) (hk : k < 32768) : nI a = nI b - nI k ↔ a + k = b := by
  constructor
  · intro h
    have h2 : nI a + nI k = nI b := by rw [h]; exact Int32.sub_add_cancel _ _
    rw [nI_add] at h2
    exact (nI_eq (by omega) (by omega)).mp h2
  · intro h
    rw [pk_sub (by omega), ← h, Nat.add_sub_cancel]
/-- place q with its neighbour i lies at the border of rg against cp, one change deeper -/
def HoleQ (s : Nat → Nat → Nat) (rg cp q i : Nat) : Prop := nr q (2 * i + 1) < 196 ∧ s 3 q = rg ∧ s 3 (nr q (2 * i + 1)) = cp ∧ s 4 (nr q (2 * i + 1)) + 1 = s 4 q
def HoleP (s : Nat → Nat → Nat) (rg cp : Nat) : Prop := ∃ q i, q < 196 ∧ i < 4 ∧ HoleQ s rg cp q i
section
variable {p : Program} {l : Launch} {e : Env} {R : Room} {s : State} {m : MethodId} {args : Array Value} {below : List Frame} {meth : Method} {c : Code} {H : Heap} {locs : List Loc} {Q : State → Prop}
variable {G : va_G} {A : Nat → Prop} {H0 : Heap} {σ : Nat → Nat → Nat} {h0 : Nat} {r : Nat → Nat} {d : Nat → ClassId}
theorem hl_in {rg cp q : Nat} (C : zC p m c cX2_isHole 6 s args RX2) (hq : q < 196) (hrg : rg < 196) (hcp : cp < 196) (KR : ∀ i H locs ls, i < 4 → HoleQ σ rg cp q i → mlW G h0 r d A s H0 H locs σ → W p l e (rmF 1 24) s m args below meth c H locs 0 0 Q (F0 m 72 ls [])) (KX : ∀ H locs ls, (∀ i, i < 4 → ¬ HoleQ σ rg cp q i) → mlW G h0 r d A s H0 H locs σ → lv_has ls 6 [(3, .int (nI q)), (0, .ref h0), (1, .int (nI rg)), (2, .int (nI cp))] → W p l e (rmF 1 24) s m args below meth c H locs 0 0 Q (F0 m 80 ls [])) :
    ∀ n k H locs, mlW G h0 r d A s H0 H locs σ → k + n = 4 → (∀ i, i < k → ¬ HoleQ σ rg cp q i) → ∀ ls, lv_has ls 6 [(4, .int (nI (2 * k + 1))), (3, .int (nI q)), (0, .ref h0), (1, .int (nI rg)), (2, .int (nI cp))] → W p l e (rmF 1 24) s m args below meth c H locs 0 0 Q (F0 m 12 ls []) := by
  intro n
  induction n with
  | zero =>
    intro k H locs w hn hno ls hl
    refine lv_iload C.1 C.2.1 dX2_isHole_12 (lv_at hl 0 rfl) ?_
    refine lv_bipush (v := nI 9) C.1 C.2.1 dX2_isHole_14 (by decide) ?_
    refine z_cmp_ge (tgt := 80) C dX2_isHole_16 (by decide) (by omega) (by omega) (fun c_16 => ?_) (fun c_16 => ?_)
    · exact KX H locs ls (fun i hi => hno i (by omega)) w (lv_sub hl [1, 2, 3, 4] rfl)
    · exact absurd c_16 (by omega)
  | succ n ih =>
    intro k H locs w hn hno ls hl
    have r1 := w.2.2.2.2.2 3 q
    have r2 := w.2.2.2.2.2 3 (nr q (2 * k + 1))
    have r3 := w.2.2.2.2.2 4 q
    have r4 := w.2.2.2.2.2 4 (nr q (2 * k + 1))
    have r5 := z_eqs r4 r3 (k := 1) (by decide)
    refine lv_iload C.1 C.2.1 dX2_isHole_12 (lv_at hl 0 rfl) ?_
    refine lv_bipush (v := nI 9) C.1 C.2.1 dX2_isHole_14 (by decide) ?_
    refine z_cmp_ge (tgt := 80) C dX2_isHole_16 (by decide) (by omega) (by omega) (fun c_16 => ?_) (fun c_16 => ?_)
    · exact absurd c_16 (by omega)
    · refine lv_aload_n C.1 C.2.1 dX2_isHole_19 rfl (lv_at hl 2 rfl) ?_
      refine lv_iload_n C.1 C.2.1 dX2_isHole_20 rfl (lv_at hl 1 rfl) ?_
      refine lv_iload C.1 C.2.1 dX2_isHole_21 (lv_at hl 0 rfl) ?_
      refine z_calli (As := [.int (nI q), .int (nI (2 * k + 1))]) C (m_near l G h0 r d σ q (2 * k + 1) (by omega) (by omega)) (cwV 2 C.2.2.2.2 (lw_V q247 q249 qs15 q28 q250) rfl rfl rfl (by decide +kernel) ⟨Nat.le_of_ble_eq_true rfl, Nat.le_of_ble_eq_true rfl⟩) w (ml_rc w) rfl hl.1 rfl (Nat.le_of_ble_eq_true rfl) dX2_isHole_23 ⟨Nat.le_refl _, Nat.le_refl _⟩ (fun v1 s1 H locs hp w => ?_)
      obtain ⟨hv, hσ⟩ := hp
      subst hv
      rw [hσ] at w
      by_cases hn : nr q (2 * k + 1) < 196
      · rw [if_pos hn]
        refine lv_istore (lv' := [(5, .int (nI (nr q (2 * k + 1)))), (4, .int (nI (2 * k + 1))), (3, .int (nI q)), (0, .ref h0), (1, .int (nI rg)), (2, .int (nI cp))]) C.1 C.2.1 dX2_isHole_26 hl (by decide) rfl (fun ls hl => ?_)
        refine lv_iload C.1 C.2.1 dX2_isHole_28 (lv_at hl 0 rfl) ?_
        refine z_if_lt (tgt := 74) C dX2_isHole_30 (by decide) (by omega) ?_
        refine lv_aload_n C.1 C.2.1 dX2_isHole_33 rfl (lv_at hl 3 rfl) ?_
        refine ml_g3 C w dX2_isHole_34 ?_
        refine lv_iload_n C.1 C.2.1 dX2_isHole_37 rfl (lv_at hl 2 rfl) ?_
        refine ml_l3 C w (by omega) dX2_isHole_38 ?_
        refine lv_iload_n C.1 C.2.1 dX2_isHole_39 rfl (lv_at hl 4 rfl) ?_
        refine z_cmp_ne (tgt := 74) C dX2_isHole_40 (by decide) (by omega) (by omega) (fun c_40 => ?_) (fun c_40 => ?_)
        · refine lv_iinc (lv' := [(4, .int (nI ((2 * k + 1) + 2))), (5, .int (nI (nr q (2 * k + 1)))), (3, .int (nI q)), (0, .ref h0), (1, .int (nI rg)), (2, .int (nI cp))]) C.1 C.2.1 dX2_isHole_74 hl (k := 1) rfl (nI_add _ _) (by decide) rfl (fun ls hl => ?_)
          refine lv_goto (tgt := 12) C.1 C.2.1 dX2_isHole_77 (by decide) ?_
          have e1 : ¬ HoleQ σ rg cp q k := fun z => c_40 z.2.1
          rw [show 2 * k + 1 + 2 = 2 * (k + 1) + 1 by omega] at hl
          refine ih (k + 1) H locs w (by omega) (fun i hi => ?_) ls (lv_sub hl [0, 2, 3, 4, 5] rfl)
          rcases Nat.lt_or_eq_of_le (Nat.le_of_lt_succ hi) with z | z
          · exact hno i z
          · rw [z]; exact e1
        · refine lv_aload_n C.1 C.2.1 dX2_isHole_43 rfl (lv_at hl 3 rfl) ?_
          refine ml_g3 C w dX2_isHole_44 ?_
          refine lv_iload C.1 C.2.1 dX2_isHole_47 (lv_at hl 0 rfl) ?_
          refine ml_l3 C w (by omega) dX2_isHole_49 ?_
          refine lv_iload_n C.1 C.2.1 dX2_isHole_50 rfl (lv_at hl 5 rfl) ?_
          refine z_cmp_ne (tgt := 74) C dX2_isHole_51 (by decide) (by omega) (by omega) (fun c_51 => ?_) (fun c_51 => ?_)
          · refine lv_iinc (lv' := [(4, .int (nI ((2 * k + 1) + 2))), (5, .int (nI (nr q (2 * k + 1)))), (3, .int (nI q)), (0, .ref h0), (1, .int (nI rg)), (2, .int (nI cp))]) C.1 C.2.1 dX2_isHole_74 hl (k := 1) rfl (nI_add _ _) (by decide) rfl (fun ls hl => ?_)
            refine lv_goto (tgt := 12) C.1 C.2.1 dX2_isHole_77 (by decide) ?_
            have e1 : ¬ HoleQ σ rg cp q k := fun z => c_51 z.2.2.1
            rw [show 2 * k + 1 + 2 = 2 * (k + 1) + 1 by omega] at hl
            refine ih (k + 1) H locs w (by omega) (fun i hi => ?_) ls (lv_sub hl [0, 2, 3, 4, 5] rfl)
            rcases Nat.lt_or_eq_of_le (Nat.le_of_lt_succ hi) with z | z
            · exact hno i z
            · rw [z]; exact e1
          · refine lv_aload_n C.1 C.2.1 dX2_isHole_54 rfl (lv_at hl 3 rfl) ?_
            refine ml_g4 C w dX2_isHole_55 ?_
            refine lv_iload C.1 C.2.1 dX2_isHole_58 (lv_at hl 0 rfl) ?_
            refine ml_l4 C w (by omega) dX2_isHole_60 ?_
            refine lv_aload_n C.1 C.2.1 dX2_isHole_61 rfl (lv_at hl 3 rfl) ?_
            refine ml_g4 C w dX2_isHole_62 ?_
            refine lv_iload_n C.1 C.2.1 dX2_isHole_65 rfl (lv_at hl 2 rfl) ?_
            refine ml_l4 C w (by omega) dX2_isHole_66 ?_
            refine lv_iconst (v := nI 1) C.1 C.2.1 dX2_isHole_67 (by decide) ?_
            refine lv_isub C.1 C.2.1 dX2_isHole_68 ?_
            refine lv_icmp_ne (tgt := 74) C.1 C.2.1 dX2_isHole_69 (by decide) (fun c_69 => ?_) (fun c_69 => ?_)
            · refine lv_iinc (lv' := [(4, .int (nI ((2 * k + 1) + 2))), (5, .int (nI (nr q (2 * k + 1)))), (3, .int (nI q)), (0, .ref h0), (1, .int (nI rg)), (2, .int (nI cp))]) C.1 C.2.1 dX2_isHole_74 hl (k := 1) rfl (nI_add _ _) (by decide) rfl (fun ls hl => ?_)
              refine lv_goto (tgt := 12) C.1 C.2.1 dX2_isHole_77 (by decide) ?_
              have e1 : ¬ HoleQ σ rg cp q k := fun z => c_69 (r5.mpr z.2.2.2)
              rw [show 2 * k + 1 + 2 = 2 * (k + 1) + 1 by omega] at hl
              refine ih (k + 1) H locs w (by omega) (fun i hi => ?_) ls (lv_sub hl [0, 2, 3, 4, 5] rfl)
              rcases Nat.lt_or_eq_of_le (Nat.le_of_lt_succ hi) with z | z
              · exact hno i z
              · rw [z]; exact e1
            · exact KR k H locs ls (by omega) ⟨hn, c_40, c_51, r5.mp c_69⟩ w
      · rw [if_neg hn]
        refine lv_istore (lv' := [(5, .int (-1)), (4, .int (nI (2 * k + 1))), (3, .int (nI q)), (0, .ref h0), (1, .int (nI rg)), (2, .int (nI cp))]) C.1 C.2.1 dX2_isHole_26 hl (by decide) rfl (fun ls hl => ?_)
        refine lv_iload C.1 C.2.1 dX2_isHole_28 (lv_at hl 0 rfl) ?_
        refine lv_if_lt (tgt := 74) C.1 C.2.1 dX2_isHole_30 (by decide) (fun c_30 => ?_) (fun c_30 => ?_)
        · refine lv_iinc (lv' := [(4, .int (nI ((2 * k + 1) + 2))), (5, .int (-1)), (3, .int (nI q)), (0, .ref h0), (1, .int (nI rg)), (2, .int (nI cp))]) C.1 C.2.1 dX2_isHole_74 hl (k := 1) rfl (nI_add _ _) (by decide) rfl (fun ls hl => ?_)
          refine lv_goto (tgt := 12) C.1 C.2.1 dX2_isHole_77 (by decide) ?_
          have e1 : ¬ HoleQ σ rg cp q k := fun z => hn z.1
          rw [show 2 * k + 1 + 2 = 2 * (k + 1) + 1 by omega] at hl
          refine ih (k + 1) H locs w (by omega) (fun i hi => ?_) ls (lv_sub hl [0, 2, 3, 4, 5] rfl)
          rcases Nat.lt_or_eq_of_le (Nat.le_of_lt_succ hi) with z | z
          · exact hno i z
          · rw [z]; exact e1
        · exact absurd (by decide) c_30
theorem hl_out {rg cp : Nat} (C : zC p m c cX2_isHole 6 s args RX2) (hrg : rg < 196) (hcp : cp < 196) (KR : ∀ H locs ls, HoleP σ rg cp → mlW G h0 r d A s H0 H locs σ → W p l e (rmF 1 24) s m args below meth c H locs 0 0 Q (F0 m 72 ls [])) (KX : ∀ H locs ls, ¬ HoleP σ rg cp → mlW G h0 r d A s H0 H locs σ → W p l e (rmF 1 24) s m args below meth c H locs 0 0 Q (F0 m 86 ls [])) :
    ∀ n q H locs, mlW G h0 r d A s H0 H locs σ → q + n = 196 → (∀ q' i, q' < q → i < 4 → ¬ HoleQ σ rg cp q' i) → ∀ ls, lv_has ls 6 [(3, .int (nI q)), (0, .ref h0), (1, .int (nI rg)), (2, .int (nI cp))] → W p l e (rmF 1 24) s m args below meth c H locs 0 0 Q (F0 m 2 ls []) := by
  intro n
  induction n with
  | zero =>
    intro q H locs w hn hno ls hl
    refine lv_iload_n C.1 C.2.1 dX2_isHole_2 rfl (lv_at hl 0 rfl) ?_
    refine lv_sipush (v := nI 196) C.1 C.2.1 dX2_isHole_3 (by decide) ?_
    refine z_cmp_ge (tgt := 86) C dX2_isHole_6 (by decide) (by omega) (by omega) (fun c_6 => ?_) (fun c_6 => ?_)
    · exact KX H locs ls (fun z => by obtain ⟨q', i, h1, h2, h3⟩ := z; exact hno q' i (by omega) h2 h3) w
    · exact absurd c_6 (by omega)
  | succ n ih =>
    intro q H locs w hn hno ls hl
    refine lv_iload_n C.1 C.2.1 dX2_isHole_2 rfl (lv_at hl 0 rfl) ?_
    refine lv_sipush (v := nI 196) C.1 C.2.1 dX2_isHole_3 (by decide) ?_
    refine z_cmp_ge (tgt := 86) C dX2_isHole_6 (by decide) (by omega) (by omega) (fun c_6 => ?_) (fun c_6 => ?_)
    · exact absurd c_6 (by omega)
    · refine lv_iconst (v := nI 1) C.1 C.2.1 dX2_isHole_9 (by decide) ?_
      refine lv_istore (lv' := [(4, .int (nI 1)), (3, .int (nI q)), (0, .ref h0), (1, .int (nI rg)), (2, .int (nI cp))]) C.1 C.2.1 dX2_isHole_10 hl (by decide) rfl (fun ls hl => ?_)
      refine hl_in C (by omega) hrg hcp (fun i H locs ls hi hh w => KR H locs ls ⟨q, i, by omega, hi, hh⟩ w) (fun H locs ls hno2 w hl => ?_) 4 0 _ _ w (by omega) (fun i hi => absurd hi (Nat.not_lt_zero _)) ls (lv_sub hl [0, 1, 2, 3, 4] rfl)
      refine lv_iinc (lv' := [(3, .int (nI (q + 1))), (0, .ref h0), (1, .int (nI rg)), (2, .int (nI cp))]) C.1 C.2.1 dX2_isHole_80 hl (k := 0) rfl (nI_add _ _) (by decide) rfl (fun ls hl => ?_)
      refine lv_goto (tgt := 2) C.1 C.2.1 dX2_isHole_83 (by decide) ?_
      refine ih (q + 1) H locs w (by omega) (fun q' i hq' hi => ?_) ls hl
      rcases Nat.lt_or_eq_of_le (Nat.le_of_lt_succ hq') with z | z
      · exact hno q' i z hi
      · rw [z]; exact hno2 i hi
end
theorem m_isHole (l : Launch) (G : va_G) (h0 : Nat) (r : Nat → Nat) (d : Nat → ClassId) (σ : Nat → Nat → Nat) (rg cp : Nat) (hrg : rg < 196) (hcp : cp < 196) : zMi l yX2_isHole cX2_isHole 6 (some .boolean) (rmF 1 24) G (mlT d) (mlC h0 r d) [.ref h0, .int (nI rg), .int (nI cp)] σ (fun v σ' => ((HoleP σ rg cp ∧ v = nI 1) ∨ (¬ HoleP σ rg cp ∧ v = nI 0)) ∧ σ' = σ) := by
  refine zMi_of (own := RX2) (by decide) rfl (Nat.le_of_ble_eq_true rfl) ?_
  intro p e s m args below meth c A ls C hr hlk w hl
  have hl : lv_has ls 6 [(0, .ref h0), (1, .int (nI rg)), (2, .int (nI cp))] := hl
  have hbd := w.2.2.2.2.2
  refine lv_iconst (v := nI 0) C.1 C.2.1 dX2_isHole_0 (by decide) ?_
  refine lv_istore_n (lv' := [(3, .int (nI 0)), (0, .ref h0), (1, .int (nI rg)), (2, .int (nI cp))]) C.1 C.2.1 dX2_isHole_1 rfl hl (by decide) rfl (fun ls hl => ?_)
  refine hl_out C hrg hcp (fun H locs ls hh w => ?_) (fun H locs ls hh w => ?_) 196 0 _ _ w (by omega) (fun q' i hq' => absurd hq' (Nat.not_lt_zero _)) ls (lv_sub hl [0, 1, 2, 3] rfl)
  · refine lv_iconst (v := nI 1) C.1 C.2.1 dX2_isHole_72 (by decide) ?_
    exact z_zret C hr hlk w (by decide) ⟨Or.inl ⟨hh, rfl⟩, rfl⟩ dX2_isHole_73
  · refine lv_iconst (v := nI 0) C.1 C.2.1 dX2_isHole_86 (by decide) ?_
    exact z_zret C hr hlk w (by decide) ⟨Or.inr ⟨hh, rfl⟩, rfl⟩ dX2_isHole_87
section
variable {p : Program} {l : Launch} {e : Env} {R : Room} {s : State} {m : MethodId} {args : Array Value} {below : List Frame} {meth : Method} {c : Code} {H : Heap} {locs : List Loc} {Q : State → Prop}
variable {G : va_G} {A : Nat → Prop} {H0 : Heap} {σ : Nat → Nat → Nat} {h0 : Nat} {r : Nat → Nat} {d : Nat → ClassId}
theorem ho_loop {f : Nat} (C : zC p m c cX2_holes 5 s args RX2) (hf : f < 196) : ∀ n q H locs, mlW G h0 r d A s H0 H locs σ → 1 ≤ q → q + n = 196 → ∀ ls, lv_has ls 5 [(4, .int (nI q)), (3, .int (nI (ncnt (fun q => 1 ≤ q ∧ (σ 2 q = 0 ∧ σ 3 q = q) ∧ HoleP σ q f) q))), (0, .ref h0), (2, .int (nI f))] → (∀ H locs ls, mlW G h0 r d A s H0 H locs σ → lv_has ls 5 [(3, .int (nI (ncnt (fun q => 1 ≤ q ∧ (σ 2 q = 0 ∧ σ 3 q = q) ∧ HoleP σ q f) 196)))] → W p l e (rmF 5 116) s m args below meth c H locs 0 0 Q (F0 m 58 ls [])) → W p l e (rmF 5 116) s m args below meth c H locs 0 0 Q (F0 m 21 ls []) := by
  intro n
  induction n with
  | zero =>
    intro q H locs w hq1 hn ls hl K
    obtain rfl : q = 196 := by omega
    refine lv_iload C.1 C.2.1 dX2_holes_21 (lv_at hl 0 rfl) ?_
    refine lv_sipush (v := nI 196) C.1 C.2.1 dX2_holes_23 (by decide) ?_
    refine z_cmp_ge (tgt := 58) C dX2_holes_26 (by decide) (by decide) (by omega) (fun c_26 => ?_) (fun c_26 => ?_)
    · exact K H locs ls w (lv_sub hl [1] rfl)
    · exact absurd c_26 (by decide)
  | succ n ih =>
    intro q H locs w hq1 hn ls hl K
    refine lv_iload C.1 C.2.1 dX2_holes_21 (lv_at hl 0 rfl) ?_
    refine lv_sipush (v := nI 196) C.1 C.2.1 dX2_holes_23 (by decide) ?_
    refine z_cmp_ge (tgt := 58) C dX2_holes_26 (by decide) (by omega) (by omega) (fun c_26 => ?_) (fun c_26 => ?_)
    · exact absurd c_26 (by omega)
    · refine lv_aload_n C.1 C.2.1 dX2_holes_29 rfl (lv_at hl 2 rfl) ?_
      refine lv_iload C.1 C.2.1 dX2_holes_30 (lv_at hl 0 rfl) ?_
      refine lv_iconst (v := nI 0) C.1 C.2.1 dX2_holes_32 (by decide) ?_
      refine z_calli (As := [.int (nI q), .int (nI 0)]) C (m_isFirst l G h0 r d σ q 0 (by omega) (by omega)) (cwV 2 C.2.2.2.2 (lw_V q263 q265 qs19 q28 q266) rfl rfl rfl (by decide +kernel) ⟨Nat.le_of_ble_eq_true rfl, Nat.le_of_ble_eq_true rfl⟩) w (ml_rc w) rfl hl.1 rfl (Nat.le_of_ble_eq_true rfl) dX2_holes_33 ⟨Nat.le_refl _, Nat.le_refl _⟩ (fun v1 s1 H locs hp w => ?_)
      obtain ⟨hv, hσ⟩ := hp
      subst hv
      rw [hσ] at w
      refine z_if_eq (tgt := 52) C dX2_holes_36 (by decide) z_ifB (fun c_36 => ?_) (fun c_36 => ?_)
      · refine lv_iinc (lv' := [(4, .int (nI (q + 1))), (3, .int (nI (ncnt (fun q => 1 ≤ q ∧ (σ 2 q = 0 ∧ σ 3 q = q) ∧ HoleP σ q f) q))), (0, .ref h0), (2, .int (nI f))]) C.1 C.2.1 dX2_holes_52 hl (k := 0) rfl (nI_add _ _) (by decide) rfl (fun ls hl => ?_)
        refine lv_goto (tgt := 21) C.1 C.2.1 dX2_holes_55 (by decide) ?_
        rw [← ncnt_s0 (P := (fun q => 1 ≤ q ∧ (σ 2 q = 0 ∧ σ 3 q = q) ∧ HoleP σ q f)) (n := q) (fun z => z_ifN c_36 z.2.1)] at hl
        exact ih (q + 1) H locs w (by omega) (by omega) ls (lv_sub hl [0, 1, 2, 3] rfl) K
      · refine lv_aload_n C.1 C.2.1 dX2_holes_39 rfl (lv_at hl 2 rfl) ?_
        refine lv_iload C.1 C.2.1 dX2_holes_40 (lv_at hl 0 rfl) ?_
        refine lv_iload_n C.1 C.2.1 dX2_holes_42 rfl (lv_at hl 3 rfl) ?_
        refine z_calli (As := [.int (nI q), .int (nI f)]) C (m_isHole l G h0 r d σ q f (by omega) hf) (cwV 2 C.2.2.2.2 (lw_V q295 q297 qs23 q28 q298) rfl rfl rfl (by decide +kernel) ⟨Nat.le_of_ble_eq_true rfl, Nat.le_of_ble_eq_true rfl⟩) w (ml_rc w) rfl hl.1 rfl (Nat.le_of_ble_eq_true rfl) dX2_holes_43 ⟨Nat.le_refl _, Nat.le_refl _⟩ (fun v1 s1 H locs hp w => ?_)
        obtain ⟨hv, hσ⟩ := hp
        rw [hσ] at w
        rcases hv with ⟨hh, rfl⟩ | ⟨hh, rfl⟩
        · refine z_if_eq (tgt := 52) C dX2_holes_46 (by decide) (by decide) (fun c_46 => ?_) (fun c_46 => ?_)
          · exact absurd c_46 (by decide)
          · refine lv_iinc (lv' := [(3, .int (nI ((ncnt (fun q => 1 ≤ q ∧ (σ 2 q = 0 ∧ σ 3 q = q) ∧ HoleP σ q f) q) + 1))), (4, .int (nI q)), (0, .ref h0), (2, .int (nI f))]) C.1 C.2.1 dX2_holes_49 hl (k := 1) rfl (nI_add _ _) (by decide) rfl (fun ls hl => ?_)
            refine lv_iinc (lv' := [(4, .int (nI (q + 1))), (3, .int (nI ((ncnt (fun q => 1 ≤ q ∧ (σ 2 q = 0 ∧ σ 3 q = q) ∧ HoleP σ q f) q) + 1))), (0, .ref h0), (2, .int (nI f))]) C.1 C.2.1 dX2_holes_52 hl (k := 1) rfl (nI_add _ _) (by decide) rfl (fun ls hl => ?_)
            refine lv_goto (tgt := 21) C.1 C.2.1 dX2_holes_55 (by decide) ?_
            rw [← ncnt_s1 (P := (fun q => 1 ≤ q ∧ (σ 2 q = 0 ∧ σ 3 q = q) ∧ HoleP σ q f)) (n := q) (⟨hq1, z_ifP c_36, hh⟩)] at hl
            exact ih (q + 1) H locs w (by omega) (by omega) ls (lv_sub hl [0, 1, 2, 3] rfl) K
        · refine z_if_eq (tgt := 52) C dX2_holes_46 (by decide) (by decide) (fun c_46 => ?_) (fun c_46 => ?_)
          · refine lv_iinc (lv' := [(4, .int (nI (q + 1))), (3, .int (nI (ncnt (fun q => 1 ≤ q ∧ (σ 2 q = 0 ∧ σ 3 q = q) ∧ HoleP σ q f) q))), (0, .ref h0), (2, .int (nI f))]) C.1 C.2.1 dX2_holes_52 hl (k := 0) rfl (nI_add _ _) (by decide) rfl (fun ls hl => ?_)
            refine lv_goto (tgt := 21) C.1 C.2.1 dX2_holes_55 (by decide) ?_
            rw [← ncnt_s0 (P := (fun q => 1 ≤ q ∧ (σ 2 q = 0 ∧ σ 3 q = q) ∧ HoleP σ q f)) (n := q) (fun z => hh z.2.2)] at hl
            exact ih (q + 1) H locs w (by omega) (by omega) ls (lv_sub hl [0, 1, 2, 3] rfl) K
          · exact absurd rfl c_46
end
theorem m_mholes (l : Launch) (G : va_G) (h0 : Nat) (r : Nat → Nat) (d : Nat → ClassId) (σ : Nat → Nat → Nat) (K : Int32) (hb : Pic (σ 2)) : zMi l yX2_holes cX2_holes 5 (some .int) (rmF 5 116) G (mlT d) (mlC h0 r d) [.ref h0, .int K] σ (fun v σ' => ((∃ f, (f < 196 ∧ (frF σ 2 f = 1 ∧ frF σ 3 f = f) ∧ nI (ncnt (fun q => (frF σ) 2 q = 1 ∧ (frF σ) 3 q = q) f) = K) ∧ v = nI (ncnt (fun q => 1 ≤ q ∧ ((fcF (frF σ)) 2 q = 0 ∧ (fcF (frF σ)) 3 q = q) ∧ HoleP (fcF (frF σ)) q f) 196)) ∨ (v = -1 ∧ (∀ q, q < 196 → frF σ 2 q = 1 ∧ frF σ 3 q = q → nI (ncnt (fun q => (frF σ) 2 q = 1 ∧ (frF σ) 3 q = q) q) ≠ K))) ∧ (∀ k', k' < 3 → σ' k' = σ k')) := by
  refine zMi_of (own := RX2) (by decide) rfl (Nat.le_of_ble_eq_true rfl) ?_
  intro p e s m args below meth c A ls C hr hlk w hl
  have hl : lv_has ls 5 [(0, .ref h0), (1, .int K)] := hl
  have hbd := w.2.2.2.2.2
  have e0 : ∀ k', k' < 3 → frF σ k' = σ k' := fun k' h => (frF_ok σ).1 k' (by omega)
  have e1 : Pic (frF σ 2) → ∀ k', k' < 3 → fcF (frF σ) k' = σ k' := fun hb k' h => by rw [(fcF_ok (frF σ) hb).1 k' (by omega)]; exact e0 k' h
  replace e1 := e1 (by rw [e0 2 (by decide)]; exact hb)
  refine lv_aload_n C.1 C.2.1 dX2_holes_0 rfl (lv_at hl 0 rfl) ?_
  refine lv_iload_n C.1 C.2.1 dX2_holes_1 rfl (lv_at hl 1 rfl) ?_
  refine z_calli (As := [.int K]) C (m_firstOf l G h0 r d σ K) (cwV 1 C.2.2.2.2 (lw_V q279 q281 qs20 q28 q282) rfl rfl rfl (by decide +kernel) ⟨Nat.le_of_ble_eq_true rfl, Nat.le_of_ble_eq_true rfl⟩) w (ml_rc w) rfl hl.1 rfl (Nat.le_of_ble_eq_true rfl) dX2_holes_2 ⟨Nat.le_refl _, Nat.le_refl _⟩ (fun v1 s1 H locs hp w => ?_)
  obtain ⟨hv, hσ⟩ := hp
  rw [hσ] at w
  have hbd := w.2.2.2.2.2
  rcases hv with ⟨f, ⟨f1, f2, f3⟩, rfl⟩ | ⟨rfl, hno⟩
  · refine lv_istore_n (lv' := [(2, .int (nI f)), (0, .ref h0), (1, .int K)]) C.1 C.2.1 dX2_holes_5 rfl hl (by decide) rfl (fun ls hl => ?_)
    refine lv_iload_n C.1 C.2.1 dX2_holes_6 rfl (lv_at hl 0 rfl) ?_
    refine z_if_ge (tgt := 12) C dX2_holes_7 (by decide) (by omega) ?_
    refine lv_aload_n C.1 C.2.1 dX2_holes_12 rfl (lv_at hl 1 rfl) ?_
    refine z_callv (As := []) C (m_findChanges l G h0 r d (frF σ)) (cwV 0 C.2.2.2.2 (lw_V q287 q289 qs21 q28 q290) rfl rfl rfl (by decide +kernel) ⟨Nat.le_of_ble_eq_true rfl, Nat.le_of_ble_eq_true rfl⟩) w (ml_rc w) rfl hl.1 rfl (Nat.le_of_ble_eq_true rfl) dX2_holes_13 ⟨Nat.le_refl _, Nat.le_refl _⟩ (fun s1 H locs hp w => ?_)
    have hσ := hp
    rw [hσ] at w
    refine lv_iconst (v := nI 0) C.1 C.2.1 dX2_holes_16 (by decide) ?_
    refine lv_istore_n (lv' := [(3, .int (nI 0)), (2, .int (nI f)), (0, .ref h0), (1, .int K)]) C.1 C.2.1 dX2_holes_17 rfl hl (by decide) rfl (fun ls hl => ?_)
    refine lv_iconst (v := nI 1) C.1 C.2.1 dX2_holes_18 (by decide) ?_
    refine lv_istore (lv' := [(4, .int (nI 1)), (3, .int (nI 0)), (2, .int (nI f)), (0, .ref h0), (1, .int K)]) C.1 C.2.1 dX2_holes_19 hl (by decide) rfl (fun ls hl => ?_)
    have e9 : ncnt (fun q => 1 ≤ q ∧ ((fcF (frF σ)) 2 q = 0 ∧ (fcF (frF σ)) 3 q = q) ∧ HoleP (fcF (frF σ)) q f) 1 = 0 := ncnt_none (fun p hp z => absurd z.1 (by omega))
    rw [show nI 0 = nI (ncnt (fun q => 1 ≤ q ∧ ((fcF (frF σ)) 2 q = 0 ∧ (fcF (frF σ)) 3 q = q) ∧ HoleP (fcF (frF σ)) q f) 1) by rw [e9]] at hl
    refine ho_loop (σ := fcF (frF σ)) C f1 195 1 _ _ w (by omega) (by omega) ls (lv_sub hl [0, 1, 3, 2] rfl) (fun H locs ls w hl => ?_)
    refine lv_iload_n C.1 C.2.1 dX2_holes_58 rfl (lv_at hl 0 rfl) ?_
    exact z_iret C hr hlk w ⟨Or.inl ⟨f, ⟨f1, f2, f3⟩, rfl⟩, e1⟩ dX2_holes_59
  · refine lv_istore_n (lv' := [(2, .int (-1)), (0, .ref h0), (1, .int K)]) C.1 C.2.1 dX2_holes_5 rfl hl (by decide) rfl (fun ls hl => ?_)
    refine lv_iload_n C.1 C.2.1 dX2_holes_6 rfl (lv_at hl 0 rfl) ?_
    refine lv_if_ge (tgt := 12) C.1 C.2.1 dX2_holes_7 (by decide) (fun c_7 => ?_) (fun c_7 => ?_)
    · exact absurd c_7 (by decide)
    · refine lv_iconst (v := (-1)) C.1 C.2.1 dX2_holes_10 (by decide) ?_
      exact z_iret C hr hlk w ⟨Or.inr ⟨rfl, hno⟩, e0⟩ dX2_holes_11
end
section
set_option maxRecDepth 100000
/-! ===== CompLabelModel: around, enclosed ===== -/
def AroQ (s : Nat → Nat → Nat) (f q : Nat) : Prop := (s 2 q = 1 ∧ s 3 q = q) ∧ s 4 q + 2 = s 4 f ∧ anc (s 2) q (rt (s 2) f) = q
section
variable {p : Program} {l : Launch} {e : Env} {R : Room} {s : State} {m : MethodId} {args : Array Value} {below : List Frame} {meth : Method} {c : Code} {H : Heap} {locs : List Loc} {Q : State → Prop}
variable {G : va_G} {A : Nat → Prop} {H0 : Heap} {σ : Nat → Nat → Nat} {h0 : Nat} {r : Nat → Nat} {d : Nat → ClassId}
theorem ao_loop {f : Nat} (C : zC p m c cX2_around 4 s args RX2) (hb : Pic (σ 2)) (hρ : ∀ z, z < 196 → σ 3 z = rt (σ 2) z) (hf : f < 196)
    (KR : ∀ q μ H locs ls, q < 196 → AroQ σ f q → (∀ q', q' < q → ¬ AroQ σ f q') → (∀ k', k' ≠ 5 → μ k' = σ k') → mlW G h0 r d A s H0 H locs μ → lv_has ls 4 [(3, .int (nI q)), (0, .ref h0)] → W p l e (rmF 5 116) s m args below meth c H locs 0 0 Q (F0 m 65 ls []))
    (KX : ∀ μ H locs ls, (∀ q', q' < 196 → ¬ AroQ σ f q') → (∀ k', k' ≠ 5 → μ k' = σ k') → mlW G h0 r d A s H0 H locs μ → W p l e (rmF 5 116) s m args below meth c H locs 0 0 Q (F0 m 78 ls [])) :
    ∀ n q μ H locs, mlW G h0 r d A s H0 H locs μ → (∀ k', k' ≠ 5 → μ k' = σ k') → q + n = 196 → (∀ q', q' < q → ¬ AroQ σ f q') → ∀ ls, lv_has ls 4 [(3, .int (nI q)), (0, .ref h0), (2, .int (nI f))] → W p l e (rmF 5 116) s m args below meth c H locs 0 0 Q (F0 m 18 ls []) := by
  intro n
  induction n with
  | zero =>
    intro q μ H locs w hμ hn hno ls hl
    obtain rfl : q = 196 := by omega
    refine lv_iload_n C.1 C.2.1 dX2_around_18 rfl (lv_at hl 0 rfl) ?_
    refine lv_sipush (v := nI 196) C.1 C.2.1 dX2_around_19 (by decide) ?_
    refine z_cmp_ge (tgt := 78) C dX2_around_22 (by decide) (by decide) (by omega) (fun c_22 => ?_) (fun c_22 => ?_)
    · exact KX μ H locs ls hno hμ w
    · exact absurd c_22 (by decide)
  | succ n ih =>
    intro q μ H locs w hμ hn hno ls hl
    have e2 := hμ 2 (by decide)
    have e3 := hμ 3 (by decide)
    have e4 := hμ 4 (by decide)
    have b1 := w.2.2.2.2.2 4 q
    have b2 := w.2.2.2.2.2 4 f
    have r5 := z_eqs b1 b2 (k := 2) (by decide)
    rw [e4] at r5
    refine lv_iload_n C.1 C.2.1 dX2_around_18 rfl (lv_at hl 0 rfl) ?_
    refine lv_sipush (v := nI 196) C.1 C.2.1 dX2_around_19 (by decide) ?_
    refine z_cmp_ge (tgt := 78) C dX2_around_22 (by decide) (by omega) (by omega) (fun c_22 => ?_) (fun c_22 => ?_)
    · exact absurd c_22 (by omega)
    · refine lv_aload_n C.1 C.2.1 dX2_around_25 rfl (lv_at hl 1 rfl) ?_
      refine lv_iload_n C.1 C.2.1 dX2_around_26 rfl (lv_at hl 0 rfl) ?_
      refine lv_iconst (v := nI 1) C.1 C.2.1 dX2_around_27 (by decide) ?_
      refine z_calli (As := [.int (nI q), .int (nI 1)]) C (m_isFirst l G h0 r d μ q 1 (by omega) (by omega)) (cwV 2 C.2.2.2.2 (lw_V q263 q265 qs19 q28 q266) rfl rfl rfl (by decide +kernel) ⟨Nat.le_of_ble_eq_true rfl, Nat.le_of_ble_eq_true rfl⟩) w (ml_rc w) rfl hl.1 rfl (Nat.le_of_ble_eq_true rfl) dX2_around_28 ⟨Nat.le_refl _, Nat.le_refl _⟩ (fun v1 s1 H locs hp w => ?_)
      obtain ⟨hv, hσ⟩ := hp
      subst hv
      rw [hσ] at w
      refine z_if_eq (tgt := 72) C dX2_around_31 (by decide) z_ifB (fun c_31 => ?_) (fun c_31 => ?_)
      · refine lv_iinc (lv' := [(3, .int (nI (q + 1))), (0, .ref h0), (2, .int (nI f))]) C.1 C.2.1 dX2_around_72 hl (k := 0) rfl (nI_add _ _) (by decide) rfl (fun ls hl => ?_)
        refine lv_goto (tgt := 18) C.1 C.2.1 dX2_around_75 (by decide) ?_
        have e9 : ¬ AroQ σ f q := fun z => z_ifN c_31 (by rw [e2, e3]; exact z.1)
        refine ih (q + 1) μ H locs w hμ (by omega) (fun q' hq' => ?_) ls (lv_sub hl [0, 1, 2] rfl)
        rcases Nat.lt_or_eq_of_le (Nat.le_of_lt_succ hq') with z | z
        · exact hno q' z
        · rw [z]; exact e9
      · refine lv_aload_n C.1 C.2.1 dX2_around_34 rfl (lv_at hl 1 rfl) ?_
        refine ml_g4 C w dX2_around_35 ?_
        refine lv_iload_n C.1 C.2.1 dX2_around_38 rfl (lv_at hl 0 rfl) ?_
        refine ml_l4 C w (by omega) dX2_around_39 ?_
        refine lv_aload_n C.1 C.2.1 dX2_around_40 rfl (lv_at hl 1 rfl) ?_
        refine ml_g4 C w dX2_around_41 ?_
        refine lv_iload_n C.1 C.2.1 dX2_around_44 rfl (lv_at hl 2 rfl) ?_
        refine ml_l4 C w (by omega) dX2_around_45 ?_
        refine lv_iconst (v := nI 2) C.1 C.2.1 dX2_around_46 (by decide) ?_
        refine lv_isub C.1 C.2.1 dX2_around_47 ?_
        refine lv_icmp_ne (tgt := 72) C.1 C.2.1 dX2_around_48 (by decide) (fun c_48 => ?_) (fun c_48 => ?_)
        · refine lv_iinc (lv' := [(3, .int (nI (q + 1))), (0, .ref h0), (2, .int (nI f))]) C.1 C.2.1 dX2_around_72 hl (k := 0) rfl (nI_add _ _) (by decide) rfl (fun ls hl => ?_)
          refine lv_goto (tgt := 18) C.1 C.2.1 dX2_around_75 (by decide) ?_
          have e9 : ¬ AroQ σ f q := fun z => c_48 (by rw [e4]; exact r5.mpr z.2.1)
          refine ih (q + 1) μ H locs w hμ (by omega) (fun q' hq' => ?_) ls (lv_sub hl [0, 1, 2] rfl)
          rcases Nat.lt_or_eq_of_le (Nat.le_of_lt_succ hq') with z | z
          · exact hno q' z
          · rw [z]; exact e9
        · refine lv_aload_n C.1 C.2.1 dX2_around_51 rfl (lv_at hl 1 rfl) ?_
          refine lv_iload_n C.1 C.2.1 dX2_around_52 rfl (lv_at hl 0 rfl) ?_
          refine z_callv (As := [.int (nI q)]) C (m_findReached l G h0 r d μ q (by omega)) (cwV 1 C.2.2.2.2 (lw_V q303 q305 qs24 q28 q306) rfl rfl rfl (by decide +kernel) ⟨Nat.le_of_ble_eq_true rfl, Nat.le_of_ble_eq_true rfl⟩) w (ml_rc w) rfl hl.1 rfl (Nat.le_of_ble_eq_true rfl) dX2_around_53 ⟨Nat.le_refl _, Nat.le_refl _⟩ (fun s2 H locs hp w => ?_)
          have hσ := hp
          rw [hσ] at w
          have hfirst := z_ifP c_31
          rw [e2, e3] at hfirst
          have c48 := r5.mp (by rw [e4] at c_48; exact c_48)
          obtain ⟨g1, g2⟩ := faF_ok μ q (by rw [e2]; exact hb) (fun z hz => by rw [e2, e3]; exact hρ z hz) (by omega) (by rw [e2, hfirst.1]; decide)
          rw [e2] at g2
          have g3 : ∀ k', k' ≠ 5 → faF q μ k' = σ k' := fun k' h => by rw [g1 k' h]; exact hμ k' h
          have b5 := w.2.2.2.2.2 5 f
          refine lv_aload_n C.1 C.2.1 dX2_around_56 rfl (lv_at hl 1 rfl) ?_
          refine ml_g5 C w dX2_around_57 ?_
          refine lv_iload_n C.1 C.2.1 dX2_around_60 rfl (lv_at hl 2 rfl) ?_
          refine ml_l5 C w (by omega) dX2_around_61 ?_
          refine z_if_ne (tgt := 72) C dX2_around_62 (by decide) (by omega) (fun c_62 => ?_) (fun c_62 => ?_)
          · refine lv_iinc (lv' := [(3, .int (nI (q + 1))), (0, .ref h0), (2, .int (nI f))]) C.1 C.2.1 dX2_around_72 hl (k := 0) rfl (nI_add _ _) (by decide) rfl (fun ls hl => ?_)
            refine lv_goto (tgt := 18) C.1 C.2.1 dX2_around_75 (by decide) ?_
            have e9 : ¬ AroQ σ f q := fun z => ((g2 f hf).mp c_62) z.2.2
            refine ih (q + 1) (faF q μ) H locs w g3 (by omega) (fun q' hq' => ?_) ls (lv_sub hl [0, 1, 2] rfl)
            rcases Nat.lt_or_eq_of_le (Nat.le_of_lt_succ hq') with z | z
            · exact hno q' z
            · rw [z]; exact e9
          · refine KR q (faF q μ) H locs ls (by omega) ⟨hfirst, c48, Classical.not_not.mp (fun z => ((g2 f hf).mpr z) c_62)⟩ hno g3 w (lv_sub hl [0, 1] rfl)
end
theorem m_maround (l : Launch) (G : va_G) (h0 : Nat) (r : Nat → Nat) (d : Nat → ClassId) (σ : Nat → Nat → Nat) (K : Int32) (hb : Pic (σ 2)) : zMi l yX2_around cX2_around 4 (some .int) (rmF 5 116) G (mlT d) (mlC h0 r d) [.ref h0, .int K] σ (fun v σ' => ((∃ f, (f < 196 ∧ (frF σ 2 f = 1 ∧ frF σ 3 f = f) ∧ nI (ncnt (fun q => (frF σ) 2 q = 1 ∧ (frF σ) 3 q = q) f) = K) ∧ ((∃ q, q < 196 ∧ AroQ (fcF (frF σ)) f q ∧ (∀ q', q' < q → ¬ AroQ (fcF (frF σ)) f q') ∧ v = nI (ncnt (fun q => (fcF (frF σ)) 2 q = 1 ∧ (fcF (frF σ)) 3 q = q) q)) ∨ (v = -2 ∧ ∀ q', q' < 196 → ¬ AroQ (fcF (frF σ)) f q'))) ∨ (v = -1 ∧ (∀ q, q < 196 → frF σ 2 q = 1 ∧ frF σ 3 q = q → nI (ncnt (fun q => (frF σ) 2 q = 1 ∧ (frF σ) 3 q = q) q) ≠ K))) ∧ (∀ k', k' < 3 → σ' k' = σ k')) := by
  refine zMi_of (own := RX2) (by decide) rfl (Nat.le_of_ble_eq_true rfl) ?_
  intro p e s m args below meth c A ls C hr hlk w hl
  have hl : lv_has ls 4 [(0, .ref h0), (1, .int K)] := hl
  have hbd := w.2.2.2.2.2
  have e0 : ∀ k', k' < 3 → frF σ k' = σ k' := fun k' h => (frF_ok σ).1 k' (by omega)
  have hb1 : Pic (frF σ 2) := by rw [e0 2 (by decide)]; exact hb
  have e1 : ∀ k', k' < 3 → fcF (frF σ) k' = σ k' := fun k' h => by rw [(fcF_ok (frF σ) hb1).1 k' (by omega)]; exact e0 k' h
  have hb2 : Pic (fcF (frF σ) 2) := by rw [e1 2 (by decide)]; exact hb
  have hρ : ∀ z, z < 196 → fcF (frF σ) 3 z = rt (fcF (frF σ) 2) z := fun z hz => by rw [(fcF_ok (frF σ) hb1).1 3 (by decide), e1 2 (by decide)]; exact (frF_ok σ).2 z hz
  refine lv_aload_n C.1 C.2.1 dX2_around_0 rfl (lv_at hl 0 rfl) ?_
  refine lv_iload_n C.1 C.2.1 dX2_around_1 rfl (lv_at hl 1 rfl) ?_
  refine z_calli (As := [.int K]) C (m_firstOf l G h0 r d σ K) (cwV 1 C.2.2.2.2 (lw_V q279 q281 qs20 q28 q282) rfl rfl rfl (by decide +kernel) ⟨Nat.le_of_ble_eq_true rfl, Nat.le_of_ble_eq_true rfl⟩) w (ml_rc w) rfl hl.1 rfl (Nat.le_of_ble_eq_true rfl) dX2_around_2 ⟨Nat.le_refl _, Nat.le_refl _⟩ (fun v1 s1 H locs hp w => ?_)
  obtain ⟨hv, hσ⟩ := hp
  rw [hσ] at w
  have hbd := w.2.2.2.2.2
  rcases hv with ⟨f, ⟨f1, f2, f3⟩, rfl⟩ | ⟨rfl, hno⟩
  · refine lv_istore_n (lv' := [(2, .int (nI f)), (0, .ref h0), (1, .int K)]) C.1 C.2.1 dX2_around_5 rfl hl (by decide) rfl (fun ls hl => ?_)
    refine lv_iload_n C.1 C.2.1 dX2_around_6 rfl (lv_at hl 0 rfl) ?_
    refine z_if_ge (tgt := 12) C dX2_around_7 (by decide) (by omega) ?_
    refine lv_aload_n C.1 C.2.1 dX2_around_12 rfl (lv_at hl 1 rfl) ?_
    refine z_callv (As := []) C (m_findChanges l G h0 r d (frF σ)) (cwV 0 C.2.2.2.2 (lw_V q287 q289 qs21 q28 q290) rfl rfl rfl (by decide +kernel) ⟨Nat.le_of_ble_eq_true rfl, Nat.le_of_ble_eq_true rfl⟩) w (ml_rc w) rfl hl.1 rfl (Nat.le_of_ble_eq_true rfl) dX2_around_13 ⟨Nat.le_refl _, Nat.le_refl _⟩ (fun s1 H locs hp w => ?_)
    have hσ := hp
    rw [hσ] at w
    refine lv_iconst (v := nI 0) C.1 C.2.1 dX2_around_16 (by decide) ?_
    refine lv_istore_n (lv' := [(3, .int (nI 0)), (2, .int (nI f)), (0, .ref h0), (1, .int K)]) C.1 C.2.1 dX2_around_17 rfl hl (by decide) rfl (fun ls hl => ?_)
    refine ao_loop (σ := fcF (frF σ)) C hb2 hρ f1 (fun q μ H locs ls h1 h2 h3 h4 w hl => ?_) (fun μ H locs ls h1 h4 w => ?_) 196 0 _ _ _ w (fun _ _ => rfl) (by omega) (fun q' hq' => absurd hq' (Nat.not_lt_zero _)) ls (lv_sub hl [0, 2, 1] rfl)
    · refine lv_aload_n C.1 C.2.1 dX2_around_65 rfl (lv_at hl 1 rfl) ?_
      refine lv_iconst (v := nI 1) C.1 C.2.1 dX2_around_66 (by decide) ?_
      refine lv_iload_n C.1 C.2.1 dX2_around_67 rfl (lv_at hl 0 rfl) ?_
      refine z_calli (As := [.int (nI 1), .int (nI q)]) C (m_count l G h0 r d μ 1 q (by decide) (by omega)) (cwV 2 C.2.2.2.2 (lw_V q259 q261 qs18 q28 q262) rfl rfl rfl (by decide +kernel) ⟨Nat.le_of_ble_eq_true rfl, Nat.le_of_ble_eq_true rfl⟩) w (ml_rc w) rfl hl.1 rfl (Nat.le_of_ble_eq_true rfl) dX2_around_68 ⟨Nat.le_refl _, Nat.le_refl _⟩ (fun v2 s2 H locs hp w => ?_)
      obtain ⟨hv, hσ⟩ := hp
      subst hv
      rw [hσ] at w
      exact z_iret C hr hlk w ⟨Or.inl ⟨f, ⟨f1, f2, f3⟩, Or.inl ⟨q, h1, h2, h3, by rw [h4 2 (by decide), h4 3 (by decide)]⟩⟩, (fun k' h => by rw [h4 k' (by omega)]; exact e1 k' h)⟩ dX2_around_71
    · refine lv_bipush (v := (-2)) C.1 C.2.1 dX2_around_78 (by decide) ?_
      exact z_iret C hr hlk w ⟨Or.inl ⟨f, ⟨f1, f2, f3⟩, Or.inr ⟨rfl, h1⟩⟩, (fun k' h => by rw [h4 k' (by omega)]; exact e1 k' h)⟩ dX2_around_80
  · refine lv_istore_n (lv' := [(2, .int (-1)), (0, .ref h0), (1, .int K)]) C.1 C.2.1 dX2_around_5 rfl hl (by decide) rfl (fun ls hl => ?_)
    refine lv_iload_n C.1 C.2.1 dX2_around_6 rfl (lv_at hl 0 rfl) ?_
    refine lv_if_ge (tgt := 12) C.1 C.2.1 dX2_around_7 (by decide) (fun c_7 => ?_) (fun c_7 => ?_)
    · exact absurd c_7 (by decide)
    · refine lv_iconst (v := (-1)) C.1 C.2.1 dX2_around_10 (by decide) ?_
      exact z_iret C hr hlk w ⟨Or.inr ⟨rfl, hno⟩, e0⟩ dX2_around_11
section
variable {p : Program} {l : Launch} {e : Env} {R : Room} {s : State} {m : MethodId} {args : Array Value} {below : List Frame} {meth : Method} {c : Code} {H : Heap} {locs : List Loc} {Q : State → Prop}
variable {G : va_G} {A : Nat → Prop} {H0 : Heap} {σ : Nat → Nat → Nat} {h0 : Nat} {r : Nat → Nat} {d : Nat → ClassId}
theorem en_loop {f : Nat} (C : zC p m c cX2_enclosed 5 s args RX2) (hf : f < 196) : ∀ n q H locs, mlW G h0 r d A s H0 H locs σ → q + n = 196 → ∀ ls, lv_has ls 5 [(4, .int (nI q)), (3, .int (nI (ncnt (fun q => σ 5 q = 0 ∧ σ 3 q ≠ f) q))), (0, .ref h0), (2, .int (nI f))] → (∀ H locs ls, mlW G h0 r d A s H0 H locs σ → lv_has ls 5 [(3, .int (nI (ncnt (fun q => σ 5 q = 0 ∧ σ 3 q ≠ f) 196)))] → W p l e (rmF 5 116) s m args below meth c H locs 0 0 Q (F0 m 60 ls [])) → W p l e (rmF 5 116) s m args below meth c H locs 0 0 Q (F0 m 22 ls []) := by
  intro n
  induction n with
  | zero =>
    intro q H locs w hn ls hl K
    obtain rfl : q = 196 := by omega
    refine lv_iload C.1 C.2.1 dX2_enclosed_22 (lv_at hl 0 rfl) ?_
    refine lv_sipush (v := nI 196) C.1 C.2.1 dX2_enclosed_24 (by decide) ?_
    refine z_cmp_ge (tgt := 60) C dX2_enclosed_27 (by decide) (by decide) (by omega) (fun c_27 => ?_) (fun c_27 => ?_)
    · exact K H locs ls w (lv_sub hl [1] rfl)
    · exact absurd c_27 (by decide)
  | succ n ih =>
    intro q H locs w hn ls hl K
    have b3 := w.2.2.2.2.2 3 q
    have b5 := w.2.2.2.2.2 5 q
    refine lv_iload C.1 C.2.1 dX2_enclosed_22 (lv_at hl 0 rfl) ?_
    refine lv_sipush (v := nI 196) C.1 C.2.1 dX2_enclosed_24 (by decide) ?_
    refine z_cmp_ge (tgt := 60) C dX2_enclosed_27 (by decide) (by omega) (by omega) (fun c_27 => ?_) (fun c_27 => ?_)
    · exact absurd c_27 (by omega)
    · refine lv_aload_n C.1 C.2.1 dX2_enclosed_30 rfl (lv_at hl 2 rfl) ?_
      refine ml_g5 C w dX2_enclosed_31 ?_
      refine lv_iload C.1 C.2.1 dX2_enclosed_34 (lv_at hl 0 rfl) ?_
      refine ml_l5 C w (by omega) dX2_enclosed_36 ?_
      refine z_if_ne (tgt := 54) C dX2_enclosed_37 (by decide) (by omega) (fun c_37 => ?_) (fun c_37 => ?_)
      · refine lv_iinc (lv' := [(4, .int (nI (q + 1))), (3, .int (nI (ncnt (fun q => σ 5 q = 0 ∧ σ 3 q ≠ f) q))), (0, .ref h0), (2, .int (nI f))]) C.1 C.2.1 dX2_enclosed_54 hl (k := 0) rfl (nI_add _ _) (by decide) rfl (fun ls hl => ?_)
        refine lv_goto (tgt := 22) C.1 C.2.1 dX2_enclosed_57 (by decide) ?_
        rw [← ncnt_s0 (P := (fun q => σ 5 q = 0 ∧ σ 3 q ≠ f)) (n := q) (fun z => c_37 z.1)] at hl
        exact ih (q + 1) H locs w (by omega) ls (lv_sub hl [0, 1, 2, 3] rfl) K
      · refine lv_aload_n C.1 C.2.1 dX2_enclosed_40 rfl (lv_at hl 2 rfl) ?_
        refine ml_g3 C w dX2_enclosed_41 ?_
        refine lv_iload C.1 C.2.1 dX2_enclosed_44 (lv_at hl 0 rfl) ?_
        refine ml_l3 C w (by omega) dX2_enclosed_46 ?_
        refine lv_iload_n C.1 C.2.1 dX2_enclosed_47 rfl (lv_at hl 3 rfl) ?_
        refine z_cmp_eq (tgt := 54) C dX2_enclosed_48 (by decide) (by omega) (by omega) (fun c_48 => ?_) (fun c_48 => ?_)
        · refine lv_iinc (lv' := [(4, .int (nI (q + 1))), (3, .int (nI (ncnt (fun q => σ 5 q = 0 ∧ σ 3 q ≠ f) q))), (0, .ref h0), (2, .int (nI f))]) C.1 C.2.1 dX2_enclosed_54 hl (k := 0) rfl (nI_add _ _) (by decide) rfl (fun ls hl => ?_)
          refine lv_goto (tgt := 22) C.1 C.2.1 dX2_enclosed_57 (by decide) ?_
          rw [← ncnt_s0 (P := (fun q => σ 5 q = 0 ∧ σ 3 q ≠ f)) (n := q) (fun z => z.2 c_48)] at hl
          exact ih (q + 1) H locs w (by omega) ls (lv_sub hl [0, 1, 2, 3] rfl) K
        · refine lv_iinc (lv' := [(3, .int (nI ((ncnt (fun q => σ 5 q = 0 ∧ σ 3 q ≠ f) q) + 1))), (4, .int (nI q)), (0, .ref h0), (2, .int (nI f))]) C.1 C.2.1 dX2_enclosed_51 hl (k := 1) rfl (nI_add _ _) (by decide) rfl (fun ls hl => ?_)
          refine lv_iinc (lv' := [(4, .int (nI (q + 1))), (3, .int (nI ((ncnt (fun q => σ 5 q = 0 ∧ σ 3 q ≠ f) q) + 1))), (0, .ref h0), (2, .int (nI f))]) C.1 C.2.1 dX2_enclosed_54 hl (k := 1) rfl (nI_add _ _) (by decide) rfl (fun ls hl => ?_)
          refine lv_goto (tgt := 22) C.1 C.2.1 dX2_enclosed_57 (by decide) ?_
          rw [← ncnt_s1 (P := (fun q => σ 5 q = 0 ∧ σ 3 q ≠ f)) (n := q) (⟨c_37, c_48⟩)] at hl
          exact ih (q + 1) H locs w (by omega) ls (lv_sub hl [0, 1, 2, 3] rfl) K
end
theorem m_menclosed (l : Launch) (G : va_G) (h0 : Nat) (r : Nat → Nat) (d : Nat → ClassId) (σ : Nat → Nat → Nat) (K : Int32) (hb : Pic (σ 2)) : zMi l yX2_enclosed cX2_enclosed 5 (some .int) (rmF 5 116) G (mlT d) (mlC h0 r d) [.ref h0, .int K] σ (fun v σ' => ((∃ f, (f < 196 ∧ (frF σ 2 f = 1 ∧ frF σ 3 f = f) ∧ nI (ncnt (fun q => (frF σ) 2 q = 1 ∧ (frF σ) 3 q = q) f) = K) ∧ v = nI (ncnt (fun q => (faF f (frF σ)) 5 q = 0 ∧ (faF f (frF σ)) 3 q ≠ f) 196)) ∨ (v = -1 ∧ (∀ q, q < 196 → frF σ 2 q = 1 ∧ frF σ 3 q = q → nI (ncnt (fun q => (frF σ) 2 q = 1 ∧ (frF σ) 3 q = q) q) ≠ K))) ∧ (∀ k', k' < 3 → σ' k' = σ k')) := by
  refine zMi_of (own := RX2) (by decide) rfl (Nat.le_of_ble_eq_true rfl) ?_
  intro p e s m args below meth c A ls C hr hlk w hl
  have hl : lv_has ls 5 [(0, .ref h0), (1, .int K)] := hl
  have hbd := w.2.2.2.2.2
  have e0 : ∀ k', k' < 3 → frF σ k' = σ k' := fun k' h => (frF_ok σ).1 k' (by omega)
  have hb1 : Pic (frF σ 2) := by rw [e0 2 (by decide)]; exact hb
  have hρ : ∀ z, z < 196 → frF σ 3 z = rt (frF σ 2) z := fun z hz => by rw [e0 2 (by decide)]; exact (frF_ok σ).2 z hz
  refine lv_aload_n C.1 C.2.1 dX2_enclosed_0 rfl (lv_at hl 0 rfl) ?_
  refine lv_iload_n C.1 C.2.1 dX2_enclosed_1 rfl (lv_at hl 1 rfl) ?_
  refine z_calli (As := [.int K]) C (m_firstOf l G h0 r d σ K) (cwV 1 C.2.2.2.2 (lw_V q279 q281 qs20 q28 q282) rfl rfl rfl (by decide +kernel) ⟨Nat.le_of_ble_eq_true rfl, Nat.le_of_ble_eq_true rfl⟩) w (ml_rc w) rfl hl.1 rfl (Nat.le_of_ble_eq_true rfl) dX2_enclosed_2 ⟨Nat.le_refl _, Nat.le_refl _⟩ (fun v1 s1 H locs hp w => ?_)
  obtain ⟨hv, hσ⟩ := hp
  rw [hσ] at w
  have hbd := w.2.2.2.2.2
  rcases hv with ⟨f, ⟨f1, f2, f3⟩, rfl⟩ | ⟨rfl, hno⟩
  · refine lv_istore_n (lv' := [(2, .int (nI f)), (0, .ref h0), (1, .int K)]) C.1 C.2.1 dX2_enclosed_5 rfl hl (by decide) rfl (fun ls hl => ?_)
    refine lv_iload_n C.1 C.2.1 dX2_enclosed_6 rfl (lv_at hl 0 rfl) ?_
    refine z_if_ge (tgt := 12) C dX2_enclosed_7 (by decide) (by omega) ?_
    refine lv_aload_n C.1 C.2.1 dX2_enclosed_12 rfl (lv_at hl 1 rfl) ?_
    refine lv_iload_n C.1 C.2.1 dX2_enclosed_13 rfl (lv_at hl 0 rfl) ?_
    refine z_callv (As := [.int (nI f)]) C (m_findReached l G h0 r d (frF σ) f (by omega)) (cwV 1 C.2.2.2.2 (lw_V q303 q305 qs24 q28 q306) rfl rfl rfl (by decide +kernel) ⟨Nat.le_of_ble_eq_true rfl, Nat.le_of_ble_eq_true rfl⟩) w (ml_rc w) rfl hl.1 rfl (Nat.le_of_ble_eq_true rfl) dX2_enclosed_14 ⟨Nat.le_refl _, Nat.le_refl _⟩ (fun s1 H locs hp w => ?_)
    have hσ := hp
    rw [hσ] at w
    refine lv_iconst (v := nI 0) C.1 C.2.1 dX2_enclosed_17 (by decide) ?_
    refine lv_istore_n (lv' := [(3, .int (nI 0)), (2, .int (nI f)), (0, .ref h0), (1, .int K)]) C.1 C.2.1 dX2_enclosed_18 rfl hl (by decide) rfl (fun ls hl => ?_)
    refine lv_iconst (v := nI 0) C.1 C.2.1 dX2_enclosed_19 (by decide) ?_
    refine lv_istore (lv' := [(4, .int (nI 0)), (3, .int (nI 0)), (2, .int (nI f)), (0, .ref h0), (1, .int K)]) C.1 C.2.1 dX2_enclosed_20 hl (by decide) rfl (fun ls hl => ?_)
    refine en_loop (σ := faF f (frF σ)) C f1 196 0 _ _ w (by omega) ls (lv_sub hl [0, 1, 3, 2] rfl) (fun H locs ls w hl => ?_)
    have e1 : ∀ k', k' < 3 → faF f (frF σ) k' = σ k' := fun k' h => by rw [(faF_ok (frF σ) f hb1 hρ f1 (by rw [f2.1]; decide)).1 k' (by omega)]; exact e0 k' h
    refine lv_iload_n C.1 C.2.1 dX2_enclosed_60 rfl (lv_at hl 0 rfl) ?_
    exact z_iret C hr hlk w ⟨Or.inl ⟨f, ⟨f1, f2, f3⟩, rfl⟩, e1⟩ dX2_enclosed_61
  · refine lv_istore_n (lv' := [(2, .int (-1)), (0, .ref h0), (1, .int K)]) C.1 C.2.1 dX2_enclosed_5 rfl hl (by decide) rfl (fun ls hl => ?_)
    refine lv_iload_n C.1 C.2.1 dX2_enclosed_6 rfl (lv_at hl 0 rfl) ?_
    refine lv_if_ge (tgt := 12) C.1 C.2.1 dX2_enclosed_7 (by decide) (fun c_7 => ?_) (fun c_7 => ?_)
    · exact absurd c_7 (by decide)
    · refine lv_iconst (v := (-1)) C.1 C.2.1 dX2_enclosed_10 (by decide) ?_
      exact z_iret C hr hlk w ⟨Or.inr ⟨rfl, hno⟩, e0⟩ dX2_enclosed_11
end
