set_option maxRecDepth 100000
abbrev vwCl : List vw_C := [(RX1, TX1, 19), (RX2, TX2, 6)]
/-- an object's state: int field k at place 0, array field k at its places -/
def up (s : Nat → Nat → Nat) (k j v : Nat) : Nat → Nat → Nat := fun k' j' => if k' = k then (if j' = j then v else s k' j') else s k' j'
theorem zn_s16 {v : Nat} (h : v < 32768) : (nI v).toInt16.toInt32 = nI v := by
  apply Int32.toInt_inj.mp
  rw [Int16.toInt_toInt32, Int32.toInt_toInt16, nI_toInt (by omega)]
  exact Int.bmod_eq_of_le_mul_two (by omega) (by omega)
theorem zn_b8 {v : Nat} (h : v < 128) : (nI v).toInt8.toInt32 = nI v := by
  apply Int32.toInt_inj.mp
  rw [Int8.toInt_toInt32, Int32.toInt_toInt8, nI_toInt (by omega)]
  exact Int.bmod_eq_of_le_mul_two (by omega) (by omega)
theorem zn_z {v : Nat} (h : v < 2) : narrow .boolean (.int (nI v)) = .int (nI v) := by
  rcases (show v = 0 ∨ v = 1 by omega) with rfl | rfl <;> rfl
theorem zn_zf {v : Nat} (h : v < 2) : fits .boolean (.int (nI v)) = true := by
  rcases (show v = 0 ∨ v = 1 by omega) with rfl | rfl <;> rfl
theorem zn_vz {v : Nat} (h : v < 2) : vp_nar .boolean (nI v) = nI v := by
  rcases (show v = 0 ∨ v = 1 by omega) with rfl | rfl <;> rfl
theorem zn_upd {σ : Nat → Nat → Nat} (k : Nat) {j v : Nat} (hj : j < 2147483648) {x : Int32} (hx : x = nI v) : upd (fun i => nI (σ k i)) (nI j).toNatClampNeg x = fun i => nI (up σ k j v k i) := by
  funext i
  rw [nI_clamp (by omega), hx]
  unfold upd up
  rw [if_pos rfl]
  by_cases h : i = j
  · rw [if_pos h, if_pos h]
  · rw [if_neg h, if_neg h]
theorem zn_bd {σ : Nat → Nat → Nat} (h : ∀ k j, σ k j < 32768) {k j v : Nat} (hv : v < 32768) : ∀ k' j', up σ k j v k' j' < 32768 := by
  intro k' j'
  unfold up
  split
  · split
    · exact hv
    · exact h _ _
  · exact h _ _
/-- a method's fixed context -/
abbrev zC (p : Program) (m : MethodId) (c : Code) (cc : ByteArray) (nL : Nat) (s : State) (args : Array Value) (own : String) : Prop := CallFix p m c cc nL s args lw_all own
def zW (G : va_G) (tys : List (ClassId × FieldType)) (cf : (Nat → Nat → Nat) → va_W) (A : Nat → Prop) (st : State) (H0 H : Heap) (locs : List Loc) (σ : Nat → Nat → Nat) : Prop :=
  va_K G vwCl tys st ∧ va_P G vwCl (cf σ) H ∧ va_D A (cf σ) ∧ va_S A H0 H locs ∧ (∀ q, H0.size ≤ q → A q) ∧ ∀ k j, σ k j < 32768
def zB (G : va_G) (tys : List (ClassId × FieldType)) (cf : (Nat → Nat → Nat) → va_W) (A : Nat → Prop) (σ : Nat → Nat → Nat) (t : State) : Prop :=
  va_P G vwCl (cf σ) t.heap ∧ va_K G vwCl tys t ∧ va_D A (cf σ) ∧ ∀ k j, σ k j < 32768
def zQi (G : va_G) (tys : List (ClassId × FieldType)) (cf : (Nat → Nat → Nat) → va_W) (A : Nat → Prop) (post : Int32 → (Nat → Nat → Nat) → Prop) : Array Value → State → Outcome → State → Prop := va_Qi post (zB G tys cf A) A
def zQv (G : va_G) (tys : List (ClassId × FieldType)) (cf : (Nat → Nat → Nat) → va_W) (A : Nat → Prop) (post : (Nat → Nat → Nat) → Prop) : Array Value → State → Outcome → State → Prop := va_Qv post (zB G tys cf A) A
def zPc (G : va_G) (tys : List (ClassId × FieldType)) (cf : (Nat → Nat → Nat) → va_W) (av : List Value) (sz : Nat) (σ : Nat → Nat → Nat) : Array Value → State → Prop :=
  va_Pc av (fun U => U.heap.size = sz ∧ va_P G vwCl (cf σ) U.heap ∧ va_K G vwCl tys U ∧ va_D (fun _ => True) (cf σ) ∧ ∀ k j, σ k j < 32768)
/-- a method's contract that answers an int (or boolean), and one that answers nothing -/
def zMi (l : Launch) (y : MethodName) (cc : ByteArray) (nL : Nat) (ret : Option FieldType) (rm : Room) (G : va_G) (tys : List (ClassId × FieldType)) (cf : (Nat → Nat → Nat) → va_W) (av : List Value) (σ : Nat → Nat → Nat) (post : Int32 → (Nat → Nat → Nat) → Prop) : Prop :=
  ∀ sz, Met l y (ws_ y cc nL ret) rm (zPc G tys cf av sz σ) (zQi G tys cf (va_A (cf σ) sz) post) 0 0 (va_A (cf σ) sz)
def zMv (l : Launch) (y : MethodName) (cc : ByteArray) (nL : Nat) (ret : Option FieldType) (rm : Room) (G : va_G) (tys : List (ClassId × FieldType)) (cf : (Nat → Nat → Nat) → va_W) (av : List Value) (σ : Nat → Nat → Nat) (post : (Nat → Nat → Nat) → Prop) : Prop :=
  ∀ sz, Met l y (ws_ y cc nL ret) rm (zPc G tys cf av sz σ) (zQv G tys cf (va_A (cf σ) sz) post) 0 0 (va_A (cf σ) sz)
theorem zMi_of {l : Launch} {y : MethodName} {cc : ByteArray} {nL : Nat} {ret : Option FieldType} {rm : Room} {G : va_G} {tys : List (ClassId × FieldType)} {cf : (Nat → Nat → Nat) → va_W} {av : List Value} {σ : Nat → Nat → Nat} {post : Int32 → (Nat → Nat → Nat) → Prop} {own : String} (hy : plainName y.cls = true) (ho : y.cls = own) (hlen : (lg_sl av).length ≤ nL)
    (body : ∀ (p : Program) (e : Env) (s : State) (m : MethodId) (args : Array Value) (below : List Frame) (meth : Method) (c : Code) (A : Nat → Prop) (ls : Array Slot), zC p m c cc nL s args own → meth.sig.returnType = ret → meth.locks = false → zW G tys cf A s s.heap s.heap [] σ → lv_has ls nL (lv_args 0 av) → W p l e rm s m args below meth c s.heap [] 0 0 (MQ below (zQi G tys cf A post) args s 0 0 A) (F0 m 0 ls [])) : zMi l y cc nL ret rm G tys cf av σ post := by
  intro sz
  refine Met.ofW (cc := cc) (maxL := nL) (ret := ret) hy rfl ?_
  intro p e s m args below meth c s₁ B hml hv
  obtain ⟨rfl, hsz, hP, hK, hD0, hbd⟩ := hv
  have hts := atoms_spec (ws := ws_ y cc nL ret) B.pre
  have hts : ∀ w ∈ lw_all, w.before _ s = true := fun w h => hts w (List.mem_cons_of_mem _ h)
  have hown : s.vm.findClass y.cls = some m.cls := findClass_of_methodNamed B.named
  subst hsz
  subst ho
  have hD := hD0.self (sz := s.heap.size)
  have hl := lv_entry av (n := nL) hlen
  rw [lg_entry_eq]
  exact body p e s m _ below meth c (va_A (cf σ) s.heap.size) _ ⟨B.exec, B.bytes, hml, hown, hts⟩ B.returns B.notSynchronized ⟨hK, hP, hD, va_S.rf, fun q h => Or.inr h, hbd⟩ hl
theorem zMv_of {l : Launch} {y : MethodName} {cc : ByteArray} {nL : Nat} {ret : Option FieldType} {rm : Room} {G : va_G} {tys : List (ClassId × FieldType)} {cf : (Nat → Nat → Nat) → va_W} {av : List Value} {σ : Nat → Nat → Nat} {post : (Nat → Nat → Nat) → Prop} {own : String} (hy : plainName y.cls = true) (ho : y.cls = own) (hlen : (lg_sl av).length ≤ nL)
    (body : ∀ (p : Program) (e : Env) (s : State) (m : MethodId) (args : Array Value) (below : List Frame) (meth : Method) (c : Code) (A : Nat → Prop) (ls : Array Slot), zC p m c cc nL s args own → meth.sig.returnType = ret → meth.locks = false → zW G tys cf A s s.heap s.heap [] σ → lv_has ls nL (lv_args 0 av) → W p l e rm s m args below meth c s.heap [] 0 0 (MQ below (zQv G tys cf A post) args s 0 0 A) (F0 m 0 ls [])) : zMv l y cc nL ret rm G tys cf av σ post := by
  intro sz
  refine Met.ofW (cc := cc) (maxL := nL) (ret := ret) hy rfl ?_
  intro p e s m args below meth c s₁ B hml hv
  obtain ⟨rfl, hsz, hP, hK, hD0, hbd⟩ := hv
  have hts := atoms_spec (ws := ws_ y cc nL ret) B.pre
  have hts : ∀ w ∈ lw_all, w.before _ s = true := fun w h => hts w (List.mem_cons_of_mem _ h)
  have hown : s.vm.findClass y.cls = some m.cls := findClass_of_methodNamed B.named
  subst hsz
  subst ho
  have hD := hD0.self (sz := s.heap.size)
  have hl := lv_entry av (n := nL) hlen
  rw [lg_entry_eq]
  exact body p e s m _ below meth c (va_A (cf σ) s.heap.size) _ ⟨B.exec, B.bytes, hml, hown, hts⟩ B.returns B.notSynchronized ⟨hK, hP, hD, va_S.rf, fun q h => Or.inr h, hbd⟩ hl
section ZR
variable {p : Program} {l : Launch} {e : Env} {R : Room} {s : State} {m : MethodId} {args : Array Value} {below : List Frame} {meth : Method} {c : Code} {H : Heap} {locs : List Loc} {cells slots : Nat} {Q : State → Prop}
variable {cc : ByteArray} {pc nL : Nat} {ls : Array Slot} {rest : List Value} {own : String}
variable {G : va_G} {tys : List (ClassId × FieldType)} {cf : (Nat → Nat → Nat) → va_W} {A : Nat → Prop} {H0 : Heap} {σ : Nat → Nat → Nat}
theorem z_iadd (C : zC p m c cc nL s args own) {a b : Nat}  (hd : decode cc pc = .ok (.iadd, 1))
    (kk : W p l e R s m args below meth c H locs cells slots Q (F0 m (pc + 1) ls (.int (nI (a + b)) :: rest))) : W p l e R s m args below meth c H locs cells slots Q (F0 m pc ls (.int (nI b) :: .int (nI a) :: rest)) := lv_iadd C.1 C.2.1 hd (by rw [nI_add]; exact kk)
theorem z_isub (C : zC p m c cc nL s args own) {a b : Nat} (h : b ≤ a) (hd : decode cc pc = .ok (.isub, 1))
    (kk : W p l e R s m args below meth c H locs cells slots Q (F0 m (pc + 1) ls (.int (nI (a - b)) :: rest))) : W p l e R s m args below meth c H locs cells slots Q (F0 m pc ls (.int (nI b) :: .int (nI a) :: rest)) := lv_isub C.1 C.2.1 hd (by rw [pk_sub h]; exact kk)
theorem z_imul (C : zC p m c cc nL s args own) {a b : Nat}  (hd : decode cc pc = .ok (.imul, 1))
    (kk : W p l e R s m args below meth c H locs cells slots Q (F0 m (pc + 1) ls (.int (nI (a * b)) :: rest))) : W p l e R s m args below meth c H locs cells slots Q (F0 m pc ls (.int (nI b) :: .int (nI a) :: rest)) := lv_imul C.1 C.2.1 hd (by rw [pk_mul]; exact kk)
theorem z_irem (C : zC p m c cc nL s args own) {a b : Nat} (ha : a < 2147483648) (h0 : 0 < b) (hb : b < 2147483648) (hd : decode cc pc = .ok (.irem, 1))
    (kk : W p l e R s m args below meth c H locs cells slots Q (F0 m (pc + 1) ls (.int (nI (a % b)) :: rest))) : W p l e R s m args below meth c H locs cells slots Q (F0 m pc ls (.int (nI b) :: .int (nI a) :: rest)) := lv_irem C.1 C.2.1 hd (nI_ne0 h0 hb) (by rw [pk_rem ha h0 hb]; exact kk)
theorem z_idiv (C : zC p m c cc nL s args own) {a b : Nat} (ha : a < 2147483648) (h0 : 0 < b) (hb : b < 2147483648) (hd : decode cc pc = .ok (.idiv, 1))
    (kk : W p l e R s m args below meth c H locs cells slots Q (F0 m (pc + 1) ls (.int (nI (a / b)) :: rest))) : W p l e R s m args below meth c H locs cells slots Q (F0 m pc ls (.int (nI b) :: .int (nI a) :: rest)) := lv_idiv C.1 C.2.1 hd (nI_ne0 h0 hb) (by rw [pk_div ha h0 hb]; exact kk)
theorem z_i2s (C : zC p m c cc nL s args own) {a : Nat} (h : a < 32768) (hd : decode cc pc = .ok (.i2s, 1))
    (kk : W p l e R s m args below meth c H locs cells slots Q (F0 m (pc + 1) ls (.int (nI a) :: rest))) : W p l e R s m args below meth c H locs cells slots Q (F0 m pc ls (.int (nI a) :: rest)) := lv_i2s C.1 C.2.1 hd (zn_s16 h) kk
theorem z_i2b (C : zC p m c cc nL s args own) {a : Nat} (h : a < 128) (hd : decode cc pc = .ok (.i2b, 1))
    (kk : W p l e R s m args below meth c H locs cells slots Q (F0 m (pc + 1) ls (.int (nI a) :: rest))) : W p l e R s m args below meth c H locs cells slots Q (F0 m pc ls (.int (nI a) :: rest)) := lv_i2b C.1 C.2.1 hd (zn_b8 h) kk
theorem z_cmp_eq (C : zC p m c cc nL s args own) {a b : Nat} {off : Int} {tgt : Nat} (hd : decode cc pc = .ok (.if_icmp .eq off, 3)) (ht : (pc : Int) + off = (tgt : Int)) (ha : a < 2147483648) (hb : b < 2147483648)
    (kt : a = b → W p l e R s m args below meth c H locs cells slots Q (F0 m (tgt) ls (rest))) (kf : a ≠ b → W p l e R s m args below meth c H locs cells slots Q (F0 m (pc + 3) ls (rest))) : W p l e R s m args below meth c H locs cells slots Q (F0 m (pc) ls (.int (nI b) :: .int (nI a) :: rest)) := lv_icmp_eq C.1 C.2.1 hd ht (fun h => kt ((nI_eq ha hb).mp h)) (fun h => kf (fun q => h (by rw [q])))
theorem z_cmp_ne (C : zC p m c cc nL s args own) {a b : Nat} {off : Int} {tgt : Nat} (hd : decode cc pc = .ok (.if_icmp .ne off, 3)) (ht : (pc : Int) + off = (tgt : Int)) (ha : a < 2147483648) (hb : b < 2147483648)
    (kt : a ≠ b → W p l e R s m args below meth c H locs cells slots Q (F0 m (tgt) ls (rest))) (kf : a = b → W p l e R s m args below meth c H locs cells slots Q (F0 m (pc + 3) ls (rest))) : W p l e R s m args below meth c H locs cells slots Q (F0 m (pc) ls (.int (nI b) :: .int (nI a) :: rest)) := lv_icmp_ne C.1 C.2.1 hd ht (fun h => kt (fun q => h (by rw [q]))) (fun h => kf ((nI_eq ha hb).mp h))
theorem z_cmp_lt (C : zC p m c cc nL s args own) {a b : Nat} {off : Int} {tgt : Nat} (hd : decode cc pc = .ok (.if_icmp .lt off, 3)) (ht : (pc : Int) + off = (tgt : Int)) (ha : a < 2147483648) (hb : b < 2147483648)
    (kt : a < b → W p l e R s m args below meth c H locs cells slots Q (F0 m (tgt) ls (rest))) (kf : b ≤ a → W p l e R s m args below meth c H locs cells slots Q (F0 m (pc + 3) ls (rest))) : W p l e R s m args below meth c H locs cells slots Q (F0 m (pc) ls (.int (nI b) :: .int (nI a) :: rest)) := lv_icmp_lt C.1 C.2.1 hd ht (fun h => kt ((nI_ltI ha hb).mp h)) (fun h => kf (Nat.not_lt.mp (fun q => h ((nI_ltI ha hb).mpr q))))
theorem z_cmp_ge (C : zC p m c cc nL s args own) {a b : Nat} {off : Int} {tgt : Nat} (hd : decode cc pc = .ok (.if_icmp .ge off, 3)) (ht : (pc : Int) + off = (tgt : Int)) (ha : a < 2147483648) (hb : b < 2147483648)
    (kt : b ≤ a → W p l e R s m args below meth c H locs cells slots Q (F0 m (tgt) ls (rest))) (kf : a < b → W p l e R s m args below meth c H locs cells slots Q (F0 m (pc + 3) ls (rest))) : W p l e R s m args below meth c H locs cells slots Q (F0 m (pc) ls (.int (nI b) :: .int (nI a) :: rest)) := lv_icmp_ge C.1 C.2.1 hd ht (fun h => kt ((nI_leI hb ha).mp h)) (fun h => kf (Nat.not_le.mp (fun q => h ((nI_leI hb ha).mpr q))))
theorem z_cmp_gt (C : zC p m c cc nL s args own) {a b : Nat} {off : Int} {tgt : Nat} (hd : decode cc pc = .ok (.if_icmp .gt off, 3)) (ht : (pc : Int) + off = (tgt : Int)) (ha : a < 2147483648) (hb : b < 2147483648)
    (kt : b < a → W p l e R s m args below meth c H locs cells slots Q (F0 m (tgt) ls (rest))) (kf : a ≤ b → W p l e R s m args below meth c H locs cells slots Q (F0 m (pc + 3) ls (rest))) : W p l e R s m args below meth c H locs cells slots Q (F0 m (pc) ls (.int (nI b) :: .int (nI a) :: rest)) := lv_icmp_gt C.1 C.2.1 hd ht (fun h => kt ((nI_ltI hb ha).mp h)) (fun h => kf (Nat.not_lt.mp (fun q => h ((nI_ltI hb ha).mpr q))))
theorem z_cmp_le (C : zC p m c cc nL s args own) {a b : Nat} {off : Int} {tgt : Nat} (hd : decode cc pc = .ok (.if_icmp .le off, 3)) (ht : (pc : Int) + off = (tgt : Int)) (ha : a < 2147483648) (hb : b < 2147483648)
    (kt : a ≤ b → W p l e R s m args below meth c H locs cells slots Q (F0 m (tgt) ls (rest))) (kf : b < a → W p l e R s m args below meth c H locs cells slots Q (F0 m (pc + 3) ls (rest))) : W p l e R s m args below meth c H locs cells slots Q (F0 m (pc) ls (.int (nI b) :: .int (nI a) :: rest)) := lv_icmp_le C.1 C.2.1 hd ht (fun h => kt ((nI_leI ha hb).mp h)) (fun h => kf (Nat.not_le.mp (fun q => h ((nI_leI ha hb).mpr q))))
theorem z_if_eq (C : zC p m c cc nL s args own) {a : Nat} {off : Int} {tgt : Nat} (hd : decode cc pc = .ok (.ifCond .eq off, 3)) (ht : (pc : Int) + off = (tgt : Int)) (ha : a < 2147483648)
    (kt : a = 0 → W p l e R s m args below meth c H locs cells slots Q (F0 m (tgt) ls (rest))) (kf : a ≠ 0 → W p l e R s m args below meth c H locs cells slots Q (F0 m (pc + 3) ls (rest))) : W p l e R s m args below meth c H locs cells slots Q (F0 m (pc) ls (.int (nI a) :: rest)) := lv_if_eq C.1 C.2.1 hd ht (fun h => kt ((nI_eq (a := a) (b := 0) ha (by decide)).mp h)) (fun h => kf (fun q => h (by rw [q]; rfl)))
theorem z_if_ne (C : zC p m c cc nL s args own) {a : Nat} {off : Int} {tgt : Nat} (hd : decode cc pc = .ok (.ifCond .ne off, 3)) (ht : (pc : Int) + off = (tgt : Int)) (ha : a < 2147483648)
    (kt : a ≠ 0 → W p l e R s m args below meth c H locs cells slots Q (F0 m (tgt) ls (rest))) (kf : a = 0 → W p l e R s m args below meth c H locs cells slots Q (F0 m (pc + 3) ls (rest))) : W p l e R s m args below meth c H locs cells slots Q (F0 m (pc) ls (.int (nI a) :: rest)) := lv_if_ne C.1 C.2.1 hd ht (fun h => kt (fun q => h (by rw [q]; rfl))) (fun h => kf ((nI_eq (a := a) (b := 0) ha (by decide)).mp h))
theorem z_if_gt (C : zC p m c cc nL s args own) {a : Nat} {off : Int} {tgt : Nat} (hd : decode cc pc = .ok (.ifCond .gt off, 3)) (ht : (pc : Int) + off = (tgt : Int)) (ha : a < 2147483648)
    (kt : 0 < a → W p l e R s m args below meth c H locs cells slots Q (F0 m (tgt) ls (rest))) (kf : a = 0 → W p l e R s m args below meth c H locs cells slots Q (F0 m (pc + 3) ls (rest))) : W p l e R s m args below meth c H locs cells slots Q (F0 m (pc) ls (.int (nI a) :: rest)) := lv_if_gt C.1 C.2.1 hd ht (fun h => kt ((nI_ltI (a := 0) (b := a) (by decide) ha).mp h)) (fun h => kf (Nat.eq_zero_of_not_pos (fun q => h ((nI_ltI (a := 0) (b := a) (by decide) ha).mpr q))))
theorem z_if_le (C : zC p m c cc nL s args own) {a : Nat} {off : Int} {tgt : Nat} (hd : decode cc pc = .ok (.ifCond .le off, 3)) (ht : (pc : Int) + off = (tgt : Int)) (ha : a < 2147483648)
    (kt : a = 0 → W p l e R s m args below meth c H locs cells slots Q (F0 m (tgt) ls (rest))) (kf : 0 < a → W p l e R s m args below meth c H locs cells slots Q (F0 m (pc + 3) ls (rest))) : W p l e R s m args below meth c H locs cells slots Q (F0 m (pc) ls (.int (nI a) :: rest)) := lv_if_le C.1 C.2.1 hd ht (fun h => kt (Nat.le_zero.mp ((nI_leI (a := a) (b := 0) ha (by decide)).mp h))) (fun h => kf (Nat.pos_of_ne_zero (fun q => h (by rw [q]; exact Int32.le_refl _))))
theorem z_if_lt (C : zC p m c cc nL s args own) {a : Nat} {off : Int} {tgt : Nat} (hd : decode cc pc = .ok (.ifCond .lt off, 3)) (ht : (pc : Int) + off = (tgt : Int)) (ha : a < 2147483648)
    (kf : W p l e R s m args below meth c H locs cells slots Q (F0 m (pc + 3) ls (rest))) : W p l e R s m args below meth c H locs cells slots Q (F0 m (pc) ls (.int (nI a) :: rest)) := lv_if_lt C.1 C.2.1 hd ht (fun h => absurd h (nI_pos ha)) (fun _ => kf)
theorem z_if_ge (C : zC p m c cc nL s args own) {a : Nat} {off : Int} {tgt : Nat} (hd : decode cc pc = .ok (.ifCond .ge off, 3)) (ht : (pc : Int) + off = (tgt : Int)) (ha : a < 2147483648)
    (kt : W p l e R s m args below meth c H locs cells slots Q (F0 m (tgt) ls (rest))) : W p l e R s m args below meth c H locs cells slots Q (F0 m (pc) ls (.int (nI a) :: rest)) := lv_if_ge C.1 C.2.1 hd ht (fun _ => kt) (fun h => absurd (nI_pos' ha) h)
theorem z_iret (C : zC p m c cc nL s args own) (hr : meth.sig.returnType = some .int) (hlk : meth.locks = false) (w : zW G tys cf A s s.heap H locs σ) {v : Int32} {post : Int32 → (Nat → Nat → Nat) → Prop} (hp : post v σ) (hd : decode cc pc = .ok (.ireturn, 1)) : W p l e R s m args below meth c H locs 0 0 (MQ below (zQi G tys cf A post) args s 0 0 A) (F0 m pc ls [.int v]) :=
  W.iret C.1 C.2.1 hr (fun t ht hW => ⟨⟨v, σ, rfl, hp, by rw [ht]; exact w.2.1, va_K.moved hW.alike w.1, w.2.2.1, w.2.2.2.2.2⟩, w.2.2.2.1.F ht⟩) w.2.2.2.1.2.2 hd hlk
theorem z_zret (C : zC p m c cc nL s args own) (hr : meth.sig.returnType = some .boolean) (hlk : meth.locks = false) (w : zW G tys cf A s s.heap H locs σ) {v : Nat} (hv : v < 2) {post : Int32 → (Nat → Nat → Nat) → Prop} (hp : post (nI v) σ) (hd : decode cc pc = .ok (.ireturn, 1)) : W p l e R s m args below meth c H locs 0 0 (MQ below (zQi G tys cf A post) args s 0 0 A) (F0 m pc ls [.int (nI v)]) :=
  W.zret C.1 C.2.1 hr (zn_z hv) (fun t ht hW => ⟨⟨nI v, σ, rfl, hp, by rw [ht]; exact w.2.1, va_K.moved hW.alike w.1, w.2.2.1, w.2.2.2.2.2⟩, w.2.2.2.1.F ht⟩) w.2.2.2.1.2.2 hd hlk
theorem z_vret (C : zC p m c cc nL s args own) (hr : meth.sig.returnType = none) (hlk : meth.locks = false) (w : zW G tys cf A s s.heap H locs σ) {post : (Nat → Nat → Nat) → Prop} (hp : post σ) (hd : decode cc pc = .ok (.return_, 1)) : W p l e R s m args below meth c H locs 0 0 (MQ below (zQv G tys cf A post) args s 0 0 A) (F0 m pc ls []) :=
  W.vret C.1 C.2.1 hr (fun t ht hW => ⟨⟨σ, rfl, hp, by rw [ht]; exact w.2.1, va_K.moved hW.alike w.1, w.2.2.1, w.2.2.2.2.2⟩, w.2.2.2.1.F ht⟩) w.2.2.2.1.2.2 hd hlk
theorem z_calli (C : zC p m c cc nL s args own) {y : MethodName} {cc' : ByteArray} {nL' index n h0 : Nat} {ret : Option FieldType} {rm : Room} {As st : List Value} {Cn : String} {post : Int32 → (Nat → Nat → Nat) → Prop} (hM : zMi l y cc' nL' ret rm G tys cf (.ref h0 :: As) σ post) (cw : CallW R s args own Cn index y cc' nL' ret (ws_ y cc' nL' ret) rm 0 0 n) (w : zW G tys cf A s H0 H locs σ)
    (hrc : ∃ cell : Cell, H[h0]? = some cell ∧ cell.vm.isStatics = false ∧ s.vm.findClass Cn = some cell.cls) (hn : As.length = n) (hsize : ls.size = nL) (hst : st = As.reverse ++ .ref h0 :: rest) (hroom : (rest.map fun v => v.category).sum ≤ 8) (hd : decode cc pc = .ok (.invokevirtual index, 3)) (hf : cells ≤ R.cells ∧ slots ≤ R.slots)
    (kk : ∀ (r : Int32) (σ' : Nat → Nat → Nat) (H1 : Heap) (locs1 : List Loc), post r σ' → zW G tys cf A s H0 H1 locs1 σ' → W p l e R s m args below meth c H1 locs1 cells slots Q (F0 m (pc + 3) ls (.int r :: rest))) : W p l e R s m args below meth c H locs cells slots Q (F0 m (pc) ls (st)) := by
  obtain ⟨hK, hP, hD, hS, hA, hbd⟩ := w
  have hF : ∀ q, va_A (cf σ) H.size q → A q := by
    intro q h
    rcases h with ⟨k, e, h⟩ | h
    · exact hD.2 k (q, e) h
    · exact hA q (Nat.le_trans hS.1 h)
  refine va_calli (va_runV (As := As) (rest := rest) C (hM H.size) cw ⟨fun a U g mk q => ?_, hrc, fun U hU hW => ⟨rfl, by rw [hU], by rw [hU]; exact hP, va_K.moved hW.alike hK, hD.weaken (fun _ _ _ _ => trivial), hbd⟩⟩ rfl hn hsize hst (lv_room hroom) hd hf) hS (fun q _ h => hF q h) hF ?_
  · obtain ⟨q0, q1, qP, qK, qD, qb⟩ := q
    exact ⟨q0, q1, qP, va_K.moved (u := U) (U := U.calling g mk a) (Vm.Alike.refl U.vm) qK, qD, qb⟩
  · intro r u t H1 locs1 ht hvm hp hB hz1 hk1 hS1
    obtain ⟨b1, b2, b3, b4⟩ := hB
    exact kk r u H1 locs1 hp ⟨hK, by rw [← ht]; exact b1, b3.weaken (fun k q _ h => hF q.1 h), hS1, hA, b4⟩
theorem z_callv (C : zC p m c cc nL s args own) {y : MethodName} {cc' : ByteArray} {nL' index n h0 : Nat} {ret : Option FieldType} {rm : Room} {As st : List Value} {Cn : String} {post : (Nat → Nat → Nat) → Prop} (hM : zMv l y cc' nL' ret rm G tys cf (.ref h0 :: As) σ post) (cw : CallW R s args own Cn index y cc' nL' ret (ws_ y cc' nL' ret) rm 0 0 n) (w : zW G tys cf A s H0 H locs σ)
    (hrc : ∃ cell : Cell, H[h0]? = some cell ∧ cell.vm.isStatics = false ∧ s.vm.findClass Cn = some cell.cls) (hn : As.length = n) (hsize : ls.size = nL) (hst : st = As.reverse ++ .ref h0 :: rest) (hroom : (rest.map fun v => v.category).sum ≤ 8) (hd : decode cc pc = .ok (.invokevirtual index, 3)) (hf : cells ≤ R.cells ∧ slots ≤ R.slots)
    (kk : ∀ (σ' : Nat → Nat → Nat) (H1 : Heap) (locs1 : List Loc), post σ' → zW G tys cf A s H0 H1 locs1 σ' → W p l e R s m args below meth c H1 locs1 cells slots Q (F0 m (pc + 3) ls (rest))) : W p l e R s m args below meth c H locs cells slots Q (F0 m (pc) ls (st)) := by
  obtain ⟨hK, hP, hD, hS, hA, hbd⟩ := w
  have hF : ∀ q, va_A (cf σ) H.size q → A q := by
    intro q h
    rcases h with ⟨k, e, h⟩ | h
    · exact hD.2 k (q, e) h
    · exact hA q (Nat.le_trans hS.1 h)
  refine va_callv (va_runV (As := As) (rest := rest) C (hM H.size) cw ⟨fun a U g mk q => ?_, hrc, fun U hU hW => ⟨rfl, by rw [hU], by rw [hU]; exact hP, va_K.moved hW.alike hK, hD.weaken (fun _ _ _ _ => trivial), hbd⟩⟩ rfl hn hsize hst (lv_room hroom) hd hf) hS (fun q _ h => hF q h) hF ?_
  · obtain ⟨q0, q1, qP, qK, qD, qb⟩ := q
    exact ⟨q0, q1, qP, va_K.moved (u := U) (U := U.calling g mk a) (Vm.Alike.refl U.vm) qK, qD, qb⟩
  · intro u t H1 locs1 ht hvm hp hB hz1 hk1 hS1
    obtain ⟨b1, b2, b3, b4⟩ := hB
    exact kk u H1 locs1 hp ⟨hK, by rw [← ht]; exact b1, b3.weaken (fun k q _ h => hF q.1 h), hS1, hA, b4⟩
end ZR
def clC (h0 : Nat) (r : Nat → Nat) (d : Nat → ClassId) (σ : Nat → Nat → Nat) : va_W := [(h0, .inr (0, [.int (nI (σ 0 0)), .int (nI (σ 1 0)), .ref (r 2), .int (nI (σ 3 0)), .int (nI (σ 4 0)), .ref (r 5), .ref (r 6), .ref (r 7), .ref (r 8), .ref (r 9), .ref (r 10), .ref (r 11), .ref (r 12), .ref (r 13), .ref (r 14), .ref (r 15), .ref (r 16), .int (nI (σ 17 0)), .int (nI (σ 18 0))])), (r 2, .inl (d 2, 12, .inl (fun j => nI (σ 2 j)))), (r 5, .inl (d 5, 145, .inl (fun j => nI (σ 5 j)))), (r 6, .inl (d 6, 145, .inl (fun j => nI (σ 6 j)))), (r 7, .inl (d 7, 145, .inl (fun j => nI (σ 7 j)))), (r 8, .inl (d 8, 145, .inl (fun j => nI (σ 8 j)))), (r 9, .inl (d 9, 13, .inl (fun j => nI (σ 9 j)))), (r 10, .inl (d 10, 145, .inl (fun j => nI (σ 10 j)))), (r 11, .inl (d 11, 145, .inl (fun j => nI (σ 11 j)))), (r 12, .inl (d 12, 145, .inl (fun j => nI (σ 12 j)))), (r 13, .inl (d 13, 145, .inl (fun j => nI (σ 13 j)))), (r 14, .inl (d 14, 145, .inl (fun j => nI (σ 14 j)))), (r 15, .inl (d 15, 145, .inl (fun j => nI (σ 15 j)))), (r 16, .inl (d 16, 145, .inl (fun j => nI (σ 16 j))))]
def clT (d : Nat → ClassId) : List (ClassId × FieldType) := [(d 2, .int), (d 5, .byte), (d 6, .byte), (d 7, .boolean), (d 8, .short), (d 9, .short), (d 10, .short), (d 11, .byte), (d 12, .short), (d 13, .short), (d 14, .short), (d 15, .short), (d 16, .short)]
abbrev clW (G : va_G) (h0 : Nat) (r : Nat → Nat) (d : Nat → ClassId) (A : Nat → Prop) (st : State) (H0 H : Heap) (locs : List Loc) (σ : Nat → Nat → Nat) : Prop := zW G (clT d) (clC h0 r d) A st H0 H locs σ
section Zcl
variable {p : Program} {l : Launch} {e : Env} {R : Room} {s : State} {m : MethodId} {args : Array Value} {below : List Frame} {meth : Method} {c : Code} {H : Heap} {locs : List Loc} {cells slots : Nat} {Q : State → Prop}
variable {cc : ByteArray} {pc nL : Nat} {ls : Array Slot} {rest : List Value}
variable {G : va_G} {A : Nat → Prop} {H0 : Heap} {σ : Nat → Nat → Nat} {h0 : Nat} {r : Nat → Nat} {d : Nat → ClassId}
theorem cl_rc (w : clW G h0 r d A s H0 H locs σ) : ∃ cell : Cell, H[h0]? = some cell ∧ cell.vm.isStatics = false ∧ s.vm.findClass RX1 = some cell.cls := va_recv w.1 w.2.1 (ci := 0) (q0 := 0) rfl rfl
theorem cl_g0 (C : zC p m c cc nL s args RX1) (w : clW G h0 r d A s H0 H locs σ) (hd : decode cc pc = .ok (.getfield 52, 3)) (kk : W p l e R s m args below meth c H locs cells slots Q (F0 m (pc + 3) ls (.int (nI (σ 0 0)) :: rest))) : W p l e R s m args below meth c H locs cells slots Q (F0 m pc ls (.ref h0 :: rest)) :=
  va_get (D := G) (ci := 0) (v := .int (nI (σ 0 0))) (C := RX1) (T := TX1) (N := 19) C.1 C.2.1 C.2.2.2.2 in_X1 C.2.2.2.1 w.1 w.2.1 0 rfl rfl 0 (by decide) (C.2.2.2.2 _ q37) (fun _ h9 => h9) rfl hd kk
theorem cl_p0 (C : zC p m c cc nL s args RX1) (w : clW G h0 r d A s H0 H locs σ) {v : Nat} (hv : v < 32768) (hd : decode cc pc = .ok (.putfield 52, 3)) (kk : ∀ (H1 : Heap) (locs1 : List Loc), clW G h0 r d A s H0 H1 locs1 (up σ 0 0 v) → W p l e R s m args below meth c H1 locs1 cells slots Q (F0 m (pc + 3) ls rest)) : W p l e R s m args below meth c H locs cells slots Q (F0 m pc ls (.int (nI v) :: .ref h0 :: rest)) :=
  va_put (D := G) (ci := 0) (v := .int (nI v)) (ty := .int) (C := RX1) (T := TX1) (N := 19) C.1 C.2.1 C.2.2.2.2 in_X1 tyX1 tyX1_ok nmX1 C.2.2.2.1 w.1 w.2.1 w.2.2.1 w.2.2.2.1 0 rfl rfl 0 (by decide) (C.2.2.2.2 _ q37) (fun _ h9 => h9) rfl (by decide +kernel) rfl rfl (Nat.le_of_ble_eq_true rfl) hd (fun H1 locs1 hP hD hS => kk H1 locs1 ⟨w.1, hP, hD, hS, w.2.2.2.2.1, zn_bd w.2.2.2.2.2 (by omega)⟩)
theorem cl_g1 (C : zC p m c cc nL s args RX1) (w : clW G h0 r d A s H0 H locs σ) (hd : decode cc pc = .ok (.getfield 56, 3)) (kk : W p l e R s m args below meth c H locs cells slots Q (F0 m (pc + 3) ls (.int (nI (σ 1 0)) :: rest))) : W p l e R s m args below meth c H locs cells slots Q (F0 m pc ls (.ref h0 :: rest)) :=
  va_get (D := G) (ci := 0) (v := .int (nI (σ 1 0))) (C := RX1) (T := TX1) (N := 19) C.1 C.2.1 C.2.2.2.2 in_X1 C.2.2.2.1 w.1 w.2.1 0 rfl rfl 1 (by decide) (C.2.2.2.2 _ q38) (fun _ h9 => h9) rfl hd kk
theorem cl_p1 (C : zC p m c cc nL s args RX1) (w : clW G h0 r d A s H0 H locs σ) {v : Nat} (hv : v < 32768) (hd : decode cc pc = .ok (.putfield 56, 3)) (kk : ∀ (H1 : Heap) (locs1 : List Loc), clW G h0 r d A s H0 H1 locs1 (up σ 1 0 v) → W p l e R s m args below meth c H1 locs1 cells slots Q (F0 m (pc + 3) ls rest)) : W p l e R s m args below meth c H locs cells slots Q (F0 m pc ls (.int (nI v) :: .ref h0 :: rest)) :=
  va_put (D := G) (ci := 0) (v := .int (nI v)) (ty := .int) (C := RX1) (T := TX1) (N := 19) C.1 C.2.1 C.2.2.2.2 in_X1 tyX1 tyX1_ok nmX1 C.2.2.2.1 w.1 w.2.1 w.2.2.1 w.2.2.2.1 0 rfl rfl 1 (by decide) (C.2.2.2.2 _ q38) (fun _ h9 => h9) rfl (by decide +kernel) rfl rfl (Nat.le_of_ble_eq_true rfl) hd (fun H1 locs1 hP hD hS => kk H1 locs1 ⟨w.1, hP, hD, hS, w.2.2.2.2.1, zn_bd w.2.2.2.2.2 (by omega)⟩)
theorem cl_g2 (C : zC p m c cc nL s args RX1) (w : clW G h0 r d A s H0 H locs σ) (hd : decode cc pc = .ok (.getfield 7, 3)) (kk : W p l e R s m args below meth c H locs cells slots Q (F0 m (pc + 3) ls (.ref (r 2) :: rest))) : W p l e R s m args below meth c H locs cells slots Q (F0 m pc ls (.ref h0 :: rest)) :=
  va_get (D := G) (ci := 0) (v := .ref (r 2)) (C := RX1) (T := TX1) (N := 19) C.1 C.2.1 C.2.2.2.2 in_X1 C.2.2.2.1 w.1 w.2.1 0 rfl rfl 2 (by decide) (C.2.2.2.2 _ q39) (fun _ h9 => h9) rfl hd kk
theorem cl_l2 (C : zC p m c cc nL s args RX1) (w : clW G h0 r d A s H0 H locs σ) {j : Nat} (hj : j < 12) (hd : decode cc pc = .ok (.iaload, 1)) (kk : W p l e R s m args below meth c H locs cells slots Q (F0 m (pc + 1) ls (.int (nI (σ 2 j)) :: rest))) : W p l e R s m args below meth c H locs cells slots Q (F0 m pc ls (.int (nI j) :: .ref (r 2) :: rest)) := by
  refine va_iald (f := fun j => nI (σ 2 j)) C.1 C.2.1 w.1 w.2.1 1 0 rfl rfl (vp_in_nI hj (by decide)) hd ?_
  rw [nI_clamp (show j < 2 ^ 31 by omega)]
  exact kk
theorem cl_s2 (C : zC p m c cc nL s args RX1) (w : clW G h0 r d A s H0 H locs σ) {j v : Nat} (hj : j < 12) (hv : v < 32768) (hd : decode cc pc = .ok (.iastore, 1)) (kk : ∀ (H1 : Heap) (locs1 : List Loc), clW G h0 r d A s H0 H1 locs1 (up σ 2 j v) → W p l e R s m args below meth c H1 locs1 cells slots Q (F0 m (pc + 1) ls rest)) : W p l e R s m args below meth c H locs cells slots Q (F0 m pc ls (.int (nI v) :: .int (nI j) :: .ref (r 2) :: rest)) := by
  refine va_iast (f := fun j => nI (σ 2 j)) C.1 C.2.1 w.1 w.2.1 w.2.2.1 w.2.2.2.1 1 0 rfl rfl (vp_in_nI hj (by decide)) hd (fun H1 locs1 hP hD hS => ?_)
  rw [zn_upd 2 (show j < 2147483648 by omega) rfl] at hP hD
  exact kk H1 locs1 ⟨w.1, hP, hD, hS, w.2.2.2.2.1, zn_bd w.2.2.2.2.2 (by omega)⟩
theorem cl_g3 (C : zC p m c cc nL s args RX1) (w : clW G h0 r d A s H0 H locs σ) (hd : decode cc pc = .ok (.getfield 63, 3)) (kk : W p l e R s m args below meth c H locs cells slots Q (F0 m (pc + 3) ls (.int (nI (σ 3 0)) :: rest))) : W p l e R s m args below meth c H locs cells slots Q (F0 m pc ls (.ref h0 :: rest)) :=
  va_get (D := G) (ci := 0) (v := .int (nI (σ 3 0))) (C := RX1) (T := TX1) (N := 19) C.1 C.2.1 C.2.2.2.2 in_X1 C.2.2.2.1 w.1 w.2.1 0 rfl rfl 3 (by decide) (C.2.2.2.2 _ q40) (fun _ h9 => h9) rfl hd kk
theorem cl_p3 (C : zC p m c cc nL s args RX1) (w : clW G h0 r d A s H0 H locs σ) {v : Nat} (hv : v < 2) (hd : decode cc pc = .ok (.putfield 63, 3)) (kk : ∀ (H1 : Heap) (locs1 : List Loc), clW G h0 r d A s H0 H1 locs1 (up σ 3 0 v) → W p l e R s m args below meth c H1 locs1 cells slots Q (F0 m (pc + 3) ls rest)) : W p l e R s m args below meth c H locs cells slots Q (F0 m pc ls (.int (nI v) :: .ref h0 :: rest)) :=
  va_put (D := G) (ci := 0) (v := .int (nI v)) (ty := .boolean) (C := RX1) (T := TX1) (N := 19) C.1 C.2.1 C.2.2.2.2 in_X1 tyX1 tyX1_ok nmX1 C.2.2.2.1 w.1 w.2.1 w.2.2.1 w.2.2.2.1 0 rfl rfl 3 (by decide) (C.2.2.2.2 _ q40) (fun _ h9 => h9) rfl (by decide +kernel) (zn_z hv) (zn_zf hv) (Nat.le_of_ble_eq_true rfl) hd (fun H1 locs1 hP hD hS => kk H1 locs1 ⟨w.1, hP, hD, hS, w.2.2.2.2.1, zn_bd w.2.2.2.2.2 (by omega)⟩)
theorem cl_g4 (C : zC p m c cc nL s args RX1) (w : clW G h0 r d A s H0 H locs σ) (hd : decode cc pc = .ok (.getfield 80, 3)) (kk : W p l e R s m args below meth c H locs cells slots Q (F0 m (pc + 3) ls (.int (nI (σ 4 0)) :: rest))) : W p l e R s m args below meth c H locs cells slots Q (F0 m pc ls (.ref h0 :: rest)) :=
  va_get (D := G) (ci := 0) (v := .int (nI (σ 4 0))) (C := RX1) (T := TX1) (N := 19) C.1 C.2.1 C.2.2.2.2 in_X1 C.2.2.2.1 w.1 w.2.1 0 rfl rfl 4 (by decide) (C.2.2.2.2 _ q41) (fun _ h9 => h9) rfl hd kk
theorem cl_p4 (C : zC p m c cc nL s args RX1) (w : clW G h0 r d A s H0 H locs σ) {v : Nat} (hv : v < 32768) (hd : decode cc pc = .ok (.putfield 80, 3)) (kk : ∀ (H1 : Heap) (locs1 : List Loc), clW G h0 r d A s H0 H1 locs1 (up σ 4 0 v) → W p l e R s m args below meth c H1 locs1 cells slots Q (F0 m (pc + 3) ls rest)) : W p l e R s m args below meth c H locs cells slots Q (F0 m pc ls (.int (nI v) :: .ref h0 :: rest)) :=
  va_put (D := G) (ci := 0) (v := .int (nI v)) (ty := .int) (C := RX1) (T := TX1) (N := 19) C.1 C.2.1 C.2.2.2.2 in_X1 tyX1 tyX1_ok nmX1 C.2.2.2.1 w.1 w.2.1 w.2.2.1 w.2.2.2.1 0 rfl rfl 4 (by decide) (C.2.2.2.2 _ q41) (fun _ h9 => h9) rfl (by decide +kernel) rfl rfl (Nat.le_of_ble_eq_true rfl) hd (fun H1 locs1 hP hD hS => kk H1 locs1 ⟨w.1, hP, hD, hS, w.2.2.2.2.1, zn_bd w.2.2.2.2.2 (by omega)⟩)
theorem cl_g5 (C : zC p m c cc nL s args RX1) (w : clW G h0 r d A s H0 H locs σ) (hd : decode cc pc = .ok (.getfield 13, 3)) (kk : W p l e R s m args below meth c H locs cells slots Q (F0 m (pc + 3) ls (.ref (r 5) :: rest))) : W p l e R s m args below meth c H locs cells slots Q (F0 m pc ls (.ref h0 :: rest)) :=
  va_get (D := G) (ci := 0) (v := .ref (r 5)) (C := RX1) (T := TX1) (N := 19) C.1 C.2.1 C.2.2.2.2 in_X1 C.2.2.2.1 w.1 w.2.1 0 rfl rfl 5 (by decide) (C.2.2.2.2 _ q42) (fun _ h9 => h9) rfl hd kk
theorem cl_l5 (C : zC p m c cc nL s args RX1) (w : clW G h0 r d A s H0 H locs σ) {j : Nat} (hj : j < 145) (hd : decode cc pc = .ok (.baload, 1)) (kk : W p l e R s m args below meth c H locs cells slots Q (F0 m (pc + 1) ls (.int (nI (σ 5 j)) :: rest))) : W p l e R s m args below meth c H locs cells slots Q (F0 m pc ls (.int (nI j) :: .ref (r 5) :: rest)) := by
  refine va_bald (f := fun j => nI (σ 5 j)) C.1 C.2.1 w.1 w.2.1 2 1 rfl rfl (vp_in_nI hj (by decide)) hd ?_
  rw [nI_clamp (show j < 2 ^ 31 by omega)]
  exact kk
theorem cl_s5 (C : zC p m c cc nL s args RX1) (w : clW G h0 r d A s H0 H locs σ) {j v : Nat} (hj : j < 145) (hv : v < 128) (hd : decode cc pc = .ok (.bastore, 1)) (kk : ∀ (H1 : Heap) (locs1 : List Loc), clW G h0 r d A s H0 H1 locs1 (up σ 5 j v) → W p l e R s m args below meth c H1 locs1 cells slots Q (F0 m (pc + 1) ls rest)) : W p l e R s m args below meth c H locs cells slots Q (F0 m pc ls (.int (nI v) :: .int (nI j) :: .ref (r 5) :: rest)) := by
  refine va_bast (f := fun j => nI (σ 5 j)) C.1 C.2.1 w.1 w.2.1 w.2.2.1 w.2.2.2.1 2 1 rfl rfl (vp_in_nI hj (by decide)) hd (fun H1 locs1 hP hD hS => ?_)
  rw [zn_upd 5 (show j < 2147483648 by omega) ((vp_nar_byte _).trans (zn_b8 hv))] at hP hD
  exact kk H1 locs1 ⟨w.1, hP, hD, hS, w.2.2.2.2.1, zn_bd w.2.2.2.2.2 (by omega)⟩
theorem cl_g6 (C : zC p m c cc nL s args RX1) (w : clW G h0 r d A s H0 H locs σ) (hd : decode cc pc = .ok (.getfield 17, 3)) (kk : W p l e R s m args below meth c H locs cells slots Q (F0 m (pc + 3) ls (.ref (r 6) :: rest))) : W p l e R s m args below meth c H locs cells slots Q (F0 m pc ls (.ref h0 :: rest)) :=
  va_get (D := G) (ci := 0) (v := .ref (r 6)) (C := RX1) (T := TX1) (N := 19) C.1 C.2.1 C.2.2.2.2 in_X1 C.2.2.2.1 w.1 w.2.1 0 rfl rfl 6 (by decide) (C.2.2.2.2 _ q43) (fun _ h9 => h9) rfl hd kk
theorem cl_l6 (C : zC p m c cc nL s args RX1) (w : clW G h0 r d A s H0 H locs σ) {j : Nat} (hj : j < 145) (hd : decode cc pc = .ok (.baload, 1)) (kk : W p l e R s m args below meth c H locs cells slots Q (F0 m (pc + 1) ls (.int (nI (σ 6 j)) :: rest))) : W p l e R s m args below meth c H locs cells slots Q (F0 m pc ls (.int (nI j) :: .ref (r 6) :: rest)) := by
  refine va_bald (f := fun j => nI (σ 6 j)) C.1 C.2.1 w.1 w.2.1 3 2 rfl rfl (vp_in_nI hj (by decide)) hd ?_
  rw [nI_clamp (show j < 2 ^ 31 by omega)]
  exact kk
theorem cl_s6 (C : zC p m c cc nL s args RX1) (w : clW G h0 r d A s H0 H locs σ) {j v : Nat} (hj : j < 145) (hv : v < 128) (hd : decode cc pc = .ok (.bastore, 1)) (kk : ∀ (H1 : Heap) (locs1 : List Loc), clW G h0 r d A s H0 H1 locs1 (up σ 6 j v) → W p l e R s m args below meth c H1 locs1 cells slots Q (F0 m (pc + 1) ls rest)) : W p l e R s m args below meth c H locs cells slots Q (F0 m pc ls (.int (nI v) :: .int (nI j) :: .ref (r 6) :: rest)) := by
  refine va_bast (f := fun j => nI (σ 6 j)) C.1 C.2.1 w.1 w.2.1 w.2.2.1 w.2.2.2.1 3 2 rfl rfl (vp_in_nI hj (by decide)) hd (fun H1 locs1 hP hD hS => ?_)
  rw [zn_upd 6 (show j < 2147483648 by omega) ((vp_nar_byte _).trans (zn_b8 hv))] at hP hD
  exact kk H1 locs1 ⟨w.1, hP, hD, hS, w.2.2.2.2.1, zn_bd w.2.2.2.2.2 (by omega)⟩
theorem cl_g7 (C : zC p m c cc nL s args RX1) (w : clW G h0 r d A s H0 H locs σ) (hd : decode cc pc = .ok (.getfield 20, 3)) (kk : W p l e R s m args below meth c H locs cells slots Q (F0 m (pc + 3) ls (.ref (r 7) :: rest))) : W p l e R s m args below meth c H locs cells slots Q (F0 m pc ls (.ref h0 :: rest)) :=
  va_get (D := G) (ci := 0) (v := .ref (r 7)) (C := RX1) (T := TX1) (N := 19) C.1 C.2.1 C.2.2.2.2 in_X1 C.2.2.2.1 w.1 w.2.1 0 rfl rfl 7 (by decide) (C.2.2.2.2 _ q44) (fun _ h9 => h9) rfl hd kk
theorem cl_l7 (C : zC p m c cc nL s args RX1) (w : clW G h0 r d A s H0 H locs σ) {j : Nat} (hj : j < 145) (hd : decode cc pc = .ok (.baload, 1)) (kk : W p l e R s m args below meth c H locs cells slots Q (F0 m (pc + 1) ls (.int (nI (σ 7 j)) :: rest))) : W p l e R s m args below meth c H locs cells slots Q (F0 m pc ls (.int (nI j) :: .ref (r 7) :: rest)) := by
  refine va_zald (f := fun j => nI (σ 7 j)) C.1 C.2.1 w.1 w.2.1 4 3 rfl rfl (vp_in_nI hj (by decide)) hd ?_
  rw [nI_clamp (show j < 2 ^ 31 by omega)]
  exact kk
theorem cl_s7 (C : zC p m c cc nL s args RX1) (w : clW G h0 r d A s H0 H locs σ) {j v : Nat} (hj : j < 145) (hv : v < 2) (hd : decode cc pc = .ok (.bastore, 1)) (kk : ∀ (H1 : Heap) (locs1 : List Loc), clW G h0 r d A s H0 H1 locs1 (up σ 7 j v) → W p l e R s m args below meth c H1 locs1 cells slots Q (F0 m (pc + 1) ls rest)) : W p l e R s m args below meth c H locs cells slots Q (F0 m pc ls (.int (nI v) :: .int (nI j) :: .ref (r 7) :: rest)) := by
  refine va_zast (f := fun j => nI (σ 7 j)) C.1 C.2.1 w.1 w.2.1 w.2.2.1 w.2.2.2.1 4 3 rfl rfl (vp_in_nI hj (by decide)) hd (fun H1 locs1 hP hD hS => ?_)
  rw [zn_upd 7 (show j < 2147483648 by omega) (zn_vz hv)] at hP hD
  exact kk H1 locs1 ⟨w.1, hP, hD, hS, w.2.2.2.2.1, zn_bd w.2.2.2.2.2 (by omega)⟩
theorem cl_g8 (C : zC p m c cc nL s args RX1) (w : clW G h0 r d A s H0 H locs σ) (hd : decode cc pc = .ok (.getfield 24, 3)) (kk : W p l e R s m args below meth c H locs cells slots Q (F0 m (pc + 3) ls (.ref (r 8) :: rest))) : W p l e R s m args below meth c H locs cells slots Q (F0 m pc ls (.ref h0 :: rest)) :=
  va_get (D := G) (ci := 0) (v := .ref (r 8)) (C := RX1) (T := TX1) (N := 19) C.1 C.2.1 C.2.2.2.2 in_X1 C.2.2.2.1 w.1 w.2.1 0 rfl rfl 8 (by decide) (C.2.2.2.2 _ q45) (fun _ h9 => h9) rfl hd kk
theorem cl_l8 (C : zC p m c cc nL s args RX1) (w : clW G h0 r d A s H0 H locs σ) {j : Nat} (hj : j < 145) (hd : decode cc pc = .ok (.saload, 1)) (kk : W p l e R s m args below meth c H locs cells slots Q (F0 m (pc + 1) ls (.int (nI (σ 8 j)) :: rest))) : W p l e R s m args below meth c H locs cells slots Q (F0 m pc ls (.int (nI j) :: .ref (r 8) :: rest)) := by
  refine va_sald (f := fun j => nI (σ 8 j)) C.1 C.2.1 w.1 w.2.1 5 4 rfl rfl (vp_in_nI hj (by decide)) hd ?_
  rw [nI_clamp (show j < 2 ^ 31 by omega)]
  exact kk
theorem cl_s8 (C : zC p m c cc nL s args RX1) (w : clW G h0 r d A s H0 H locs σ) {j v : Nat} (hj : j < 145) (hv : v < 32768) (hd : decode cc pc = .ok (.sastore, 1)) (kk : ∀ (H1 : Heap) (locs1 : List Loc), clW G h0 r d A s H0 H1 locs1 (up σ 8 j v) → W p l e R s m args below meth c H1 locs1 cells slots Q (F0 m (pc + 1) ls rest)) : W p l e R s m args below meth c H locs cells slots Q (F0 m pc ls (.int (nI v) :: .int (nI j) :: .ref (r 8) :: rest)) := by
  refine va_sast (f := fun j => nI (σ 8 j)) C.1 C.2.1 w.1 w.2.1 w.2.2.1 w.2.2.2.1 5 4 rfl rfl (vp_in_nI hj (by decide)) hd (fun H1 locs1 hP hD hS => ?_)
  rw [zn_upd 8 (show j < 2147483648 by omega) ((vp_nar_short _).trans (zn_s16 hv))] at hP hD
  exact kk H1 locs1 ⟨w.1, hP, hD, hS, w.2.2.2.2.1, zn_bd w.2.2.2.2.2 (by omega)⟩
theorem cl_g9 (C : zC p m c cc nL s args RX1) (w : clW G h0 r d A s H0 H locs σ) (hd : decode cc pc = .ok (.getfield 28, 3)) (kk : W p l e R s m args below meth c H locs cells slots Q (F0 m (pc + 3) ls (.ref (r 9) :: rest))) : W p l e R s m args below meth c H locs cells slots Q (F0 m pc ls (.ref h0 :: rest)) :=
  va_get (D := G) (ci := 0) (v := .ref (r 9)) (C := RX1) (T := TX1) (N := 19) C.1 C.2.1 C.2.2.2.2 in_X1 C.2.2.2.1 w.1 w.2.1 0 rfl rfl 9 (by decide) (C.2.2.2.2 _ q46) (fun _ h9 => h9) rfl hd kk
theorem cl_l9 (C : zC p m c cc nL s args RX1) (w : clW G h0 r d A s H0 H locs σ) {j : Nat} (hj : j < 13) (hd : decode cc pc = .ok (.saload, 1)) (kk : W p l e R s m args below meth c H locs cells slots Q (F0 m (pc + 1) ls (.int (nI (σ 9 j)) :: rest))) : W p l e R s m args below meth c H locs cells slots Q (F0 m pc ls (.int (nI j) :: .ref (r 9) :: rest)) := by
  refine va_sald (f := fun j => nI (σ 9 j)) C.1 C.2.1 w.1 w.2.1 6 5 rfl rfl (vp_in_nI hj (by decide)) hd ?_
  rw [nI_clamp (show j < 2 ^ 31 by omega)]
  exact kk
theorem cl_s9 (C : zC p m c cc nL s args RX1) (w : clW G h0 r d A s H0 H locs σ) {j v : Nat} (hj : j < 13) (hv : v < 32768) (hd : decode cc pc = .ok (.sastore, 1)) (kk : ∀ (H1 : Heap) (locs1 : List Loc), clW G h0 r d A s H0 H1 locs1 (up σ 9 j v) → W p l e R s m args below meth c H1 locs1 cells slots Q (F0 m (pc + 1) ls rest)) : W p l e R s m args below meth c H locs cells slots Q (F0 m pc ls (.int (nI v) :: .int (nI j) :: .ref (r 9) :: rest)) := by
  refine va_sast (f := fun j => nI (σ 9 j)) C.1 C.2.1 w.1 w.2.1 w.2.2.1 w.2.2.2.1 6 5 rfl rfl (vp_in_nI hj (by decide)) hd (fun H1 locs1 hP hD hS => ?_)
  rw [zn_upd 9 (show j < 2147483648 by omega) ((vp_nar_short _).trans (zn_s16 hv))] at hP hD
  exact kk H1 locs1 ⟨w.1, hP, hD, hS, w.2.2.2.2.1, zn_bd w.2.2.2.2.2 (by omega)⟩
theorem cl_g10 (C : zC p m c cc nL s args RX1) (w : clW G h0 r d A s H0 H locs σ) (hd : decode cc pc = .ok (.getfield 31, 3)) (kk : W p l e R s m args below meth c H locs cells slots Q (F0 m (pc + 3) ls (.ref (r 10) :: rest))) : W p l e R s m args below meth c H locs cells slots Q (F0 m pc ls (.ref h0 :: rest)) :=
  va_get (D := G) (ci := 0) (v := .ref (r 10)) (C := RX1) (T := TX1) (N := 19) C.1 C.2.1 C.2.2.2.2 in_X1 C.2.2.2.1 w.1 w.2.1 0 rfl rfl 10 (by decide) (C.2.2.2.2 _ q47) (fun _ h9 => h9) rfl hd kk
theorem cl_l10 (C : zC p m c cc nL s args RX1) (w : clW G h0 r d A s H0 H locs σ) {j : Nat} (hj : j < 145) (hd : decode cc pc = .ok (.saload, 1)) (kk : W p l e R s m args below meth c H locs cells slots Q (F0 m (pc + 1) ls (.int (nI (σ 10 j)) :: rest))) : W p l e R s m args below meth c H locs cells slots Q (F0 m pc ls (.int (nI j) :: .ref (r 10) :: rest)) := by
  refine va_sald (f := fun j => nI (σ 10 j)) C.1 C.2.1 w.1 w.2.1 7 6 rfl rfl (vp_in_nI hj (by decide)) hd ?_
  rw [nI_clamp (show j < 2 ^ 31 by omega)]
  exact kk
theorem cl_s10 (C : zC p m c cc nL s args RX1) (w : clW G h0 r d A s H0 H locs σ) {j v : Nat} (hj : j < 145) (hv : v < 32768) (hd : decode cc pc = .ok (.sastore, 1)) (kk : ∀ (H1 : Heap) (locs1 : List Loc), clW G h0 r d A s H0 H1 locs1 (up σ 10 j v) → W p l e R s m args below meth c H1 locs1 cells slots Q (F0 m (pc + 1) ls rest)) : W p l e R s m args below meth c H locs cells slots Q (F0 m pc ls (.int (nI v) :: .int (nI j) :: .ref (r 10) :: rest)) := by
  refine va_sast (f := fun j => nI (σ 10 j)) C.1 C.2.1 w.1 w.2.1 w.2.2.1 w.2.2.2.1 7 6 rfl rfl (vp_in_nI hj (by decide)) hd (fun H1 locs1 hP hD hS => ?_)
  rw [zn_upd 10 (show j < 2147483648 by omega) ((vp_nar_short _).trans (zn_s16 hv))] at hP hD
  exact kk H1 locs1 ⟨w.1, hP, hD, hS, w.2.2.2.2.1, zn_bd w.2.2.2.2.2 (by omega)⟩
theorem cl_g11 (C : zC p m c cc nL s args RX1) (w : clW G h0 r d A s H0 H locs σ) (hd : decode cc pc = .ok (.getfield 34, 3)) (kk : W p l e R s m args below meth c H locs cells slots Q (F0 m (pc + 3) ls (.ref (r 11) :: rest))) : W p l e R s m args below meth c H locs cells slots Q (F0 m pc ls (.ref h0 :: rest)) :=
  va_get (D := G) (ci := 0) (v := .ref (r 11)) (C := RX1) (T := TX1) (N := 19) C.1 C.2.1 C.2.2.2.2 in_X1 C.2.2.2.1 w.1 w.2.1 0 rfl rfl 11 (by decide) (C.2.2.2.2 _ q48) (fun _ h9 => h9) rfl hd kk
theorem cl_l11 (C : zC p m c cc nL s args RX1) (w : clW G h0 r d A s H0 H locs σ) {j : Nat} (hj : j < 145) (hd : decode cc pc = .ok (.baload, 1)) (kk : W p l e R s m args below meth c H locs cells slots Q (F0 m (pc + 1) ls (.int (nI (σ 11 j)) :: rest))) : W p l e R s m args below meth c H locs cells slots Q (F0 m pc ls (.int (nI j) :: .ref (r 11) :: rest)) := by
  refine va_bald (f := fun j => nI (σ 11 j)) C.1 C.2.1 w.1 w.2.1 8 7 rfl rfl (vp_in_nI hj (by decide)) hd ?_
  rw [nI_clamp (show j < 2 ^ 31 by omega)]
  exact kk
theorem cl_s11 (C : zC p m c cc nL s args RX1) (w : clW G h0 r d A s H0 H locs σ) {j v : Nat} (hj : j < 145) (hv : v < 128) (hd : decode cc pc = .ok (.bastore, 1)) (kk : ∀ (H1 : Heap) (locs1 : List Loc), clW G h0 r d A s H0 H1 locs1 (up σ 11 j v) → W p l e R s m args below meth c H1 locs1 cells slots Q (F0 m (pc + 1) ls rest)) : W p l e R s m args below meth c H locs cells slots Q (F0 m pc ls (.int (nI v) :: .int (nI j) :: .ref (r 11) :: rest)) := by
  refine va_bast (f := fun j => nI (σ 11 j)) C.1 C.2.1 w.1 w.2.1 w.2.2.1 w.2.2.2.1 8 7 rfl rfl (vp_in_nI hj (by decide)) hd (fun H1 locs1 hP hD hS => ?_)
  rw [zn_upd 11 (show j < 2147483648 by omega) ((vp_nar_byte _).trans (zn_b8 hv))] at hP hD
  exact kk H1 locs1 ⟨w.1, hP, hD, hS, w.2.2.2.2.1, zn_bd w.2.2.2.2.2 (by omega)⟩
theorem cl_g12 (C : zC p m c cc nL s args RX1) (w : clW G h0 r d A s H0 H locs σ) (hd : decode cc pc = .ok (.getfield 37, 3)) (kk : W p l e R s m args below meth c H locs cells slots Q (F0 m (pc + 3) ls (.ref (r 12) :: rest))) : W p l e R s m args below meth c H locs cells slots Q (F0 m pc ls (.ref h0 :: rest)) :=
  va_get (D := G) (ci := 0) (v := .ref (r 12)) (C := RX1) (T := TX1) (N := 19) C.1 C.2.1 C.2.2.2.2 in_X1 C.2.2.2.1 w.1 w.2.1 0 rfl rfl 12 (by decide) (C.2.2.2.2 _ q49) (fun _ h9 => h9) rfl hd kk
theorem cl_l12 (C : zC p m c cc nL s args RX1) (w : clW G h0 r d A s H0 H locs σ) {j : Nat} (hj : j < 145) (hd : decode cc pc = .ok (.saload, 1)) (kk : W p l e R s m args below meth c H locs cells slots Q (F0 m (pc + 1) ls (.int (nI (σ 12 j)) :: rest))) : W p l e R s m args below meth c H locs cells slots Q (F0 m pc ls (.int (nI j) :: .ref (r 12) :: rest)) := by
  refine va_sald (f := fun j => nI (σ 12 j)) C.1 C.2.1 w.1 w.2.1 9 8 rfl rfl (vp_in_nI hj (by decide)) hd ?_
  rw [nI_clamp (show j < 2 ^ 31 by omega)]
  exact kk
theorem cl_s12 (C : zC p m c cc nL s args RX1) (w : clW G h0 r d A s H0 H locs σ) {j v : Nat} (hj : j < 145) (hv : v < 32768) (hd : decode cc pc = .ok (.sastore, 1)) (kk : ∀ (H1 : Heap) (locs1 : List Loc), clW G h0 r d A s H0 H1 locs1 (up σ 12 j v) → W p l e R s m args below meth c H1 locs1 cells slots Q (F0 m (pc + 1) ls rest)) : W p l e R s m args below meth c H locs cells slots Q (F0 m pc ls (.int (nI v) :: .int (nI j) :: .ref (r 12) :: rest)) := by
  refine va_sast (f := fun j => nI (σ 12 j)) C.1 C.2.1 w.1 w.2.1 w.2.2.1 w.2.2.2.1 9 8 rfl rfl (vp_in_nI hj (by decide)) hd (fun H1 locs1 hP hD hS => ?_)
  rw [zn_upd 12 (show j < 2147483648 by omega) ((vp_nar_short _).trans (zn_s16 hv))] at hP hD
  exact kk H1 locs1 ⟨w.1, hP, hD, hS, w.2.2.2.2.1, zn_bd w.2.2.2.2.2 (by omega)⟩
theorem cl_g13 (C : zC p m c cc nL s args RX1) (w : clW G h0 r d A s H0 H locs σ) (hd : decode cc pc = .ok (.getfield 40, 3)) (kk : W p l e R s m args below meth c H locs cells slots Q (F0 m (pc + 3) ls (.ref (r 13) :: rest))) : W p l e R s m args below meth c H locs cells slots Q (F0 m pc ls (.ref h0 :: rest)) :=
  va_get (D := G) (ci := 0) (v := .ref (r 13)) (C := RX1) (T := TX1) (N := 19) C.1 C.2.1 C.2.2.2.2 in_X1 C.2.2.2.1 w.1 w.2.1 0 rfl rfl 13 (by decide) (C.2.2.2.2 _ q50) (fun _ h9 => h9) rfl hd kk
theorem cl_l13 (C : zC p m c cc nL s args RX1) (w : clW G h0 r d A s H0 H locs σ) {j : Nat} (hj : j < 145) (hd : decode cc pc = .ok (.saload, 1)) (kk : W p l e R s m args below meth c H locs cells slots Q (F0 m (pc + 1) ls (.int (nI (σ 13 j)) :: rest))) : W p l e R s m args below meth c H locs cells slots Q (F0 m pc ls (.int (nI j) :: .ref (r 13) :: rest)) := by
  refine va_sald (f := fun j => nI (σ 13 j)) C.1 C.2.1 w.1 w.2.1 10 9 rfl rfl (vp_in_nI hj (by decide)) hd ?_
  rw [nI_clamp (show j < 2 ^ 31 by omega)]
  exact kk
theorem cl_s13 (C : zC p m c cc nL s args RX1) (w : clW G h0 r d A s H0 H locs σ) {j v : Nat} (hj : j < 145) (hv : v < 32768) (hd : decode cc pc = .ok (.sastore, 1)) (kk : ∀ (H1 : Heap) (locs1 : List Loc), clW G h0 r d A s H0 H1 locs1 (up σ 13 j v) → W p l e R s m args below meth c H1 locs1 cells slots Q (F0 m (pc + 1) ls rest)) : W p l e R s m args below meth c H locs cells slots Q (F0 m pc ls (.int (nI v) :: .int (nI j) :: .ref (r 13) :: rest)) := by
  refine va_sast (f := fun j => nI (σ 13 j)) C.1 C.2.1 w.1 w.2.1 w.2.2.1 w.2.2.2.1 10 9 rfl rfl (vp_in_nI hj (by decide)) hd (fun H1 locs1 hP hD hS => ?_)
  rw [zn_upd 13 (show j < 2147483648 by omega) ((vp_nar_short _).trans (zn_s16 hv))] at hP hD
  exact kk H1 locs1 ⟨w.1, hP, hD, hS, w.2.2.2.2.1, zn_bd w.2.2.2.2.2 (by omega)⟩
theorem cl_g14 (C : zC p m c cc nL s args RX1) (w : clW G h0 r d A s H0 H locs σ) (hd : decode cc pc = .ok (.getfield 43, 3)) (kk : W p l e R s m args below meth c H locs cells slots Q (F0 m (pc + 3) ls (.ref (r 14) :: rest))) : W p l e R s m args below meth c H locs cells slots Q (F0 m pc ls (.ref h0 :: rest)) :=
  va_get (D := G) (ci := 0) (v := .ref (r 14)) (C := RX1) (T := TX1) (N := 19) C.1 C.2.1 C.2.2.2.2 in_X1 C.2.2.2.1 w.1 w.2.1 0 rfl rfl 14 (by decide) (C.2.2.2.2 _ q51) (fun _ h9 => h9) rfl hd kk
theorem cl_l14 (C : zC p m c cc nL s args RX1) (w : clW G h0 r d A s H0 H locs σ) {j : Nat} (hj : j < 145) (hd : decode cc pc = .ok (.saload, 1)) (kk : W p l e R s m args below meth c H locs cells slots Q (F0 m (pc + 1) ls (.int (nI (σ 14 j)) :: rest))) : W p l e R s m args below meth c H locs cells slots Q (F0 m pc ls (.int (nI j) :: .ref (r 14) :: rest)) := by
  refine va_sald (f := fun j => nI (σ 14 j)) C.1 C.2.1 w.1 w.2.1 11 10 rfl rfl (vp_in_nI hj (by decide)) hd ?_
  rw [nI_clamp (show j < 2 ^ 31 by omega)]
  exact kk
theorem cl_s14 (C : zC p m c cc nL s args RX1) (w : clW G h0 r d A s H0 H locs σ) {j v : Nat} (hj : j < 145) (hv : v < 32768) (hd : decode cc pc = .ok (.sastore, 1)) (kk : ∀ (H1 : Heap) (locs1 : List Loc), clW G h0 r d A s H0 H1 locs1 (up σ 14 j v) → W p l e R s m args below meth c H1 locs1 cells slots Q (F0 m (pc + 1) ls rest)) : W p l e R s m args below meth c H locs cells slots Q (F0 m pc ls (.int (nI v) :: .int (nI j) :: .ref (r 14) :: rest)) := by
  refine va_sast (f := fun j => nI (σ 14 j)) C.1 C.2.1 w.1 w.2.1 w.2.2.1 w.2.2.2.1 11 10 rfl rfl (vp_in_nI hj (by decide)) hd (fun H1 locs1 hP hD hS => ?_)
  rw [zn_upd 14 (show j < 2147483648 by omega) ((vp_nar_short _).trans (zn_s16 hv))] at hP hD
  exact kk H1 locs1 ⟨w.1, hP, hD, hS, w.2.2.2.2.1, zn_bd w.2.2.2.2.2 (by omega)⟩
theorem cl_g15 (C : zC p m c cc nL s args RX1) (w : clW G h0 r d A s H0 H locs σ) (hd : decode cc pc = .ok (.getfield 46, 3)) (kk : W p l e R s m args below meth c H locs cells slots Q (F0 m (pc + 3) ls (.ref (r 15) :: rest))) : W p l e R s m args below meth c H locs cells slots Q (F0 m pc ls (.ref h0 :: rest)) :=
  va_get (D := G) (ci := 0) (v := .ref (r 15)) (C := RX1) (T := TX1) (N := 19) C.1 C.2.1 C.2.2.2.2 in_X1 C.2.2.2.1 w.1 w.2.1 0 rfl rfl 15 (by decide) (C.2.2.2.2 _ q52) (fun _ h9 => h9) rfl hd kk
theorem cl_l15 (C : zC p m c cc nL s args RX1) (w : clW G h0 r d A s H0 H locs σ) {j : Nat} (hj : j < 145) (hd : decode cc pc = .ok (.saload, 1)) (kk : W p l e R s m args below meth c H locs cells slots Q (F0 m (pc + 1) ls (.int (nI (σ 15 j)) :: rest))) : W p l e R s m args below meth c H locs cells slots Q (F0 m pc ls (.int (nI j) :: .ref (r 15) :: rest)) := by
  refine va_sald (f := fun j => nI (σ 15 j)) C.1 C.2.1 w.1 w.2.1 12 11 rfl rfl (vp_in_nI hj (by decide)) hd ?_
  rw [nI_clamp (show j < 2 ^ 31 by omega)]
  exact kk
theorem cl_s15 (C : zC p m c cc nL s args RX1) (w : clW G h0 r d A s H0 H locs σ) {j v : Nat} (hj : j < 145) (hv : v < 32768) (hd : decode cc pc = .ok (.sastore, 1)) (kk : ∀ (H1 : Heap) (locs1 : List Loc), clW G h0 r d A s H0 H1 locs1 (up σ 15 j v) → W p l e R s m args below meth c H1 locs1 cells slots Q (F0 m (pc + 1) ls rest)) : W p l e R s m args below meth c H locs cells slots Q (F0 m pc ls (.int (nI v) :: .int (nI j) :: .ref (r 15) :: rest)) := by
  refine va_sast (f := fun j => nI (σ 15 j)) C.1 C.2.1 w.1 w.2.1 w.2.2.1 w.2.2.2.1 12 11 rfl rfl (vp_in_nI hj (by decide)) hd (fun H1 locs1 hP hD hS => ?_)
  rw [zn_upd 15 (show j < 2147483648 by omega) ((vp_nar_short _).trans (zn_s16 hv))] at hP hD
  exact kk H1 locs1 ⟨w.1, hP, hD, hS, w.2.2.2.2.1, zn_bd w.2.2.2.2.2 (by omega)⟩
theorem cl_g16 (C : zC p m c cc nL s args RX1) (w : clW G h0 r d A s H0 H locs σ) (hd : decode cc pc = .ok (.getfield 49, 3)) (kk : W p l e R s m args below meth c H locs cells slots Q (F0 m (pc + 3) ls (.ref (r 16) :: rest))) : W p l e R s m args below meth c H locs cells slots Q (F0 m pc ls (.ref h0 :: rest)) :=
  va_get (D := G) (ci := 0) (v := .ref (r 16)) (C := RX1) (T := TX1) (N := 19) C.1 C.2.1 C.2.2.2.2 in_X1 C.2.2.2.1 w.1 w.2.1 0 rfl rfl 16 (by decide) (C.2.2.2.2 _ q53) (fun _ h9 => h9) rfl hd kk
theorem cl_l16 (C : zC p m c cc nL s args RX1) (w : clW G h0 r d A s H0 H locs σ) {j : Nat} (hj : j < 145) (hd : decode cc pc = .ok (.saload, 1)) (kk : W p l e R s m args below meth c H locs cells slots Q (F0 m (pc + 1) ls (.int (nI (σ 16 j)) :: rest))) : W p l e R s m args below meth c H locs cells slots Q (F0 m pc ls (.int (nI j) :: .ref (r 16) :: rest)) := by
  refine va_sald (f := fun j => nI (σ 16 j)) C.1 C.2.1 w.1 w.2.1 13 12 rfl rfl (vp_in_nI hj (by decide)) hd ?_
  rw [nI_clamp (show j < 2 ^ 31 by omega)]
  exact kk
theorem cl_s16 (C : zC p m c cc nL s args RX1) (w : clW G h0 r d A s H0 H locs σ) {j v : Nat} (hj : j < 145) (hv : v < 32768) (hd : decode cc pc = .ok (.sastore, 1)) (kk : ∀ (H1 : Heap) (locs1 : List Loc), clW G h0 r d A s H0 H1 locs1 (up σ 16 j v) → W p l e R s m args below meth c H1 locs1 cells slots Q (F0 m (pc + 1) ls rest)) : W p l e R s m args below meth c H locs cells slots Q (F0 m pc ls (.int (nI v) :: .int (nI j) :: .ref (r 16) :: rest)) := by
  refine va_sast (f := fun j => nI (σ 16 j)) C.1 C.2.1 w.1 w.2.1 w.2.2.1 w.2.2.2.1 13 12 rfl rfl (vp_in_nI hj (by decide)) hd (fun H1 locs1 hP hD hS => ?_)
  rw [zn_upd 16 (show j < 2147483648 by omega) ((vp_nar_short _).trans (zn_s16 hv))] at hP hD
  exact kk H1 locs1 ⟨w.1, hP, hD, hS, w.2.2.2.2.1, zn_bd w.2.2.2.2.2 (by omega)⟩
theorem cl_g17 (C : zC p m c cc nL s args RX1) (w : clW G h0 r d A s H0 H locs σ) (hd : decode cc pc = .ok (.getfield 70, 3)) (kk : W p l e R s m args below meth c H locs cells slots Q (F0 m (pc + 3) ls (.int (nI (σ 17 0)) :: rest))) : W p l e R s m args below meth c H locs cells slots Q (F0 m pc ls (.ref h0 :: rest)) :=
  va_get (D := G) (ci := 0) (v := .int (nI (σ 17 0))) (C := RX1) (T := TX1) (N := 19) C.1 C.2.1 C.2.2.2.2 in_X1 C.2.2.2.1 w.1 w.2.1 0 rfl rfl 17 (by decide) (C.2.2.2.2 _ q54) (fun _ h9 => h9) rfl hd kk
theorem cl_p17 (C : zC p m c cc nL s args RX1) (w : clW G h0 r d A s H0 H locs σ) {v : Nat} (hv : v < 32768) (hd : decode cc pc = .ok (.putfield 70, 3)) (kk : ∀ (H1 : Heap) (locs1 : List Loc), clW G h0 r d A s H0 H1 locs1 (up σ 17 0 v) → W p l e R s m args below meth c H1 locs1 cells slots Q (F0 m (pc + 3) ls rest)) : W p l e R s m args below meth c H locs cells slots Q (F0 m pc ls (.int (nI v) :: .ref h0 :: rest)) :=
  va_put (D := G) (ci := 0) (v := .int (nI v)) (ty := .int) (C := RX1) (T := TX1) (N := 19) C.1 C.2.1 C.2.2.2.2 in_X1 tyX1 tyX1_ok nmX1 C.2.2.2.1 w.1 w.2.1 w.2.2.1 w.2.2.2.1 0 rfl rfl 17 (by decide) (C.2.2.2.2 _ q54) (fun _ h9 => h9) rfl (by decide +kernel) rfl rfl (Nat.le_of_ble_eq_true rfl) hd (fun H1 locs1 hP hD hS => kk H1 locs1 ⟨w.1, hP, hD, hS, w.2.2.2.2.1, zn_bd w.2.2.2.2.2 (by omega)⟩)
theorem cl_g18 (C : zC p m c cc nL s args RX1) (w : clW G h0 r d A s H0 H locs σ) (hd : decode cc pc = .ok (.getfield 73, 3)) (kk : W p l e R s m args below meth c H locs cells slots Q (F0 m (pc + 3) ls (.int (nI (σ 18 0)) :: rest))) : W p l e R s m args below meth c H locs cells slots Q (F0 m pc ls (.ref h0 :: rest)) :=
  va_get (D := G) (ci := 0) (v := .int (nI (σ 18 0))) (C := RX1) (T := TX1) (N := 19) C.1 C.2.1 C.2.2.2.2 in_X1 C.2.2.2.1 w.1 w.2.1 0 rfl rfl 18 (by decide) (C.2.2.2.2 _ q55) (fun _ h9 => h9) rfl hd kk
theorem cl_p18 (C : zC p m c cc nL s args RX1) (w : clW G h0 r d A s H0 H locs σ) {v : Nat} (hv : v < 32768) (hd : decode cc pc = .ok (.putfield 73, 3)) (kk : ∀ (H1 : Heap) (locs1 : List Loc), clW G h0 r d A s H0 H1 locs1 (up σ 18 0 v) → W p l e R s m args below meth c H1 locs1 cells slots Q (F0 m (pc + 3) ls rest)) : W p l e R s m args below meth c H locs cells slots Q (F0 m pc ls (.int (nI v) :: .ref h0 :: rest)) :=
  va_put (D := G) (ci := 0) (v := .int (nI v)) (ty := .int) (C := RX1) (T := TX1) (N := 19) C.1 C.2.1 C.2.2.2.2 in_X1 tyX1 tyX1_ok nmX1 C.2.2.2.1 w.1 w.2.1 w.2.2.1 w.2.2.2.1 0 rfl rfl 18 (by decide) (C.2.2.2.2 _ q55) (fun _ h9 => h9) rfl (by decide +kernel) rfl rfl (Nat.le_of_ble_eq_true rfl) hd (fun H1 locs1 hP hD hS => kk H1 locs1 ⟨w.1, hP, hD, hS, w.2.2.2.2.1, zn_bd w.2.2.2.2.2 (by omega)⟩)
end Zcl
def mlC (h0 : Nat) (r : Nat → Nat) (d : Nat → ClassId) (σ : Nat → Nat → Nat) : va_W := [(h0, .inr (1, [.int (nI (σ 0 0)), .int (nI (σ 1 0)), .ref (r 2), .ref (r 3), .ref (r 4), .ref (r 5)])), (r 2, .inl (d 2, 196, .inl (fun j => nI (σ 2 j)))), (r 3, .inl (d 3, 196, .inl (fun j => nI (σ 3 j)))), (r 4, .inl (d 4, 196, .inl (fun j => nI (σ 4 j)))), (r 5, .inl (d 5, 196, .inl (fun j => nI (σ 5 j))))]
def mlT (d : Nat → ClassId) : List (ClassId × FieldType) := [(d 2, .boolean), (d 3, .int), (d 4, .int), (d 5, .boolean)]
abbrev mlW (G : va_G) (h0 : Nat) (r : Nat → Nat) (d : Nat → ClassId) (A : Nat → Prop) (st : State) (H0 H : Heap) (locs : List Loc) (σ : Nat → Nat → Nat) : Prop := zW G (mlT d) (mlC h0 r d) A st H0 H locs σ
section Zml
variable {p : Program} {l : Launch} {e : Env} {R : Room} {s : State} {m : MethodId} {args : Array Value} {below : List Frame} {meth : Method} {c : Code} {H : Heap} {locs : List Loc} {cells slots : Nat} {Q : State → Prop}
variable {cc : ByteArray} {pc nL : Nat} {ls : Array Slot} {rest : List Value}
variable {G : va_G} {A : Nat → Prop} {H0 : Heap} {σ : Nat → Nat → Nat} {h0 : Nat} {r : Nat → Nat} {d : Nat → ClassId}
theorem ml_rc (w : mlW G h0 r d A s H0 H locs σ) : ∃ cell : Cell, H[h0]? = some cell ∧ cell.vm.isStatics = false ∧ s.vm.findClass RX2 = some cell.cls := va_recv w.1 w.2.1 (ci := 1) (q0 := 0) rfl rfl
theorem ml_g0 (C : zC p m c cc nL s args RX2) (w : mlW G h0 r d A s H0 H locs σ) (hd : decode cc pc = .ok (.getfield 23, 3)) (kk : W p l e R s m args below meth c H locs cells slots Q (F0 m (pc + 3) ls (.int (nI (σ 0 0)) :: rest))) : W p l e R s m args below meth c H locs cells slots Q (F0 m pc ls (.ref h0 :: rest)) :=
  va_get (D := G) (ci := 1) (v := .int (nI (σ 0 0))) (C := RX2) (T := TX2) (N := 6) C.1 C.2.1 C.2.2.2.2 in_X2 C.2.2.2.1 w.1 w.2.1 0 rfl rfl 0 (by decide) (C.2.2.2.2 _ q196) (fun _ h9 => h9) rfl hd kk
theorem ml_p0 (C : zC p m c cc nL s args RX2) (w : mlW G h0 r d A s H0 H locs σ) {v : Nat} (hv : v < 32768) (hd : decode cc pc = .ok (.putfield 23, 3)) (kk : ∀ (H1 : Heap) (locs1 : List Loc), mlW G h0 r d A s H0 H1 locs1 (up σ 0 0 v) → W p l e R s m args below meth c H1 locs1 cells slots Q (F0 m (pc + 3) ls rest)) : W p l e R s m args below meth c H locs cells slots Q (F0 m pc ls (.int (nI v) :: .ref h0 :: rest)) :=
  va_put (D := G) (ci := 1) (v := .int (nI v)) (ty := .int) (C := RX2) (T := TX2) (N := 6) C.1 C.2.1 C.2.2.2.2 in_X2 tyX2 tyX2_ok nmX2 C.2.2.2.1 w.1 w.2.1 w.2.2.1 w.2.2.2.1 0 rfl rfl 0 (by decide) (C.2.2.2.2 _ q196) (fun _ h9 => h9) rfl (by decide +kernel) rfl rfl (Nat.le_of_ble_eq_true rfl) hd (fun H1 locs1 hP hD hS => kk H1 locs1 ⟨w.1, hP, hD, hS, w.2.2.2.2.1, zn_bd w.2.2.2.2.2 (by omega)⟩)
theorem ml_g1 (C : zC p m c cc nL s args RX2) (w : mlW G h0 r d A s H0 H locs σ) (hd : decode cc pc = .ok (.getfield 27, 3)) (kk : W p l e R s m args below meth c H locs cells slots Q (F0 m (pc + 3) ls (.int (nI (σ 1 0)) :: rest))) : W p l e R s m args below meth c H locs cells slots Q (F0 m pc ls (.ref h0 :: rest)) :=
  va_get (D := G) (ci := 1) (v := .int (nI (σ 1 0))) (C := RX2) (T := TX2) (N := 6) C.1 C.2.1 C.2.2.2.2 in_X2 C.2.2.2.1 w.1 w.2.1 0 rfl rfl 1 (by decide) (C.2.2.2.2 _ q197) (fun _ h9 => h9) rfl hd kk
theorem ml_p1 (C : zC p m c cc nL s args RX2) (w : mlW G h0 r d A s H0 H locs σ) {v : Nat} (hv : v < 32768) (hd : decode cc pc = .ok (.putfield 27, 3)) (kk : ∀ (H1 : Heap) (locs1 : List Loc), mlW G h0 r d A s H0 H1 locs1 (up σ 1 0 v) → W p l e R s m args below meth c H1 locs1 cells slots Q (F0 m (pc + 3) ls rest)) : W p l e R s m args below meth c H locs cells slots Q (F0 m pc ls (.int (nI v) :: .ref h0 :: rest)) :=
  va_put (D := G) (ci := 1) (v := .int (nI v)) (ty := .int) (C := RX2) (T := TX2) (N := 6) C.1 C.2.1 C.2.2.2.2 in_X2 tyX2 tyX2_ok nmX2 C.2.2.2.1 w.1 w.2.1 w.2.2.1 w.2.2.2.1 0 rfl rfl 1 (by decide) (C.2.2.2.2 _ q197) (fun _ h9 => h9) rfl (by decide +kernel) rfl rfl (Nat.le_of_ble_eq_true rfl) hd (fun H1 locs1 hP hD hS => kk H1 locs1 ⟨w.1, hP, hD, hS, w.2.2.2.2.1, zn_bd w.2.2.2.2.2 (by omega)⟩)
theorem ml_g2 (C : zC p m c cc nL s args RX2) (w : mlW G h0 r d A s H0 H locs σ) (hd : decode cc pc = .ok (.getfield 7, 3)) (kk : W p l e R s m args below meth c H locs cells slots Q (F0 m (pc + 3) ls (.ref (r 2) :: rest))) : W p l e R s m args below meth c H locs cells slots Q (F0 m pc ls (.ref h0 :: rest)) :=
  va_get (D := G) (ci := 1) (v := .ref (r 2)) (C := RX2) (T := TX2) (N := 6) C.1 C.2.1 C.2.2.2.2 in_X2 C.2.2.2.1 w.1 w.2.1 0 rfl rfl 2 (by decide) (C.2.2.2.2 _ q198) (fun _ h9 => h9) rfl hd kk
theorem ml_l2 (C : zC p m c cc nL s args RX2) (w : mlW G h0 r d A s H0 H locs σ) {j : Nat} (hj : j < 196) (hd : decode cc pc = .ok (.baload, 1)) (kk : W p l e R s m args below meth c H locs cells slots Q (F0 m (pc + 1) ls (.int (nI (σ 2 j)) :: rest))) : W p l e R s m args below meth c H locs cells slots Q (F0 m pc ls (.int (nI j) :: .ref (r 2) :: rest)) := by
  refine va_zald (f := fun j => nI (σ 2 j)) C.1 C.2.1 w.1 w.2.1 1 0 rfl rfl (vp_in_nI hj (by decide)) hd ?_
  rw [nI_clamp (show j < 2 ^ 31 by omega)]
  exact kk
theorem ml_s2 (C : zC p m c cc nL s args RX2) (w : mlW G h0 r d A s H0 H locs σ) {j v : Nat} (hj : j < 196) (hv : v < 2) (hd : decode cc pc = .ok (.bastore, 1)) (kk : ∀ (H1 : Heap) (locs1 : List Loc), mlW G h0 r d A s H0 H1 locs1 (up σ 2 j v) → W p l e R s m args below meth c H1 locs1 cells slots Q (F0 m (pc + 1) ls rest)) : W p l e R s m args below meth c H locs cells slots Q (F0 m pc ls (.int (nI v) :: .int (nI j) :: .ref (r 2) :: rest)) := by
  refine va_zast (f := fun j => nI (σ 2 j)) C.1 C.2.1 w.1 w.2.1 w.2.2.1 w.2.2.2.1 1 0 rfl rfl (vp_in_nI hj (by decide)) hd (fun H1 locs1 hP hD hS => ?_)
  rw [zn_upd 2 (show j < 2147483648 by omega) (zn_vz hv)] at hP hD
  exact kk H1 locs1 ⟨w.1, hP, hD, hS, w.2.2.2.2.1, zn_bd w.2.2.2.2.2 (by omega)⟩
theorem ml_g3 (C : zC p m c cc nL s args RX2) (w : mlW G h0 r d A s H0 H locs σ) (hd : decode cc pc = .ok (.getfield 13, 3)) (kk : W p l e R s m args below meth c H locs cells slots Q (F0 m (pc + 3) ls (.ref (r 3) :: rest))) : W p l e R s m args below meth c H locs cells slots Q (F0 m pc ls (.ref h0 :: rest)) :=
  va_get (D := G) (ci := 1) (v := .ref (r 3)) (C := RX2) (T := TX2) (N := 6) C.1 C.2.1 C.2.2.2.2 in_X2 C.2.2.2.1 w.1 w.2.1 0 rfl rfl 3 (by decide) (C.2.2.2.2 _ q199) (fun _ h9 => h9) rfl hd kk
theorem ml_l3 (C : zC p m c cc nL s args RX2) (w : mlW G h0 r d A s H0 H locs σ) {j : Nat} (hj : j < 196) (hd : decode cc pc = .ok (.iaload, 1)) (kk : W p l e R s m args below meth c H locs cells slots Q (F0 m (pc + 1) ls (.int (nI (σ 3 j)) :: rest))) : W p l e R s m args below meth c H locs cells slots Q (F0 m pc ls (.int (nI j) :: .ref (r 3) :: rest)) := by
  refine va_iald (f := fun j => nI (σ 3 j)) C.1 C.2.1 w.1 w.2.1 2 1 rfl rfl (vp_in_nI hj (by decide)) hd ?_
  rw [nI_clamp (show j < 2 ^ 31 by omega)]
  exact kk
theorem ml_s3 (C : zC p m c cc nL s args RX2) (w : mlW G h0 r d A s H0 H locs σ) {j v : Nat} (hj : j < 196) (hv : v < 32768) (hd : decode cc pc = .ok (.iastore, 1)) (kk : ∀ (H1 : Heap) (locs1 : List Loc), mlW G h0 r d A s H0 H1 locs1 (up σ 3 j v) → W p l e R s m args below meth c H1 locs1 cells slots Q (F0 m (pc + 1) ls rest)) : W p l e R s m args below meth c H locs cells slots Q (F0 m pc ls (.int (nI v) :: .int (nI j) :: .ref (r 3) :: rest)) := by
  refine va_iast (f := fun j => nI (σ 3 j)) C.1 C.2.1 w.1 w.2.1 w.2.2.1 w.2.2.2.1 2 1 rfl rfl (vp_in_nI hj (by decide)) hd (fun H1 locs1 hP hD hS => ?_)
  rw [zn_upd 3 (show j < 2147483648 by omega) rfl] at hP hD
  exact kk H1 locs1 ⟨w.1, hP, hD, hS, w.2.2.2.2.1, zn_bd w.2.2.2.2.2 (by omega)⟩
theorem ml_g4 (C : zC p m c cc nL s args RX2) (w : mlW G h0 r d A s H0 H locs σ) (hd : decode cc pc = .ok (.getfield 17, 3)) (kk : W p l e R s m args below meth c H locs cells slots Q (F0 m (pc + 3) ls (.ref (r 4) :: rest))) : W p l e R s m args below meth c H locs cells slots Q (F0 m pc ls (.ref h0 :: rest)) :=
  va_get (D := G) (ci := 1) (v := .ref (r 4)) (C := RX2) (T := TX2) (N := 6) C.1 C.2.1 C.2.2.2.2 in_X2 C.2.2.2.1 w.1 w.2.1 0 rfl rfl 4 (by decide) (C.2.2.2.2 _ q200) (fun _ h9 => h9) rfl hd kk
theorem ml_l4 (C : zC p m c cc nL s args RX2) (w : mlW G h0 r d A s H0 H locs σ) {j : Nat} (hj : j < 196) (hd : decode cc pc = .ok (.iaload, 1)) (kk : W p l e R s m args below meth c H locs cells slots Q (F0 m (pc + 1) ls (.int (nI (σ 4 j)) :: rest))) : W p l e R s m args below meth c H locs cells slots Q (F0 m pc ls (.int (nI j) :: .ref (r 4) :: rest)) := by
  refine va_iald (f := fun j => nI (σ 4 j)) C.1 C.2.1 w.1 w.2.1 3 2 rfl rfl (vp_in_nI hj (by decide)) hd ?_
  rw [nI_clamp (show j < 2 ^ 31 by omega)]
  exact kk
theorem ml_s4 (C : zC p m c cc nL s args RX2) (w : mlW G h0 r d A s H0 H locs σ) {j v : Nat} (hj : j < 196) (hv : v < 32768) (hd : decode cc pc = .ok (.iastore, 1)) (kk : ∀ (H1 : Heap) (locs1 : List Loc), mlW G h0 r d A s H0 H1 locs1 (up σ 4 j v) → W p l e R s m args below meth c H1 locs1 cells slots Q (F0 m (pc + 1) ls rest)) : W p l e R s m args below meth c H locs cells slots Q (F0 m pc ls (.int (nI v) :: .int (nI j) :: .ref (r 4) :: rest)) := by
  refine va_iast (f := fun j => nI (σ 4 j)) C.1 C.2.1 w.1 w.2.1 w.2.2.1 w.2.2.2.1 3 2 rfl rfl (vp_in_nI hj (by decide)) hd (fun H1 locs1 hP hD hS => ?_)
  rw [zn_upd 4 (show j < 2147483648 by omega) rfl] at hP hD
  exact kk H1 locs1 ⟨w.1, hP, hD, hS, w.2.2.2.2.1, zn_bd w.2.2.2.2.2 (by omega)⟩
theorem ml_g5 (C : zC p m c cc nL s args RX2) (w : mlW G h0 r d A s H0 H locs σ) (hd : decode cc pc = .ok (.getfield 20, 3)) (kk : W p l e R s m args below meth c H locs cells slots Q (F0 m (pc + 3) ls (.ref (r 5) :: rest))) : W p l e R s m args below meth c H locs cells slots Q (F0 m pc ls (.ref h0 :: rest)) :=
  va_get (D := G) (ci := 1) (v := .ref (r 5)) (C := RX2) (T := TX2) (N := 6) C.1 C.2.1 C.2.2.2.2 in_X2 C.2.2.2.1 w.1 w.2.1 0 rfl rfl 5 (by decide) (C.2.2.2.2 _ q201) (fun _ h9 => h9) rfl hd kk
theorem ml_l5 (C : zC p m c cc nL s args RX2) (w : mlW G h0 r d A s H0 H locs σ) {j : Nat} (hj : j < 196) (hd : decode cc pc = .ok (.baload, 1)) (kk : W p l e R s m args below meth c H locs cells slots Q (F0 m (pc + 1) ls (.int (nI (σ 5 j)) :: rest))) : W p l e R s m args below meth c H locs cells slots Q (F0 m pc ls (.int (nI j) :: .ref (r 5) :: rest)) := by
  refine va_zald (f := fun j => nI (σ 5 j)) C.1 C.2.1 w.1 w.2.1 4 3 rfl rfl (vp_in_nI hj (by decide)) hd ?_
  rw [nI_clamp (show j < 2 ^ 31 by omega)]
  exact kk
theorem ml_s5 (C : zC p m c cc nL s args RX2) (w : mlW G h0 r d A s H0 H locs σ) {j v : Nat} (hj : j < 196) (hv : v < 2) (hd : decode cc pc = .ok (.bastore, 1)) (kk : ∀ (H1 : Heap) (locs1 : List Loc), mlW G h0 r d A s H0 H1 locs1 (up σ 5 j v) → W p l e R s m args below meth c H1 locs1 cells slots Q (F0 m (pc + 1) ls rest)) : W p l e R s m args below meth c H locs cells slots Q (F0 m pc ls (.int (nI v) :: .int (nI j) :: .ref (r 5) :: rest)) := by
  refine va_zast (f := fun j => nI (σ 5 j)) C.1 C.2.1 w.1 w.2.1 w.2.2.1 w.2.2.2.1 4 3 rfl rfl (vp_in_nI hj (by decide)) hd (fun H1 locs1 hP hD hS => ?_)
  rw [zn_upd 5 (show j < 2147483648 by omega) (zn_vz hv)] at hP hD
  exact kk H1 locs1 ⟨w.1, hP, hD, hS, w.2.2.2.2.1, zn_bd w.2.2.2.2.2 (by omega)⟩
end Zml
