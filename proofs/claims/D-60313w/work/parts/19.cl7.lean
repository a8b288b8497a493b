set_option maxRecDepth 100000
/-! ===== CompLabel: set, invert ===== -/
theorem z_nor (a b : Nat) : nI a ||| nI b = nI (a ||| b) := by
  apply Int32.toBitVec_inj.1
  show BitVec.ofNat 32 a ||| BitVec.ofNat 32 b = BitVec.ofNat 32 (a ||| b)
  apply BitVec.eq_of_getLsbD_eq
  intro i hi
  simp [hi]
theorem z_nxor (a b : Nat) : nI a ^^^ nI b = nI (a ^^^ b) := by
  apply Int32.toBitVec_inj.1
  show BitVec.ofNat 32 a ^^^ BitVec.ofNat 32 b = BitVec.ofNat 32 (a ^^^ b)
  apply BitVec.eq_of_getLsbD_eq
  intro i hi
  simp [hi]
theorem z_nandn (v t : Nat) : nI v &&& (nI t ^^^ (-1)) = nI (v ^^^ (v &&& t)) := by
  apply Int32.toBitVec_inj.1
  show BitVec.ofNat 32 v &&& (BitVec.ofNat 32 t ^^^ (-1 : Int32).toBitVec) = BitVec.ofNat 32 (v ^^^ (v &&& t))
  apply BitVec.eq_of_getLsbD_eq
  intro i hi
  have h1 : (-1 : Int32).toBitVec = BitVec.allOnes 32 := by decide
  rw [h1]
  simp only [BitVec.getLsbD_and, BitVec.getLsbD_xor, BitVec.getLsbD_allOnes, BitVec.getLsbD_ofNat, Nat.testBit_xor, Nat.testBit_and, hi, decide_true, Bool.true_and]
  cases v.testBit i <;> cases t.testBit i <;> rfl
section
variable {p : Program} {l : Launch} {e : Env} {R : Room} {s : State} {m : MethodId} {args : Array Value} {below : List Frame} {meth : Method} {c : Code} {H : Heap} {locs : List Loc} {cells slots : Nat} {Q : State → Prop}
variable {cc : ByteArray} {pc nL : Nat} {ls : Array Slot} {rest : List Value} {own : String}
theorem z_ishl (C : zC p m c cc nL s args own) {a x : Nat} (ha : a * 2 ^ x < 4294967296) (hx : x < 32) (hd : decode cc pc = .ok (.ishl, 1)) (kk : W p l e R s m args below meth c H locs cells slots Q (F0 m (pc + 1) ls (.int (nI (a * 2 ^ x)) :: rest))) : W p l e R s m args below meth c H locs cells slots Q (F0 m pc ls (.int (nI x) :: .int (nI a) :: rest)) :=
  lv_ishl C.1 C.2.1 hd (by rw [pk_shlN _ x (z_sl x hx) ha]; exact kk)
theorem z_ior (C : zC p m c cc nL s args own) {a b : Nat} (hd : decode cc pc = .ok (.ior, 1)) (kk : W p l e R s m args below meth c H locs cells slots Q (F0 m (pc + 1) ls (.int (nI (a ||| b)) :: rest))) : W p l e R s m args below meth c H locs cells slots Q (F0 m pc ls (.int (nI b) :: .int (nI a) :: rest)) :=
  lv_ior C.1 C.2.1 hd (by rw [z_nor]; exact kk)
theorem z_ixor (C : zC p m c cc nL s args own) {a b : Nat} (hd : decode cc pc = .ok (.ixor, 1)) (kk : W p l e R s m args below meth c H locs cells slots Q (F0 m (pc + 1) ls (.int (nI (a ^^^ b)) :: rest))) : W p l e R s m args below meth c H locs cells slots Q (F0 m pc ls (.int (nI b) :: .int (nI a) :: rest)) :=
  lv_ixor C.1 C.2.1 hd (by rw [z_nxor]; exact kk)
theorem z_andn (C : zC p m c cc nL s args own) {v t : Nat} (hd : decode cc pc = .ok (.ixor, 1)) (hd1 : decode cc (pc + 1) = .ok (.iand, 1)) (kk : W p l e R s m args below meth c H locs cells slots Q (F0 m (pc + 2) ls (.int (nI (v ^^^ (v &&& t))) :: rest))) : W p l e R s m args below meth c H locs cells slots Q (F0 m pc ls (.int (-1) :: .int (nI t) :: .int (nI v) :: rest)) := by
  refine lv_ixor C.1 C.2.1 hd ?_
  exact lv_iand C.1 C.2.1 hd1 (by rw [z_nandn]; exact kk)
end
theorem p2_le {x : Nat} (h : x ≤ 12) : 2 ^ x ≤ 4096 := Nat.pow_le_pow_right (n := 2) (by decide) h
theorem p2_lt {x : Nat} (h : x < 12) : 2 ^ x < 4096 := Nat.pow_lt_pow_right (a := 2) (by decide) h
def setB (b x v : Nat) : Nat := if b ≠ 0 then v ||| 1 * 2 ^ x else v ^^^ (v &&& 1 * 2 ^ x)
def strip (a x : Nat) : Nat := (1 * 2 ^ a - 1) * 2 ^ x
theorem strip_lt {a x : Nat} (h : x + a ≤ 12) : strip a x < 4096 := by
  unfold strip
  have h1 : 2 ^ a * 2 ^ x = 2 ^ (a + x) := (Nat.pow_add 2 a x).symm
  have h2 := p2_le (x := a + x) (by omega)
  have h3 := Nat.two_pow_pos x
  have h4 := Nat.two_pow_pos a
  rw [Nat.one_mul, Nat.sub_mul, Nat.one_mul, h1]
  omega
def ivS (t k : Nat) (s : Nat → Nat → Nat) : Nat → Nat → Nat := up s 2 k (s 2 k ^^^ t)
def ivF (a b x y : Nat) (s : Nat → Nat → Nat) : Nat → Nat → Nat := fwd (ivS (strip a x)) b y s
abbrev ivP (w h : Nat) (X Y P Q : Int32) : Prop := inP w h X Y ∧ ¬ P < nI 1 ∧ ¬ nI w - X < P ∧ ¬ Q < nI 1 ∧ Q ≤ nI h - Y
theorem z_ge1 {P : Int32} (h : ¬ P < nI 1) : ∃ a, 1 ≤ a ∧ a < 2147483648 ∧ P = nI a := by
  have h2 : ¬ P < 0 := fun q => h (Int32.lt_of_lt_of_le q (by decide))
  obtain ⟨a, ha, rfl⟩ := nI_of h2
  refine ⟨a, ?_, ha, rfl⟩
  rcases Nat.lt_or_ge 0 a with q | q
  · exact q
  · exact absurd ((nI_ltI (a := a) (b := 1) ha (by decide)).mpr (by omega)) h
theorem m_set (l : Launch) (G : va_G) (h0 : Nat) (r : Nat → Nat) (d : Nat → ClassId) (σ : Nat → Nat → Nat) (X Y : Int32) (b : Nat) (hb : b < 2) (k2 : σ 0 0 ≤ 12) (k4 : σ 1 0 ≤ 12) (hv : ∀ i, σ 2 i < 4096) : zMi l yX1_set cX1_set 4 (some .boolean) (rmF 1 22) G (clT d) (clC h0 r d) [.ref h0, .int X, .int Y, .int (nI b)] σ (fun v σ' => (¬ inP (σ 0 0) (σ 1 0) X Y ∧ v = nI 0 ∧ σ' = σ) ∨ (∃ x y, X = nI x ∧ Y = nI y ∧ x < σ 0 0 ∧ y < σ 1 0 ∧ v = nI 1 ∧ σ' = up (up σ 2 y (setB b x (σ 2 y))) 3 0 0)) := by
  refine zMi_of (own := RX1) (by decide) rfl (Nat.le_of_ble_eq_true rfl) ?_
  intro p e s m args below meth c A ls C hr hlk w hl
  have hl : lv_has ls 4 [(0, .ref h0), (1, .int X), (2, .int Y), (3, .int (nI b))] := hl
  have hbd := w.2.2.2.2.2
  refine lv_aload_n C.1 C.2.1 dX1_set_0 rfl (lv_at hl 0 rfl) ?_
  refine lv_iload_n C.1 C.2.1 dX1_set_1 rfl (lv_at hl 1 rfl) ?_
  refine lv_iload_n C.1 C.2.1 dX1_set_2 rfl (lv_at hl 2 rfl) ?_
  refine z_calli (As := [.int X, .int Y]) C (m_inPicture l G h0 r d σ X Y) (cwV 2 C.2.2.2.2 (lw_V q103 q105 qs0 q27 q106) rfl rfl rfl (by decide +kernel) ⟨Nat.le_of_ble_eq_true rfl, Nat.le_of_ble_eq_true rfl⟩) w (cl_rc w) rfl hl.1 rfl (Nat.le_of_ble_eq_true rfl) dX1_set_3 ⟨Nat.le_refl _, Nat.le_refl _⟩ (fun v1 s1 H locs hp w => ?_)
  obtain ⟨hv, hσ⟩ := hp
  subst hv
  rw [hσ] at w
  refine z_if_ne (tgt := 11) C dX1_set_6 (by decide) z_ifB (fun c_6 => ?_) (fun c_6 => ?_)
  · obtain ⟨x, y, rfl, rfl, hx, hy⟩ := inP_nat (by omega) (by omega) (z_ifP c_6)
    have v1 := hv y
    have v2 := p2_lt (x := x) (by omega)
    have v3 : σ 2 y ||| 1 * 2 ^ x < 4096 := Nat.or_lt_two_pow (n := 12) v1 (by omega)
    have v4 : σ 2 y ^^^ (σ 2 y &&& 1 * 2 ^ x) < 4096 := Nat.xor_lt_two_pow (n := 12) v1 (Nat.and_lt_two_pow _ (by omega))
    refine lv_iload_n C.1 C.2.1 dX1_set_11 rfl (lv_at hl 3 rfl) ?_
    refine z_if_eq (tgt := 30) C dX1_set_12 (by decide) (by omega) (fun c_12 => ?_) (fun c_12 => ?_)
    · refine lv_aload_n C.1 C.2.1 dX1_set_30 rfl (lv_at hl 0 rfl) ?_
      refine cl_g2 C w dX1_set_31 ?_
      refine lv_iload_n C.1 C.2.1 dX1_set_34 rfl (lv_at hl 2 rfl) ?_
      refine lv_dup2_11 C.1 C.2.1 dX1_set_35 rfl rfl ?_
      refine cl_l2 C w (by omega) dX1_set_36 ?_
      refine lv_iconst (v := nI 1) C.1 C.2.1 dX1_set_37 (by decide) ?_
      refine lv_iload_n C.1 C.2.1 dX1_set_38 rfl (lv_at hl 1 rfl) ?_
      refine z_ishl C (by omega) (by omega) dX1_set_39 ?_
      refine lv_iconst (v := (-1)) C.1 C.2.1 dX1_set_40 (by decide) ?_
      refine z_andn C dX1_set_41 dX1_set_42 ?_
      refine cl_s2 C w (by omega) (by omega) dX1_set_43 (fun H locs w => ?_)
      refine lv_aload_n C.1 C.2.1 dX1_set_44 rfl (lv_at hl 0 rfl) ?_
      refine lv_iconst (v := nI 0) C.1 C.2.1 dX1_set_45 (by decide) ?_
      refine cl_p3 C w (by omega) dX1_set_46 (fun H locs w => ?_)
      refine lv_iconst (v := nI 1) C.1 C.2.1 dX1_set_49 (by decide) ?_
      have e1 : setB b x (σ 2 y) = (σ 2 y) ^^^ ((σ 2 y) &&& (1 * 2 ^ x)) := if_neg (fun z => z c_12)
      exact z_zret C hr hlk w (by decide) (Or.inr ⟨x, y, rfl, rfl, hx, hy, rfl, by rw [e1]⟩) dX1_set_50
    · refine lv_aload_n C.1 C.2.1 dX1_set_15 rfl (lv_at hl 0 rfl) ?_
      refine cl_g2 C w dX1_set_16 ?_
      refine lv_iload_n C.1 C.2.1 dX1_set_19 rfl (lv_at hl 2 rfl) ?_
      refine lv_dup2_11 C.1 C.2.1 dX1_set_20 rfl rfl ?_
      refine cl_l2 C w (by omega) dX1_set_21 ?_
      refine lv_iconst (v := nI 1) C.1 C.2.1 dX1_set_22 (by decide) ?_
      refine lv_iload_n C.1 C.2.1 dX1_set_23 rfl (lv_at hl 1 rfl) ?_
      refine z_ishl C (by omega) (by omega) dX1_set_24 ?_
      refine z_ior C dX1_set_25 ?_
      refine cl_s2 C w (by omega) (by omega) dX1_set_26 (fun H locs w => ?_)
      refine lv_goto (tgt := 44) C.1 C.2.1 dX1_set_27 (by decide) ?_
      refine lv_aload_n C.1 C.2.1 dX1_set_44 rfl (lv_at hl 0 rfl) ?_
      refine lv_iconst (v := nI 0) C.1 C.2.1 dX1_set_45 (by decide) ?_
      refine cl_p3 C w (by omega) dX1_set_46 (fun H locs w => ?_)
      refine lv_iconst (v := nI 1) C.1 C.2.1 dX1_set_49 (by decide) ?_
      have e1 : setB b x (σ 2 y) = (σ 2 y) ||| (1 * 2 ^ x) := if_pos c_12
      exact z_zret C hr hlk w (by decide) (Or.inr ⟨x, y, rfl, rfl, hx, hy, rfl, by rw [e1]⟩) dX1_set_50
  · refine lv_iconst (v := nI 0) C.1 C.2.1 dX1_set_9 (by decide) ?_
    exact z_zret C hr hlk w (by decide) (Or.inl ⟨z_ifN c_6, rfl, rfl⟩) dX1_set_10
section
variable {p : Program} {l : Launch} {e : Env} {R : Room} {s : State} {m : MethodId} {args : Array Value} {below : List Frame} {meth : Method} {c : Code} {H : Heap} {locs : List Loc} {Q : State → Prop}
variable {G : va_G} {A : Nat → Prop} {H0 : Heap} {σ : Nat → Nat → Nat} {h0 : Nat} {r : Nat → Nat} {d : Nat → ClassId}
theorem iv_loop {x y a b t : Nat} (C : zC p m c cX1_invert 7 s args RX1) (ht : t < 4096) (hyb : y + b ≤ 12) : ∀ n k σ H locs, clW G h0 r d A s H0 H locs σ → (∀ i, σ 2 i < 4096) → y + b = k + n → ∀ ls, lv_has ls 7 [(6, .int (nI k)), (5, .int (nI t)), (0, .ref h0), (1, .int (nI x)), (2, .int (nI y)), (3, .int (nI a)), (4, .int (nI b))] → (∀ H locs ls, clW G h0 r d A s H0 H locs (fwd (ivS t) n k σ) → lv_has ls 7 [(0, .ref h0)] → W p l e R s m args below meth c H locs 0 0 Q (F0 m 84 ls [])) → W p l e R s m args below meth c H locs 0 0 Q (F0 m 57 ls []) := by
  intro n
  induction n with
  | zero =>
    intro k σ H locs w hv hn ls hl K
    refine lv_iload C.1 C.2.1 dX1_invert_57 (lv_at hl 0 rfl) ?_
    refine lv_iload_n C.1 C.2.1 dX1_invert_59 rfl (lv_at hl 4 rfl) ?_
    refine lv_iload C.1 C.2.1 dX1_invert_60 (lv_at hl 6 rfl) ?_
    refine z_iadd C dX1_invert_62 ?_
    refine z_cmp_ge (tgt := 84) C dX1_invert_63 (by decide) (by omega) (by omega) (fun c_63 => ?_) (fun c_63 => ?_)
    · exact K H locs ls w (lv_sub hl [2] rfl)
    · exact absurd c_63 (by omega)
  | succ n ih =>
    intro k σ H locs w hv hn ls hl K
    have v1 : σ 2 k ^^^ t < 4096 := Nat.xor_lt_two_pow (n := 12) (hv k) ht
    have hv2 : ∀ i, ivS t k σ 2 i < 4096 := by
      intro i
      unfold ivS
      by_cases e : i = k
      · rw [e, up_eq]; exact v1
      · rw [up_ne (Or.inr e)]; exact hv i
    refine lv_iload C.1 C.2.1 dX1_invert_57 (lv_at hl 0 rfl) ?_
    refine lv_iload_n C.1 C.2.1 dX1_invert_59 rfl (lv_at hl 4 rfl) ?_
    refine lv_iload C.1 C.2.1 dX1_invert_60 (lv_at hl 6 rfl) ?_
    refine z_iadd C dX1_invert_62 ?_
    refine z_cmp_ge (tgt := 84) C dX1_invert_63 (by decide) (by omega) (by omega) (fun c_63 => ?_) (fun c_63 => ?_)
    · exact absurd c_63 (by omega)
    · refine lv_aload_n C.1 C.2.1 dX1_invert_66 rfl (lv_at hl 2 rfl) ?_
      refine cl_g2 C w dX1_invert_67 ?_
      refine lv_iload C.1 C.2.1 dX1_invert_70 (lv_at hl 0 rfl) ?_
      refine lv_dup2_11 C.1 C.2.1 dX1_invert_72 rfl rfl ?_
      refine cl_l2 C w (by omega) dX1_invert_73 ?_
      refine lv_iload C.1 C.2.1 dX1_invert_74 (lv_at hl 1 rfl) ?_
      refine z_ixor C dX1_invert_76 ?_
      refine cl_s2 C w (by omega) (by omega) dX1_invert_77 (fun H locs w => ?_)
      refine lv_iinc (lv' := [(6, .int (nI (k + 1))), (5, .int (nI t)), (0, .ref h0), (1, .int (nI x)), (2, .int (nI y)), (3, .int (nI a)), (4, .int (nI b))]) C.1 C.2.1 dX1_invert_78 hl (k := 0) rfl (nI_add _ _) (by decide) rfl (fun ls hl => ?_)
      refine lv_goto (tgt := 57) C.1 C.2.1 dX1_invert_81 (by decide) ?_
      exact ih (k + 1) (ivS t k σ) H locs w hv2 (by omega) ls hl K
end
theorem m_invert (l : Launch) (G : va_G) (h0 : Nat) (r : Nat → Nat) (d : Nat → ClassId) (σ : Nat → Nat → Nat) (X Y P Q : Int32) (k2 : σ 0 0 ≤ 12) (k4 : σ 1 0 ≤ 12) (hv : ∀ i, σ 2 i < 4096) : zMi l yX1_invert cX1_invert 7 (some .boolean) (rmF 1 22) G (clT d) (clC h0 r d) [.ref h0, .int X, .int Y, .int P, .int Q] σ (fun v σ' => (¬ ivP (σ 0 0) (σ 1 0) X Y P Q ∧ v = nI 0 ∧ σ' = σ) ∨ (∃ x y a b, X = nI x ∧ Y = nI y ∧ P = nI a ∧ Q = nI b ∧ 1 ≤ a ∧ x + a ≤ σ 0 0 ∧ 1 ≤ b ∧ y + b ≤ σ 1 0 ∧ v = nI 1 ∧ σ' = up (ivF a b x y σ) 3 0 0)) := by
  refine zMi_of (own := RX1) (by decide) rfl (Nat.le_of_ble_eq_true rfl) ?_
  intro p e s m args below meth c A ls C hr hlk w hl
  have hl : lv_has ls 7 [(0, .ref h0), (1, .int X), (2, .int Y), (3, .int P), (4, .int Q)] := hl
  have hbd := w.2.2.2.2.2
  refine lv_aload_n C.1 C.2.1 dX1_invert_0 rfl (lv_at hl 0 rfl) ?_
  refine lv_iload_n C.1 C.2.1 dX1_invert_1 rfl (lv_at hl 1 rfl) ?_
  refine lv_iload_n C.1 C.2.1 dX1_invert_2 rfl (lv_at hl 2 rfl) ?_
  refine z_calli (As := [.int X, .int Y]) C (m_inPicture l G h0 r d σ X Y) (cwV 2 C.2.2.2.2 (lw_V q103 q105 qs0 q27 q106) rfl rfl rfl (by decide +kernel) ⟨Nat.le_of_ble_eq_true rfl, Nat.le_of_ble_eq_true rfl⟩) w (cl_rc w) rfl hl.1 rfl (Nat.le_of_ble_eq_true rfl) dX1_invert_3 ⟨Nat.le_refl _, Nat.le_refl _⟩ (fun v1 s1 H locs hp w => ?_)
  obtain ⟨hv, hσ⟩ := hp
  subst hv
  rw [hσ] at w
  refine z_if_ne (tgt := 11) C dX1_invert_6 (by decide) z_ifB (fun c_6 => ?_) (fun c_6 => ?_)
  · have hP := z_ifP c_6
    obtain ⟨x, y, rfl, rfl, hx, hy⟩ := inP_nat (by omega) (by omega) (z_ifP c_6)
    refine lv_iload_n C.1 C.2.1 dX1_invert_11 rfl (lv_at hl 3 rfl) ?_
    refine lv_iconst (v := nI 1) C.1 C.2.1 dX1_invert_12 (by decide) ?_
    refine lv_icmp_lt (tgt := 43) C.1 C.2.1 dX1_invert_13 (by decide) (fun c_13 => ?_) (fun c_13 => ?_)
    · refine lv_iconst (v := nI 0) C.1 C.2.1 dX1_invert_43 (by decide) ?_
      exact z_zret C hr hlk w (by decide) (Or.inl ⟨fun q => q.2.1 c_13, rfl, rfl⟩) dX1_invert_44
    · refine lv_iload_n C.1 C.2.1 dX1_invert_16 rfl (lv_at hl 3 rfl) ?_
      refine lv_aload_n C.1 C.2.1 dX1_invert_17 rfl (lv_at hl 0 rfl) ?_
      refine cl_g0 C w dX1_invert_18 ?_
      refine lv_iload_n C.1 C.2.1 dX1_invert_21 rfl (lv_at hl 1 rfl) ?_
      refine z_isub C (by omega) dX1_invert_22 ?_
      refine lv_icmp_gt (tgt := 43) C.1 C.2.1 dX1_invert_23 (by decide) (fun c_23 => ?_) (fun c_23 => ?_)
      · refine lv_iconst (v := nI 0) C.1 C.2.1 dX1_invert_43 (by decide) ?_
        exact z_zret C hr hlk w (by decide) (Or.inl ⟨fun q => q.2.2.1 (by rw [pk_sub (by omega)]; exact c_23), rfl, rfl⟩) dX1_invert_44
      · refine lv_iload C.1 C.2.1 dX1_invert_26 (lv_at hl 4 rfl) ?_
        refine lv_iconst (v := nI 1) C.1 C.2.1 dX1_invert_28 (by decide) ?_
        refine lv_icmp_lt (tgt := 43) C.1 C.2.1 dX1_invert_29 (by decide) (fun c_29 => ?_) (fun c_29 => ?_)
        · refine lv_iconst (v := nI 0) C.1 C.2.1 dX1_invert_43 (by decide) ?_
          exact z_zret C hr hlk w (by decide) (Or.inl ⟨fun q => q.2.2.2.1 c_29, rfl, rfl⟩) dX1_invert_44
        · refine lv_iload C.1 C.2.1 dX1_invert_32 (lv_at hl 4 rfl) ?_
          refine lv_aload_n C.1 C.2.1 dX1_invert_34 rfl (lv_at hl 0 rfl) ?_
          refine cl_g1 C w dX1_invert_35 ?_
          refine lv_iload_n C.1 C.2.1 dX1_invert_38 rfl (lv_at hl 2 rfl) ?_
          refine z_isub C (by omega) dX1_invert_39 ?_
          refine lv_icmp_le (tgt := 45) C.1 C.2.1 dX1_invert_40 (by decide) (fun c_40 => ?_) (fun c_40 => ?_)
          · obtain ⟨a, ha1, ha2, rfl⟩ := z_ge1 c_13
            obtain ⟨b, hb1, hb2, rfl⟩ := z_ge1 c_29
            have ha3 := (nI_leI ha2 (by omega)).mp (Int32.not_lt.mp c_23)
            have hb3 := (nI_leI hb2 (by omega)).mp c_40
            have v2 := p2_le (x := a) (by omega)
            have v5 := Nat.two_pow_pos a
            have v3 := strip_lt (a := a) (x := x) (by omega)
            have v4 : (1 * 2 ^ a - 1) * 2 ^ x < 4096 := v3
            refine lv_iconst (v := nI 1) C.1 C.2.1 dX1_invert_45 (by decide) ?_
            refine lv_iload_n C.1 C.2.1 dX1_invert_46 rfl (lv_at hl 3 rfl) ?_
            refine z_ishl C (by omega) (by omega) dX1_invert_47 ?_
            refine lv_iconst (v := nI 1) C.1 C.2.1 dX1_invert_48 (by decide) ?_
            refine z_isub C (by omega) dX1_invert_49 ?_
            refine lv_iload_n C.1 C.2.1 dX1_invert_50 rfl (lv_at hl 1 rfl) ?_
            refine z_ishl C (by omega) (by omega) dX1_invert_51 ?_
            refine lv_istore (lv' := [(5, .int (nI (((1 * 2 ^ a) - 1) * 2 ^ x))), (0, .ref h0), (1, .int (nI x)), (2, .int (nI y)), (3, .int (nI a)), (4, .int (nI b))]) C.1 C.2.1 dX1_invert_52 hl (by decide) rfl (fun ls hl => ?_)
            refine lv_iload_n C.1 C.2.1 dX1_invert_54 rfl (lv_at hl 3 rfl) ?_
            refine lv_istore (lv' := [(6, .int (nI y)), (5, .int (nI (((1 * 2 ^ a) - 1) * 2 ^ x))), (0, .ref h0), (1, .int (nI x)), (2, .int (nI y)), (3, .int (nI a)), (4, .int (nI b))]) C.1 C.2.1 dX1_invert_55 hl (by decide) rfl (fun ls hl => ?_)
            refine iv_loop C v4 (by omega) b y σ _ _ w hv rfl ls (lv_sub hl [0, 1, 2, 3, 4, 5, 6] rfl) (fun H locs ls w hl => ?_)
            have w : clW G h0 r d A s s.heap H locs (ivF a b x y σ) := w
            refine lv_aload_n C.1 C.2.1 dX1_invert_84 rfl (lv_at hl 0 rfl) ?_
            refine lv_iconst (v := nI 0) C.1 C.2.1 dX1_invert_85 (by decide) ?_
            refine cl_p3 C w (by omega) dX1_invert_86 (fun H locs w => ?_)
            refine lv_iconst (v := nI 1) C.1 C.2.1 dX1_invert_89 (by decide) ?_
            exact z_zret C hr hlk w (by decide) (Or.inr ⟨x, y, a, b, rfl, rfl, rfl, rfl, ha1, by omega, hb1, by omega, rfl, rfl⟩) dX1_invert_90
          · refine lv_iconst (v := nI 0) C.1 C.2.1 dX1_invert_43 (by decide) ?_
            exact z_zret C hr hlk w (by decide) (Or.inl ⟨fun q => c_40 (by have := q.2.2.2.2; rw [pk_sub (by omega)] at this; exact this), rfl, rfl⟩) dX1_invert_44
  · refine lv_iconst (v := nI 0) C.1 C.2.1 dX1_invert_9 (by decide) ?_
    exact z_zret C hr hlk w (by decide) (Or.inl ⟨fun q => z_ifN c_6 q.1, rfl, rfl⟩) dX1_invert_10
