set_option maxRecDepth 100000
/-! ===== CompLabel: its answers ===== -/
theorem z_ifP {P : Prop} [Decidable P] (h : (if P then 1 else 0) ≠ 0) : P := by
  by_cases q : P
  · exact q
  · rw [if_neg q] at h; exact absurd rfl h
theorem z_ifN {P : Prop} [Decidable P] (h : (if P then 1 else 0) = 0) : ¬ P := by
  intro q
  rw [if_pos q] at h
  exact absurd h (by decide)
theorem z_ifB {P : Prop} [Decidable P] : (if P then 1 else 0) < 2147483648 := by
  split <;> decide
theorem rAF_lt (s : Nat → Nat → Nat) (x y : Nat) : ∀ n k, k < 145 → s 9 (y + 1) ≤ 145 → rAF s x y n k < 145 := by
  intro n
  induction n with
  | zero => intro k h _; exact h
  | succ n ih =>
    intro k h h2
    show (if k + 1 < s 9 (y + 1) ∧ s 6 k < x then rAF s x y n (k + 1) else k) < 145
    split
    · exact ih (k + 1) (by omega) h2
    · exact h
def runOf (s : Nat → Nat → Nat) (x y : Nat) : Nat := rAF s x y (s 9 (y + 1)) (s 9 y)
theorem row3_row (y : Nat) (s : Nat → Nat → Nat) {k' : Nat} (h : k' < 4) : row3 y s k' = s k' := by
  unfold row3 row2 row1
  rw [up_row (by omega), cutF_row _ _ _ _ (by omega), up_row (by omega)]
theorem labR_row (s : Nat → Nat → Nat) {k' : Nat} (h : k' < 4) : labR s k' = s k' :=
  fwd_inv (fun t => t k' = s k') _ _ (labI s) (by unfold labI; rw [up_row (by omega), up_row (by omega), up_row (by omega)]) (fun j t _ _ ht => by rw [rowF_row _ _ (by omega), row3_row _ _ h]; exact ht)
theorem bwd_inv {σ : Type} {f : Nat → σ → σ} (I : σ → Prop) : ∀ (j n : Nat) (s : σ), I s → (∀ k s, I s → I (f k s)) → I (bwd f j n s) := by
  intro j
  induction j with
  | zero => intro n s h _; exact h
  | succ j ih => intro n s h hs; exact ih (n - 1) (f n s) (hs n s h) hs
theorem suF_row (s : Nat → Nat → Nat) {k' : Nat} (h : k' ≠ 13 ∧ k' ≠ 14) : suF s k' = s k' := by
  have h1 : fwd suZ (s 4 0) 0 s k' = s k' := fwd_inv (fun t => t k' = s k') _ _ s rfl (fun j t _ _ ht => by unfold suZ; rw [up_row h.2, up_row h.1]; exact ht)
  exact bwd_inv (fun (t : Nat → Nat → Nat) => t k' = s k') _ _ _ h1 (fun k t ht => by rw [suS_row _ _ h]; exact ht)
theorem labX_row (s : Nat → Nat → Nat) {k' : Nat} (h : k' < 3) : labX s k' = s k' := by
  unfold labX
  rw [up_row (by omega), suF_row _ (by omega), stF_row _ (by omega), labR_row _ (by omega)]
theorem labF_row (s : Nat → Nat → Nat) {k' : Nat} (h : k' < 3) : labF s k' = s k' := by
  unfold labF
  split
  · rfl
  · exact labX_row s h
/-- what the answers ask of a labelled state -/
def QOk (s : Nat → Nat → Nat) : Prop := (∀ i, s 8 i ≤ i) ∧ (∀ i, s 10 i < 145) ∧ (∀ i, s 16 i < 145) ∧ s 17 0 ≤ 145 ∧ ∀ y, y < s 1 0 → 1 ≤ s 9 (y + 1) ∧ s 9 (y + 1) ≤ 145 ∧ s 9 y < 145
theorem m_components (l : Launch) (G : va_G) (h0 : Nat) (r : Nat → Nat) (d : Nat → ClassId) (σ : Nat → Nat → Nat)  (hok : LabOk σ) : zMi l yX1_components cX1_components 1 (some .int) (rmF 5 114) G (clT d) (clC h0 r d) [.ref h0] σ (fun v σ' => v = nI (labF σ 17 0) ∧ σ' = labF σ) := by
  refine zMi_of (own := RX1) (by decide) rfl (Nat.le_of_ble_eq_true rfl) ?_
  intro p e s m args below meth c A ls C hr hlk w hl
  have hl : lv_has ls 1 [(0, .ref h0)] := hl
  have hbd := w.2.2.2.2.2
  refine lv_aload_n C.1 C.2.1 dX1_components_0 rfl (lv_at hl 0 rfl) ?_
  refine z_callv (As := []) C (m_labelAll l G h0 r d σ hok) (cwV 0 C.2.2.2.2 (lw_V q119 q121 qs1 q27 q122) rfl rfl rfl (by decide +kernel) ⟨Nat.le_of_ble_eq_true rfl, Nat.le_of_ble_eq_true rfl⟩) w (cl_rc w) rfl hl.1 rfl (Nat.le_of_ble_eq_true rfl) dX1_components_1 ⟨Nat.le_refl _, Nat.le_refl _⟩ (fun s1 H locs hp w => ?_)
  have hσ := hp
  rw [hσ] at w
  refine lv_aload_n C.1 C.2.1 dX1_components_4 rfl (lv_at hl 0 rfl) ?_
  refine cl_g17 C w dX1_components_5 ?_
  exact z_iret C hr hlk w ⟨rfl, rfl⟩ dX1_components_8
theorem m_euler (l : Launch) (G : va_G) (h0 : Nat) (r : Nat → Nat) (d : Nat → ClassId) (σ : Nat → Nat → Nat)  (hok : LabOk σ) : zMi l yX1_euler cX1_euler 1 (some .int) (rmF 5 114) G (clT d) (clC h0 r d) [.ref h0] σ (fun v σ' => v = nI (labF σ 17 0) - (nI (labF σ 18 0) - nI 1) ∧ σ' = labF σ) := by
  refine zMi_of (own := RX1) (by decide) rfl (Nat.le_of_ble_eq_true rfl) ?_
  intro p e s m args below meth c A ls C hr hlk w hl
  have hl : lv_has ls 1 [(0, .ref h0)] := hl
  have hbd := w.2.2.2.2.2
  refine lv_aload_n C.1 C.2.1 dX1_euler_0 rfl (lv_at hl 0 rfl) ?_
  refine z_callv (As := []) C (m_labelAll l G h0 r d σ hok) (cwV 0 C.2.2.2.2 (lw_V q119 q121 qs1 q27 q122) rfl rfl rfl (by decide +kernel) ⟨Nat.le_of_ble_eq_true rfl, Nat.le_of_ble_eq_true rfl⟩) w (cl_rc w) rfl hl.1 rfl (Nat.le_of_ble_eq_true rfl) dX1_euler_1 ⟨Nat.le_refl _, Nat.le_refl _⟩ (fun s1 H locs hp w => ?_)
  have hσ := hp
  rw [hσ] at w
  refine lv_aload_n C.1 C.2.1 dX1_euler_4 rfl (lv_at hl 0 rfl) ?_
  refine cl_g17 C w dX1_euler_5 ?_
  refine lv_aload_n C.1 C.2.1 dX1_euler_8 rfl (lv_at hl 0 rfl) ?_
  refine cl_g18 C w dX1_euler_9 ?_
  refine lv_iconst (v := nI 1) C.1 C.2.1 dX1_euler_12 (by decide) ?_
  refine lv_isub C.1 C.2.1 dX1_euler_13 ?_
  refine lv_isub C.1 C.2.1 dX1_euler_14 ?_
  exact z_iret C hr hlk w ⟨rfl, rfl⟩ dX1_euler_15
theorem m_area (l : Launch) (G : va_G) (h0 : Nat) (r : Nat → Nat) (d : Nat → ClassId) (σ : Nat → Nat → Nat) (K : Int32) (hok : LabOk σ) (hq : QOk (labF σ)) : zMi l yX1_area cX1_area 2 (some .int) (rmF 5 114) G (clT d) (clC h0 r d) [.ref h0, .int K] σ (fun v σ' => ((K < 0 ∨ nI (labF σ 17 0) ≤ K) ∧ v = -1 ∨ ∃ k, k < labF σ 17 0 ∧ K = nI k ∧ v = nI (labF σ 12 (labF σ 16 k))) ∧ σ' = labF σ) := by
  refine zMi_of (own := RX1) (by decide) rfl (Nat.le_of_ble_eq_true rfl) ?_
  intro p e s m args below meth c A ls C hr hlk w hl
  have hl : lv_has ls 2 [(0, .ref h0), (1, .int K)] := hl
  have hbd := w.2.2.2.2.2
  obtain ⟨q8, q10, q16, q17, q9⟩ := hq
  refine lv_aload_n C.1 C.2.1 dX1_area_0 rfl (lv_at hl 0 rfl) ?_
  refine z_callv (As := []) C (m_labelAll l G h0 r d σ hok) (cwV 0 C.2.2.2.2 (lw_V q119 q121 qs1 q27 q122) rfl rfl rfl (by decide +kernel) ⟨Nat.le_of_ble_eq_true rfl, Nat.le_of_ble_eq_true rfl⟩) w (cl_rc w) rfl hl.1 rfl (Nat.le_of_ble_eq_true rfl) dX1_area_1 ⟨Nat.le_refl _, Nat.le_refl _⟩ (fun s1 H locs hp w => ?_)
  have hσ := hp
  rw [hσ] at w
  refine lv_iload_n C.1 C.2.1 dX1_area_4 rfl (lv_at hl 1 rfl) ?_
  refine lv_if_lt (tgt := 16) C.1 C.2.1 dX1_area_5 (by decide) (fun c_5 => ?_) (fun c_5 => ?_)
  · refine lv_iconst (v := (-1)) C.1 C.2.1 dX1_area_16 (by decide) ?_
    refine lv_goto (tgt := 31) C.1 C.2.1 dX1_area_17 (by decide) ?_
    exact z_iret C hr hlk w ⟨Or.inl ⟨Or.inl c_5, rfl⟩, rfl⟩ dX1_area_31
  · refine lv_iload_n C.1 C.2.1 dX1_area_8 rfl (lv_at hl 1 rfl) ?_
    refine lv_aload_n C.1 C.2.1 dX1_area_9 rfl (lv_at hl 0 rfl) ?_
    refine cl_g17 C w dX1_area_10 ?_
    refine lv_icmp_lt (tgt := 20) C.1 C.2.1 dX1_area_13 (by decide) (fun c_13 => ?_) (fun c_13 => ?_)
    · obtain ⟨k, hk, rfl⟩ := nI_of c_5
      have hk2 := (nI_ltI hk (by omega)).mp c_13
      have q16k := q16 k
      refine lv_aload_n C.1 C.2.1 dX1_area_20 rfl (lv_at hl 0 rfl) ?_
      refine cl_g12 C w dX1_area_21 ?_
      refine lv_aload_n C.1 C.2.1 dX1_area_24 rfl (lv_at hl 0 rfl) ?_
      refine cl_g16 C w dX1_area_25 ?_
      refine lv_iload_n C.1 C.2.1 dX1_area_28 rfl (lv_at hl 1 rfl) ?_
      refine cl_l16 C w (by omega) dX1_area_29 ?_
      refine cl_l12 C w (by omega) dX1_area_30 ?_
      exact z_iret C hr hlk w ⟨Or.inr ⟨k, hk2, rfl, rfl⟩, rfl⟩ dX1_area_31
    · refine lv_iconst (v := (-1)) C.1 C.2.1 dX1_area_16 (by decide) ?_
      refine lv_goto (tgt := 31) C.1 C.2.1 dX1_area_17 (by decide) ?_
      exact z_iret C hr hlk w ⟨Or.inl ⟨Or.inr (Int32.not_lt.mp c_13), rfl⟩, rfl⟩ dX1_area_31
theorem m_holes (l : Launch) (G : va_G) (h0 : Nat) (r : Nat → Nat) (d : Nat → ClassId) (σ : Nat → Nat → Nat) (K : Int32) (hok : LabOk σ) (hq : QOk (labF σ)) : zMi l yX1_holes cX1_holes 2 (some .int) (rmF 5 114) G (clT d) (clC h0 r d) [.ref h0, .int K] σ (fun v σ' => ((K < 0 ∨ nI (labF σ 17 0) ≤ K) ∧ v = -1 ∨ ∃ k, k < labF σ 17 0 ∧ K = nI k ∧ v = nI (labF σ 14 (labF σ 16 k))) ∧ σ' = labF σ) := by
  refine zMi_of (own := RX1) (by decide) rfl (Nat.le_of_ble_eq_true rfl) ?_
  intro p e s m args below meth c A ls C hr hlk w hl
  have hl : lv_has ls 2 [(0, .ref h0), (1, .int K)] := hl
  have hbd := w.2.2.2.2.2
  obtain ⟨q8, q10, q16, q17, q9⟩ := hq
  refine lv_aload_n C.1 C.2.1 dX1_holes_0 rfl (lv_at hl 0 rfl) ?_
  refine z_callv (As := []) C (m_labelAll l G h0 r d σ hok) (cwV 0 C.2.2.2.2 (lw_V q119 q121 qs1 q27 q122) rfl rfl rfl (by decide +kernel) ⟨Nat.le_of_ble_eq_true rfl, Nat.le_of_ble_eq_true rfl⟩) w (cl_rc w) rfl hl.1 rfl (Nat.le_of_ble_eq_true rfl) dX1_holes_1 ⟨Nat.le_refl _, Nat.le_refl _⟩ (fun s1 H locs hp w => ?_)
  have hσ := hp
  rw [hσ] at w
  refine lv_iload_n C.1 C.2.1 dX1_holes_4 rfl (lv_at hl 1 rfl) ?_
  refine lv_if_lt (tgt := 16) C.1 C.2.1 dX1_holes_5 (by decide) (fun c_5 => ?_) (fun c_5 => ?_)
  · refine lv_iconst (v := (-1)) C.1 C.2.1 dX1_holes_16 (by decide) ?_
    refine lv_goto (tgt := 31) C.1 C.2.1 dX1_holes_17 (by decide) ?_
    exact z_iret C hr hlk w ⟨Or.inl ⟨Or.inl c_5, rfl⟩, rfl⟩ dX1_holes_31
  · refine lv_iload_n C.1 C.2.1 dX1_holes_8 rfl (lv_at hl 1 rfl) ?_
    refine lv_aload_n C.1 C.2.1 dX1_holes_9 rfl (lv_at hl 0 rfl) ?_
    refine cl_g17 C w dX1_holes_10 ?_
    refine lv_icmp_lt (tgt := 20) C.1 C.2.1 dX1_holes_13 (by decide) (fun c_13 => ?_) (fun c_13 => ?_)
    · obtain ⟨k, hk, rfl⟩ := nI_of c_5
      have hk2 := (nI_ltI hk (by omega)).mp c_13
      have q16k := q16 k
      refine lv_aload_n C.1 C.2.1 dX1_holes_20 rfl (lv_at hl 0 rfl) ?_
      refine cl_g14 C w dX1_holes_21 ?_
      refine lv_aload_n C.1 C.2.1 dX1_holes_24 rfl (lv_at hl 0 rfl) ?_
      refine cl_g16 C w dX1_holes_25 ?_
      refine lv_iload_n C.1 C.2.1 dX1_holes_28 rfl (lv_at hl 1 rfl) ?_
      refine cl_l16 C w (by omega) dX1_holes_29 ?_
      refine cl_l14 C w (by omega) dX1_holes_30 ?_
      exact z_iret C hr hlk w ⟨Or.inr ⟨k, hk2, rfl, rfl⟩, rfl⟩ dX1_holes_31
    · refine lv_iconst (v := (-1)) C.1 C.2.1 dX1_holes_16 (by decide) ?_
      refine lv_goto (tgt := 31) C.1 C.2.1 dX1_holes_17 (by decide) ?_
      exact z_iret C hr hlk w ⟨Or.inl ⟨Or.inr (Int32.not_lt.mp c_13), rfl⟩, rfl⟩ dX1_holes_31
theorem m_enclosed (l : Launch) (G : va_G) (h0 : Nat) (r : Nat → Nat) (d : Nat → ClassId) (σ : Nat → Nat → Nat) (K : Int32) (hok : LabOk σ) (hq : QOk (labF σ)) : zMi l yX1_enclosed cX1_enclosed 2 (some .int) (rmF 5 114) G (clT d) (clC h0 r d) [.ref h0, .int K] σ (fun v σ' => ((K < 0 ∨ nI (labF σ 17 0) ≤ K) ∧ v = -1 ∨ ∃ k, k < labF σ 17 0 ∧ K = nI k ∧ v = nI (labF σ 13 (labF σ 16 k))) ∧ σ' = labF σ) := by
  refine zMi_of (own := RX1) (by decide) rfl (Nat.le_of_ble_eq_true rfl) ?_
  intro p e s m args below meth c A ls C hr hlk w hl
  have hl : lv_has ls 2 [(0, .ref h0), (1, .int K)] := hl
  have hbd := w.2.2.2.2.2
  obtain ⟨q8, q10, q16, q17, q9⟩ := hq
  refine lv_aload_n C.1 C.2.1 dX1_enclosed_0 rfl (lv_at hl 0 rfl) ?_
  refine z_callv (As := []) C (m_labelAll l G h0 r d σ hok) (cwV 0 C.2.2.2.2 (lw_V q119 q121 qs1 q27 q122) rfl rfl rfl (by decide +kernel) ⟨Nat.le_of_ble_eq_true rfl, Nat.le_of_ble_eq_true rfl⟩) w (cl_rc w) rfl hl.1 rfl (Nat.le_of_ble_eq_true rfl) dX1_enclosed_1 ⟨Nat.le_refl _, Nat.le_refl _⟩ (fun s1 H locs hp w => ?_)
  have hσ := hp
  rw [hσ] at w
  refine lv_iload_n C.1 C.2.1 dX1_enclosed_4 rfl (lv_at hl 1 rfl) ?_
  refine lv_if_lt (tgt := 16) C.1 C.2.1 dX1_enclosed_5 (by decide) (fun c_5 => ?_) (fun c_5 => ?_)
  · refine lv_iconst (v := (-1)) C.1 C.2.1 dX1_enclosed_16 (by decide) ?_
    refine lv_goto (tgt := 31) C.1 C.2.1 dX1_enclosed_17 (by decide) ?_
    exact z_iret C hr hlk w ⟨Or.inl ⟨Or.inl c_5, rfl⟩, rfl⟩ dX1_enclosed_31
  · refine lv_iload_n C.1 C.2.1 dX1_enclosed_8 rfl (lv_at hl 1 rfl) ?_
    refine lv_aload_n C.1 C.2.1 dX1_enclosed_9 rfl (lv_at hl 0 rfl) ?_
    refine cl_g17 C w dX1_enclosed_10 ?_
    refine lv_icmp_lt (tgt := 20) C.1 C.2.1 dX1_enclosed_13 (by decide) (fun c_13 => ?_) (fun c_13 => ?_)
    · obtain ⟨k, hk, rfl⟩ := nI_of c_5
      have hk2 := (nI_ltI hk (by omega)).mp c_13
      have q16k := q16 k
      refine lv_aload_n C.1 C.2.1 dX1_enclosed_20 rfl (lv_at hl 0 rfl) ?_
      refine cl_g13 C w dX1_enclosed_21 ?_
      refine lv_aload_n C.1 C.2.1 dX1_enclosed_24 rfl (lv_at hl 0 rfl) ?_
      refine cl_g16 C w dX1_enclosed_25 ?_
      refine lv_iload_n C.1 C.2.1 dX1_enclosed_28 rfl (lv_at hl 1 rfl) ?_
      refine cl_l16 C w (by omega) dX1_enclosed_29 ?_
      refine cl_l13 C w (by omega) dX1_enclosed_30 ?_
      exact z_iret C hr hlk w ⟨Or.inr ⟨k, hk2, rfl, rfl⟩, rfl⟩ dX1_enclosed_31
    · refine lv_iconst (v := (-1)) C.1 C.2.1 dX1_enclosed_16 (by decide) ?_
      refine lv_goto (tgt := 31) C.1 C.2.1 dX1_enclosed_17 (by decide) ?_
      exact z_iret C hr hlk w ⟨Or.inl ⟨Or.inr (Int32.not_lt.mp c_13), rfl⟩, rfl⟩ dX1_enclosed_31
theorem m_around (l : Launch) (G : va_G) (h0 : Nat) (r : Nat → Nat) (d : Nat → ClassId) (σ : Nat → Nat → Nat) (K : Int32) (hok : LabOk σ) (hq : QOk (labF σ)) : zMi l yX1_around cX1_around 3 (some .int) (rmF 5 114) G (clT d) (clC h0 r d) [.ref h0, .int K] σ (fun v σ' => ((K < 0 ∨ nI (labF σ 17 0) ≤ K) ∧ v = -1 ∨ ∃ k, k < labF σ 17 0 ∧ K = nI k ∧ v = if labF σ 10 (labF σ 16 k) = 0 then -2 else nI (labF σ 15 (labF σ 10 (labF σ 10 (labF σ 16 k))))) ∧ σ' = labF σ) := by
  refine zMi_of (own := RX1) (by decide) rfl (Nat.le_of_ble_eq_true rfl) ?_
  intro p e s m args below meth c A ls C hr hlk w hl
  have hl : lv_has ls 3 [(0, .ref h0), (1, .int K)] := hl
  have hbd := w.2.2.2.2.2
  obtain ⟨q8, q10, q16, q17, q9⟩ := hq
  refine lv_aload_n C.1 C.2.1 dX1_around_0 rfl (lv_at hl 0 rfl) ?_
  refine z_callv (As := []) C (m_labelAll l G h0 r d σ hok) (cwV 0 C.2.2.2.2 (lw_V q119 q121 qs1 q27 q122) rfl rfl rfl (by decide +kernel) ⟨Nat.le_of_ble_eq_true rfl, Nat.le_of_ble_eq_true rfl⟩) w (cl_rc w) rfl hl.1 rfl (Nat.le_of_ble_eq_true rfl) dX1_around_1 ⟨Nat.le_refl _, Nat.le_refl _⟩ (fun s1 H locs hp w => ?_)
  have hσ := hp
  rw [hσ] at w
  refine lv_iload_n C.1 C.2.1 dX1_around_4 rfl (lv_at hl 1 rfl) ?_
  refine lv_if_lt (tgt := 16) C.1 C.2.1 dX1_around_5 (by decide) (fun c_5 => ?_) (fun c_5 => ?_)
  · refine lv_iconst (v := (-1)) C.1 C.2.1 dX1_around_16 (by decide) ?_
    exact z_iret C hr hlk w ⟨Or.inl ⟨Or.inl c_5, rfl⟩, rfl⟩ dX1_around_17
  · refine lv_iload_n C.1 C.2.1 dX1_around_8 rfl (lv_at hl 1 rfl) ?_
    refine lv_aload_n C.1 C.2.1 dX1_around_9 rfl (lv_at hl 0 rfl) ?_
    refine cl_g17 C w dX1_around_10 ?_
    refine lv_icmp_lt (tgt := 18) C.1 C.2.1 dX1_around_13 (by decide) (fun c_13 => ?_) (fun c_13 => ?_)
    · obtain ⟨k, hk, rfl⟩ := nI_of c_5
      have hk2 := (nI_ltI hk (by omega)).mp c_13
      have q16k := q16 k
      have q10k := q10 (labF σ 16 k)
      have q10r := q10 (labF σ 10 (labF σ 16 k))
      refine lv_aload_n C.1 C.2.1 dX1_around_18 rfl (lv_at hl 0 rfl) ?_
      refine cl_g10 C w dX1_around_19 ?_
      refine lv_aload_n C.1 C.2.1 dX1_around_22 rfl (lv_at hl 0 rfl) ?_
      refine cl_g16 C w dX1_around_23 ?_
      refine lv_iload_n C.1 C.2.1 dX1_around_26 rfl (lv_at hl 1 rfl) ?_
      refine cl_l16 C w (by omega) dX1_around_27 ?_
      refine cl_l10 C w (by omega) dX1_around_28 ?_
      refine lv_istore_n (lv' := [(2, .int (nI (labF σ 10 (labF σ 16 k)))), (0, .ref h0), (1, .int (nI k))]) C.1 C.2.1 dX1_around_29 rfl hl (by decide) rfl (fun ls hl => ?_)
      refine lv_iload_n C.1 C.2.1 dX1_around_30 rfl (lv_at hl 0 rfl) ?_
      refine z_if_ne (tgt := 39) C dX1_around_31 (by decide) (by omega) (fun c_31 => ?_) (fun c_31 => ?_)
      · refine lv_aload_n C.1 C.2.1 dX1_around_39 rfl (lv_at hl 1 rfl) ?_
        refine cl_g15 C w dX1_around_40 ?_
        refine lv_aload_n C.1 C.2.1 dX1_around_43 rfl (lv_at hl 1 rfl) ?_
        refine cl_g10 C w dX1_around_44 ?_
        refine lv_iload_n C.1 C.2.1 dX1_around_47 rfl (lv_at hl 0 rfl) ?_
        refine cl_l10 C w (by omega) dX1_around_48 ?_
        refine cl_l15 C w (by omega) dX1_around_49 ?_
        exact z_iret C hr hlk w ⟨Or.inr ⟨k, hk2, rfl, by rw [if_neg c_31]⟩, rfl⟩ dX1_around_50
      · refine lv_bipush (v := (-2)) C.1 C.2.1 dX1_around_34 (by decide) ?_
        refine lv_goto (tgt := 50) C.1 C.2.1 dX1_around_36 (by decide) ?_
        exact z_iret C hr hlk w ⟨Or.inr ⟨k, hk2, rfl, by rw [if_pos c_31]⟩, rfl⟩ dX1_around_50
    · refine lv_iconst (v := (-1)) C.1 C.2.1 dX1_around_16 (by decide) ?_
      exact z_iret C hr hlk w ⟨Or.inl ⟨Or.inr (Int32.not_lt.mp c_13), rfl⟩, rfl⟩ dX1_around_17
theorem m_label (l : Launch) (G : va_G) (h0 : Nat) (r : Nat → Nat) (d : Nat → ClassId) (σ : Nat → Nat → Nat) (X Y : Int32) (hok : LabOk σ) (hq : QOk (labF σ)) : zMi l yX1_label cX1_label 4 (some .int) (rmF 5 114) G (clT d) (clC h0 r d) [.ref h0, .int X, .int Y] σ (fun v σ' => (¬ inP (σ 0 0) (σ 1 0) X Y ∧ v = -1 ∧ σ' = σ) ∨ (∃ x y, X = nI x ∧ Y = nI y ∧ x < σ 0 0 ∧ y < σ 1 0 ∧ v = (if labF σ 7 (runOf (labF σ) x y) ≠ 0 then nI (labF σ 15 (labF σ 8 (runOf (labF σ) x y))) else -2) ∧ σ' = labF σ)) := by
  refine zMi_of (own := RX1) (by decide) rfl (Nat.le_of_ble_eq_true rfl) ?_
  intro p e s m args below meth c A ls C hr hlk w hl
  have hl : lv_has ls 4 [(0, .ref h0), (1, .int X), (2, .int Y)] := hl
  have hbd := w.2.2.2.2.2
  obtain ⟨q8, q10, q16, q17, q9⟩ := hq
  have hok2 := hok
  obtain ⟨k1, k2, k3, k4, -, -⟩ := hok2
  have e10 : labF σ 1 0 = σ 1 0 := by rw [labF_row σ (by decide)]
  refine lv_aload_n C.1 C.2.1 dX1_label_0 rfl (lv_at hl 0 rfl) ?_
  refine lv_iload_n C.1 C.2.1 dX1_label_1 rfl (lv_at hl 1 rfl) ?_
  refine lv_iload_n C.1 C.2.1 dX1_label_2 rfl (lv_at hl 2 rfl) ?_
  refine z_calli (As := [.int X, .int Y]) C (m_inPicture l G h0 r d σ X Y) (cwV 2 C.2.2.2.2 (lw_V q103 q105 qs0 q27 q106) rfl rfl rfl (by decide +kernel) ⟨Nat.le_of_ble_eq_true rfl, Nat.le_of_ble_eq_true rfl⟩) w (cl_rc w) rfl hl.1 rfl (Nat.le_of_ble_eq_true rfl) dX1_label_3 ⟨Nat.le_refl _, Nat.le_refl _⟩ (fun v1 s1 H locs hp w => ?_)
  obtain ⟨hv, hσ⟩ := hp
  subst hv
  rw [hσ] at w
  refine z_if_ne (tgt := 11) C dX1_label_6 (by decide) z_ifB (fun c_6 => ?_) (fun c_6 => ?_)
  · obtain ⟨x, y, rfl, rfl, hx, hy⟩ := inP_nat (by omega) (by omega) (z_ifP c_6)
    obtain ⟨q91, q92, q93⟩ := q9 y (by omega)
    have hrun : runOf (labF σ) x y < 145 := rAF_lt _ _ _ _ _ q93 q92
    have hlead := q8 (runOf (labF σ) x y)
    refine lv_aload_n C.1 C.2.1 dX1_label_11 rfl (lv_at hl 0 rfl) ?_
    refine z_callv (As := []) C (m_labelAll l G h0 r d σ hok) (cwV 0 C.2.2.2.2 (lw_V q119 q121 qs1 q27 q122) rfl rfl rfl (by decide +kernel) ⟨Nat.le_of_ble_eq_true rfl, Nat.le_of_ble_eq_true rfl⟩) w (cl_rc w) rfl hl.1 rfl (Nat.le_of_ble_eq_true rfl) dX1_label_12 ⟨Nat.le_refl _, Nat.le_refl _⟩ (fun s2 H locs hp w => ?_)
    have hσ := hp
    rw [hσ] at w
    refine lv_aload_n C.1 C.2.1 dX1_label_15 rfl (lv_at hl 0 rfl) ?_
    refine lv_iload_n C.1 C.2.1 dX1_label_16 rfl (lv_at hl 1 rfl) ?_
    refine lv_iload_n C.1 C.2.1 dX1_label_17 rfl (lv_at hl 2 rfl) ?_
    refine z_calli (As := [.int (nI x), .int (nI y)]) C (m_runAt l G h0 r d (labF σ) x y (by omega) (by omega) q91 q92 q93) (cwV 2 C.2.2.2.2 (lw_V q163 q165 qs10 q27 q166) rfl rfl rfl (by decide +kernel) ⟨Nat.le_of_ble_eq_true rfl, Nat.le_of_ble_eq_true rfl⟩) w (cl_rc w) rfl hl.1 rfl (Nat.le_of_ble_eq_true rfl) dX1_label_18 ⟨Nat.le_refl _, Nat.le_refl _⟩ (fun v3 s3 H locs hp w => ?_)
    obtain ⟨hv, hσ⟩ := hp
    subst hv
    rw [hσ] at w
    refine W.eq (g2 := F0 m 21 ls [.int (nI (runOf (labF σ) x y))]) rfl ?_
    refine lv_istore_n (lv' := [(3, .int (nI (runOf (labF σ) x y))), (0, .ref h0), (1, .int (nI x)), (2, .int (nI y))]) C.1 C.2.1 dX1_label_21 rfl hl (by decide) rfl (fun ls hl => ?_)
    have b7 := w.2.2.2.2.2 7 (runOf (labF σ) x y)
    refine lv_aload_n C.1 C.2.1 dX1_label_22 rfl (lv_at hl 1 rfl) ?_
    refine cl_g7 C w dX1_label_23 ?_
    refine lv_iload_n C.1 C.2.1 dX1_label_26 rfl (lv_at hl 0 rfl) ?_
    refine cl_l7 C w (by omega) dX1_label_27 ?_
    refine z_if_eq (tgt := 45) C dX1_label_28 (by decide) (by omega) (fun c_28 => ?_) (fun c_28 => ?_)
    · refine lv_bipush (v := (-2)) C.1 C.2.1 dX1_label_45 (by decide) ?_
      exact z_iret C hr hlk w (Or.inr ⟨x, y, rfl, rfl, hx, hy, by rw [if_neg (fun z => z c_28)], rfl⟩) dX1_label_47
    · refine lv_aload_n C.1 C.2.1 dX1_label_31 rfl (lv_at hl 1 rfl) ?_
      refine cl_g15 C w dX1_label_32 ?_
      refine lv_aload_n C.1 C.2.1 dX1_label_35 rfl (lv_at hl 1 rfl) ?_
      refine cl_g8 C w dX1_label_36 ?_
      refine lv_iload_n C.1 C.2.1 dX1_label_39 rfl (lv_at hl 0 rfl) ?_
      refine cl_l8 C w (by omega) dX1_label_40 ?_
      refine cl_l15 C w (by omega) dX1_label_41 ?_
      refine lv_goto (tgt := 47) C.1 C.2.1 dX1_label_42 (by decide) ?_
      exact z_iret C hr hlk w (Or.inr ⟨x, y, rfl, rfl, hx, hy, by rw [if_pos c_28], rfl⟩) dX1_label_47
  · refine lv_iconst (v := (-1)) C.1 C.2.1 dX1_label_9 (by decide) ?_
    exact z_iret C hr hlk w (Or.inl ⟨z_ifN c_6, rfl, rfl⟩) dX1_label_10
theorem m_depth (l : Launch) (G : va_G) (h0 : Nat) (r : Nat → Nat) (d : Nat → ClassId) (σ : Nat → Nat → Nat) (X Y : Int32) (hok : LabOk σ) (hq : QOk (labF σ)) : zMi l yX1_depth cX1_depth 4 (some .int) (rmF 5 114) G (clT d) (clC h0 r d) [.ref h0, .int X, .int Y] σ (fun v σ' => (¬ inP (σ 0 0) (σ 1 0) X Y ∧ v = -1 ∧ σ' = σ) ∨ (∃ x y, X = nI x ∧ Y = nI y ∧ x < σ 0 0 ∧ y < σ 1 0 ∧ v = (nI (labF σ 11 (labF σ 8 (runOf (labF σ) x y)))) ∧ σ' = labF σ)) := by
  refine zMi_of (own := RX1) (by decide) rfl (Nat.le_of_ble_eq_true rfl) ?_
  intro p e s m args below meth c A ls C hr hlk w hl
  have hl : lv_has ls 4 [(0, .ref h0), (1, .int X), (2, .int Y)] := hl
  have hbd := w.2.2.2.2.2
  obtain ⟨q8, q10, q16, q17, q9⟩ := hq
  have hok2 := hok
  obtain ⟨k1, k2, k3, k4, -, -⟩ := hok2
  have e10 : labF σ 1 0 = σ 1 0 := by rw [labF_row σ (by decide)]
  refine lv_aload_n C.1 C.2.1 dX1_depth_0 rfl (lv_at hl 0 rfl) ?_
  refine lv_iload_n C.1 C.2.1 dX1_depth_1 rfl (lv_at hl 1 rfl) ?_
  refine lv_iload_n C.1 C.2.1 dX1_depth_2 rfl (lv_at hl 2 rfl) ?_
  refine z_calli (As := [.int X, .int Y]) C (m_inPicture l G h0 r d σ X Y) (cwV 2 C.2.2.2.2 (lw_V q103 q105 qs0 q27 q106) rfl rfl rfl (by decide +kernel) ⟨Nat.le_of_ble_eq_true rfl, Nat.le_of_ble_eq_true rfl⟩) w (cl_rc w) rfl hl.1 rfl (Nat.le_of_ble_eq_true rfl) dX1_depth_3 ⟨Nat.le_refl _, Nat.le_refl _⟩ (fun v1 s1 H locs hp w => ?_)
  obtain ⟨hv, hσ⟩ := hp
  subst hv
  rw [hσ] at w
  refine z_if_ne (tgt := 11) C dX1_depth_6 (by decide) z_ifB (fun c_6 => ?_) (fun c_6 => ?_)
  · obtain ⟨x, y, rfl, rfl, hx, hy⟩ := inP_nat (by omega) (by omega) (z_ifP c_6)
    obtain ⟨q91, q92, q93⟩ := q9 y (by omega)
    have hrun : runOf (labF σ) x y < 145 := rAF_lt _ _ _ _ _ q93 q92
    have hlead := q8 (runOf (labF σ) x y)
    refine lv_aload_n C.1 C.2.1 dX1_depth_11 rfl (lv_at hl 0 rfl) ?_
    refine z_callv (As := []) C (m_labelAll l G h0 r d σ hok) (cwV 0 C.2.2.2.2 (lw_V q119 q121 qs1 q27 q122) rfl rfl rfl (by decide +kernel) ⟨Nat.le_of_ble_eq_true rfl, Nat.le_of_ble_eq_true rfl⟩) w (cl_rc w) rfl hl.1 rfl (Nat.le_of_ble_eq_true rfl) dX1_depth_12 ⟨Nat.le_refl _, Nat.le_refl _⟩ (fun s2 H locs hp w => ?_)
    have hσ := hp
    rw [hσ] at w
    refine lv_aload_n C.1 C.2.1 dX1_depth_15 rfl (lv_at hl 0 rfl) ?_
    refine lv_iload_n C.1 C.2.1 dX1_depth_16 rfl (lv_at hl 1 rfl) ?_
    refine lv_iload_n C.1 C.2.1 dX1_depth_17 rfl (lv_at hl 2 rfl) ?_
    refine z_calli (As := [.int (nI x), .int (nI y)]) C (m_runAt l G h0 r d (labF σ) x y (by omega) (by omega) q91 q92 q93) (cwV 2 C.2.2.2.2 (lw_V q163 q165 qs10 q27 q166) rfl rfl rfl (by decide +kernel) ⟨Nat.le_of_ble_eq_true rfl, Nat.le_of_ble_eq_true rfl⟩) w (cl_rc w) rfl hl.1 rfl (Nat.le_of_ble_eq_true rfl) dX1_depth_18 ⟨Nat.le_refl _, Nat.le_refl _⟩ (fun v3 s3 H locs hp w => ?_)
    obtain ⟨hv, hσ⟩ := hp
    subst hv
    rw [hσ] at w
    refine W.eq (g2 := F0 m 21 ls [.int (nI (runOf (labF σ) x y))]) rfl ?_
    refine lv_istore_n (lv' := [(3, .int (nI (runOf (labF σ) x y))), (0, .ref h0), (1, .int (nI x)), (2, .int (nI y))]) C.1 C.2.1 dX1_depth_21 rfl hl (by decide) rfl (fun ls hl => ?_)
    have b7 := w.2.2.2.2.2 7 (runOf (labF σ) x y)
    refine lv_aload_n C.1 C.2.1 dX1_depth_22 rfl (lv_at hl 1 rfl) ?_
    refine cl_g11 C w dX1_depth_23 ?_
    refine lv_aload_n C.1 C.2.1 dX1_depth_26 rfl (lv_at hl 1 rfl) ?_
    refine cl_g8 C w dX1_depth_27 ?_
    refine lv_iload_n C.1 C.2.1 dX1_depth_30 rfl (lv_at hl 0 rfl) ?_
    refine cl_l8 C w (by omega) dX1_depth_31 ?_
    refine cl_l11 C w (by omega) dX1_depth_32 ?_
    exact z_iret C hr hlk w (Or.inr ⟨x, y, rfl, rfl, hx, hy, rfl, rfl⟩) dX1_depth_33
  · refine lv_iconst (v := (-1)) C.1 C.2.1 dX1_depth_9 (by decide) ?_
    exact z_iret C hr hlk w (Or.inl ⟨z_ifN c_6, rfl, rfl⟩) dX1_depth_10
theorem m_isBlack (l : Launch) (G : va_G) (h0 : Nat) (r : Nat → Nat) (d : Nat → ClassId) (σ : Nat → Nat → Nat) (X Y : Int32) (k2 : σ 0 0 ≤ 12) (k4 : σ 1 0 ≤ 12) : zMi l yX1_isBlack cX1_isBlack 3 (some .boolean) (rmF 1 22) G (clT d) (clC h0 r d) [.ref h0, .int X, .int Y] σ (fun v σ' => ((¬ inP (σ 0 0) (σ 1 0) X Y ∧ v = nI 0) ∨ (∃ x y, X = nI x ∧ Y = nI y ∧ x < σ 0 0 ∧ y < σ 1 0 ∧ v = nI (bit (σ 2 y) x))) ∧ σ' = σ) := by
  refine zMi_of (own := RX1) (by decide) rfl (Nat.le_of_ble_eq_true rfl) ?_
  intro p e s m args below meth c A ls C hr hlk w hl
  have hl : lv_has ls 3 [(0, .ref h0), (1, .int X), (2, .int Y)] := hl
  have hbd := w.2.2.2.2.2
  refine lv_aload_n C.1 C.2.1 dX1_isBlack_0 rfl (lv_at hl 0 rfl) ?_
  refine lv_iload_n C.1 C.2.1 dX1_isBlack_1 rfl (lv_at hl 1 rfl) ?_
  refine lv_iload_n C.1 C.2.1 dX1_isBlack_2 rfl (lv_at hl 2 rfl) ?_
  refine z_calli (As := [.int X, .int Y]) C (m_inPicture l G h0 r d σ X Y) (cwV 2 C.2.2.2.2 (lw_V q103 q105 qs0 q27 q106) rfl rfl rfl (by decide +kernel) ⟨Nat.le_of_ble_eq_true rfl, Nat.le_of_ble_eq_true rfl⟩) w (cl_rc w) rfl hl.1 rfl (Nat.le_of_ble_eq_true rfl) dX1_isBlack_3 ⟨Nat.le_refl _, Nat.le_refl _⟩ (fun v1 s1 H locs hp w => ?_)
  obtain ⟨hv, hσ⟩ := hp
  subst hv
  rw [hσ] at w
  refine z_if_eq (tgt := 26) C dX1_isBlack_6 (by decide) z_ifB (fun c_6 => ?_) (fun c_6 => ?_)
  · refine lv_iconst (v := nI 0) C.1 C.2.1 dX1_isBlack_26 (by decide) ?_
    exact z_zret C hr hlk w (by decide) ⟨Or.inl ⟨z_ifN c_6, rfl⟩, rfl⟩ dX1_isBlack_27
  · obtain ⟨x, y, rfl, rfl, hx, hy⟩ := inP_nat (by omega) (by omega) (z_ifP c_6)
    have b2 := hbd 2 y
    have bb := bit_lt (σ 2 y) x
    refine lv_aload_n C.1 C.2.1 dX1_isBlack_9 rfl (lv_at hl 0 rfl) ?_
    refine cl_g2 C w dX1_isBlack_10 ?_
    refine lv_iload_n C.1 C.2.1 dX1_isBlack_13 rfl (lv_at hl 2 rfl) ?_
    refine cl_l2 C w (by omega) dX1_isBlack_14 ?_
    refine lv_iload_n C.1 C.2.1 dX1_isBlack_15 rfl (lv_at hl 1 rfl) ?_
    refine z_bit C (by omega) (by omega) dX1_isBlack_16 dX1_isBlack_17 dX1_isBlack_18 ?_
    refine z_if_eq (tgt := 26) C dX1_isBlack_19 (by decide) (by omega) (fun c_19 => ?_) (fun c_19 => ?_)
    · refine lv_iconst (v := nI 0) C.1 C.2.1 dX1_isBlack_26 (by decide) ?_
      exact z_zret C hr hlk w (by decide) ⟨Or.inr ⟨x, y, rfl, rfl, hx, hy, by rw [c_19]⟩, rfl⟩ dX1_isBlack_27
    · refine lv_iconst (v := nI 1) C.1 C.2.1 dX1_isBlack_22 (by decide) ?_
      refine lv_goto (tgt := 27) C.1 C.2.1 dX1_isBlack_23 (by decide) ?_
      exact z_zret C hr hlk w (by decide) ⟨Or.inr ⟨x, y, rfl, rfl, hx, hy, by rw [show bit (σ 2 y) x = 1 by omega]⟩, rfl⟩ dX1_isBlack_27
