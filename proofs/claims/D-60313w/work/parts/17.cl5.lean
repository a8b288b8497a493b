set_option maxRecDepth 100000
/-! ===== CompLabel: labelAll ===== -/
theorem cutS_row (v x : Nat) (s : Nat → Nat → Nat) {k' : Nat} (h : k' < 4 ∨ 8 < k') : cutS v x s k' = s k' := by
  unfold cutS
  rw [up_row (by omega), up_row (by omega), up_row (by omega), up_row (by omega), up_row (by omega)]
theorem cutS_fo {s : Nat → Nat → Nat} (hF : ∀ i, s 8 i ≤ i) (v x : Nat) : ∀ i, cutS v x s 8 i ≤ i := by
  intro i
  unfold cutS
  rw [up_row (by decide)]
  by_cases e : i = s 4 0
  · rw [e, up_eq]; exact Nat.le_refl _
  · rw [up_ne (Or.inr e), up_row (by decide), up_row (by decide), up_row (by decide)]; exact hF i
theorem cutF_row (v : Nat) : ∀ n x (s : Nat → Nat → Nat) {k' : Nat}, (k' < 4 ∨ 8 < k') → cutF v n x s k' = s k' := by
  intro n
  induction n with
  | zero => intro x s k' _; rfl
  | succ n ih =>
    intro x s k' h
    show (if x < s 0 0 then cutF v n (endF v (s 0 0) (bit v x) 12 x + 1) (cutS v x s) else s) k' = s k'
    split
    · rw [ih _ _ h, cutS_row v x s h]
    · rfl
theorem cutF_fo (v : Nat) : ∀ n x (s : Nat → Nat → Nat), (∀ i, s 8 i ≤ i) → ∀ i, cutF v n x s 8 i ≤ i := by
  intro n
  induction n with
  | zero => intro x s h; exact h
  | succ n ih =>
    intro x s h
    show ∀ i, (if x < s 0 0 then cutF v n (endF v (s 0 0) (bit v x) 12 x + 1) (cutS v x s) else s) 8 i ≤ i
    split
    · exact ih _ _ (cutS_fo h v x)
    · exact h
theorem cutS_4 (v x : Nat) (s : Nat → Nat → Nat) : cutS v x s 4 0 = s 4 0 + 1 := rfl
theorem cutF_4 (v : Nat) : ∀ n x (s : Nat → Nat → Nat), s 4 0 ≤ cutF v n x s 4 0 ∧ cutF v n x s 4 0 ≤ s 4 0 + (s 0 0 - x) := by
  intro n
  induction n with
  | zero => intro x s; exact ⟨Nat.le_refl _, Nat.le_add_right _ _⟩
  | succ n ih =>
    intro x s
    show s 4 0 ≤ (if x < s 0 0 then cutF v n (endF v (s 0 0) (bit v x) 12 x + 1) (cutS v x s) else s) 4 0 ∧ (if x < s 0 0 then cutF v n (endF v (s 0 0) (bit v x) 12 x + 1) (cutS v x s) else s) 4 0 ≤ _
    split
    · have i := ih (endF v (s 0 0) (bit v x) 12 x + 1) (cutS v x s)
      have g := endF_ge v (s 0 0) (bit v x) 12 x
      rw [cutS_4, cutS_row v x s (by omega)] at i
      omega
    · exact ⟨Nat.le_refl _, Nat.le_add_right _ _⟩
theorem obF_row (y : Nat) (s : Nat → Nat → Nat) {k' : Nat} (h : k' ≠ 8) : obF y s k' = s k' :=
  fwd_inv (fun t => t k' = s k') _ _ s rfl (fun j t _ _ ht => by rw [obS_row _ _ _ h]; exact ht)
theorem obF_fo {s : Nat → Nat → Nat} (hF : ∀ i, s 8 i ≤ i) (y : Nat) : ∀ i, obF y s 8 i ≤ i :=
  fwd_inv (fun t => ∀ i, t 8 i ≤ i) _ _ s hF (fun j t _ _ ht => obS_fo ht _ _)
theorem taF_row (y : Nat) : ∀ n u v (s : Nat → Nat → Nat) {k' : Nat}, k' ≠ 8 → taF y n u v s k' = s k' := by
  intro n
  induction n with
  | zero => intro u v s k' _; rfl
  | succ n ih =>
    intro u v s k' h
    show (if u < s 9 y ∧ v < s 9 (y + 1) then (if s 6 u < s 6 v then taF y n (u + 1) v (taS y u v s) else taF y n u (v + 1) (taS y u v s)) else s) k' = s k'
    split
    · split
      · rw [ih _ _ _ h, taS_row _ _ _ _ h]
      · rw [ih _ _ _ h, taS_row _ _ _ _ h]
    · rfl
theorem taF_fo (y : Nat) : ∀ n u v (s : Nat → Nat → Nat), (∀ i, s 8 i ≤ i) → ∀ i, taF y n u v s 8 i ≤ i := by
  intro n
  induction n with
  | zero => intro u v s h; exact h
  | succ n ih =>
    intro u v s h
    show ∀ i, (if u < s 9 y ∧ v < s 9 (y + 1) then (if s 6 u < s 6 v then taF y n (u + 1) v (taS y u v s) else taF y n u (v + 1) (taS y u v s)) else s) 8 i ≤ i
    split
    · split
      · exact ih _ _ _ (taS_fo h _ _ _)
      · exact ih _ _ _ (taS_fo h _ _ _)
    · exact h
def row1 (y : Nat) (s : Nat → Nat → Nat) : Nat → Nat → Nat := up s 9 y (s 4 0)
def row2 (y : Nat) (s : Nat → Nat → Nat) : Nat → Nat → Nat := cutF (s 2 y) 12 0 (row1 y s)
def row3 (y : Nat) (s : Nat → Nat → Nat) : Nat → Nat → Nat := up (row2 y s) 9 (y + 1) (row2 y s 4 0)
def row4 (y : Nat) (s : Nat → Nat → Nat) : Nat → Nat → Nat := obF y (row3 y s)
def rowF (y : Nat) (s : Nat → Nat → Nat) : Nat → Nat → Nat := if y = 0 then row4 y s else taA y (row4 y s)
def labI (s : Nat → Nat → Nat) : Nat → Nat → Nat := up (up (up s 4 0 1) 7 0 0) 8 0 0
def labR (s : Nat → Nat → Nat) : Nat → Nat → Nat := fwd rowF (s 1 0) 0 (labI s)
def labX (s : Nat → Nat → Nat) : Nat → Nat → Nat := up (suF (stF (labR s))) 3 0 1
def labF (s : Nat → Nat → Nat) : Nat → Nat → Nat := if s 3 0 ≠ 0 then s else labX s
/-- what holds before row y -/
def LI (y : Nat) (s : Nat → Nat → Nat) : Prop := 1 ≤ s 0 0 ∧ s 0 0 ≤ 12 ∧ 1 ≤ s 1 0 ∧ s 1 0 ≤ 12 ∧ (∀ i, s 8 i ≤ i) ∧ 1 ≤ s 4 0 ∧ s 4 0 ≤ 1 + 12 * y ∧ (y ≠ 0 → s 9 (y - 1) ≤ s 4 0)
theorem row1_fo {s : Nat → Nat → Nat} (hF : ∀ i, s 8 i ≤ i) (y : Nat) : ∀ i, row1 y s 8 i ≤ i := by
  unfold row1
  rw [up_row (by decide)]
  exact hF
theorem row2_4 (y : Nat) (s : Nat → Nat → Nat) : s 4 0 ≤ row2 y s 4 0 ∧ row2 y s 4 0 ≤ s 4 0 + s 0 0 := cutF_4 (s 2 y) 12 0 (row1 y s)
theorem row3_ok {y : Nat} {s : Nat → Nat → Nat} (h : LI y s) (hy : y < s 1 0) : (∀ i, row3 y s 8 i ≤ i) ∧ row3 y s 0 = s 0 ∧ row3 y s 1 = s 1 ∧ row3 y s 9 y = s 4 0 ∧ row3 y s 9 (y + 1) = row3 y s 4 0 ∧ s 4 0 ≤ row3 y s 4 0 ∧ row3 y s 4 0 ≤ s 4 0 + 12 ∧ (y ≠ 0 → row3 y s 9 (y - 1) = s 9 (y - 1)) := by
  obtain ⟨h1, h2, h3, h4, hF, h5, h6, h7⟩ := h
  have g := row2_4 y s
  have e9 : ∀ i, row2 y s 9 i = row1 y s 9 i := fun i => by unfold row2; rw [cutF_row _ _ _ _ (by omega)]
  refine ⟨?_, ?_, ?_, ?_, ?_, ?_, ?_, ?_⟩
  · unfold row3
    rw [up_row (by decide)]
    exact cutF_fo _ _ _ _ (row1_fo hF y)
  · unfold row3 row2 row1
    rw [up_row (by decide), cutF_row _ _ _ _ (by omega), up_row (by decide)]
  · unfold row3 row2 row1
    rw [up_row (by decide), cutF_row _ _ _ _ (by omega), up_row (by decide)]
  · unfold row3
    rw [up_ne (Or.inr (by omega)), e9]
    unfold row1
    rw [up_eq]
  · unfold row3
    rw [up_eq, up_row (by decide)]
  · unfold row3
    rw [up_row (by decide)]
    omega
  · unfold row3
    rw [up_row (by decide)]
    omega
  · intro h0
    unfold row3
    rw [up_ne (Or.inr (by omega)), e9]
    unfold row1
    rw [up_ne (Or.inr (by omega))]
theorem row4_row (y : Nat) (s : Nat → Nat → Nat) {k' : Nat} (h : k' ≠ 8) : row4 y s k' = row3 y s k' := obF_row y _ h
theorem rowF_row (y : Nat) (s : Nat → Nat → Nat) {k' : Nat} (h : k' ≠ 8) : rowF y s k' = row3 y s k' := by
  unfold rowF
  split
  · exact row4_row y s h
  · unfold taA
    rw [taF_row y _ _ _ _ h, row4_row y s h]
theorem rowF_fo {y : Nat} {s : Nat → Nat → Nat} (h : LI y s) (hy : y < s 1 0) : ∀ i, rowF y s 8 i ≤ i := by
  have h1 := (row3_ok h hy).1
  unfold rowF
  split
  · exact obF_fo h1 y
  · exact taF_fo y _ _ _ _ (obF_fo h1 y)
theorem rowF_LI {y : Nat} {s : Nat → Nat → Nat} (h : LI y s) (hy : y < s 1 0) : LI (y + 1) (rowF y s) := by
  obtain ⟨g1, g2, g3, g4, g5, g6, g7, g8⟩ := row3_ok h hy
  have hf := rowF_fo h hy
  obtain ⟨h1, h2, h3, h4, hF, h5, h6, h7⟩ := h
  unfold LI
  rw [rowF_row y s (k' := 0) (by decide), rowF_row y s (k' := 1) (by decide), rowF_row y s (k' := 4) (by decide), rowF_row y s (k' := 9) (by decide), g2, g3, Nat.add_sub_cancel, g4]
  exact ⟨h1, h2, h3, h4, hf, by omega, by omega, fun _ => g6⟩
theorem labI_LI {s : Nat → Nat → Nat} (h1 : 1 ≤ s 0 0) (h2 : s 0 0 ≤ 12) (h3 : 1 ≤ s 1 0) (h4 : s 1 0 ≤ 12) (hF : ∀ i, s 8 i ≤ i) : LI 0 (labI s) := by
  refine ⟨h1, h2, h3, h4, fun i => ?_, Nat.le_refl 1, Nat.le_refl 1, fun q => absurd rfl q⟩
  unfold labI
  by_cases e : i = 0
  · rw [e, up_eq]; exact Nat.le_refl _
  · rw [up_ne (Or.inr e), up_row (by decide), up_row (by decide)]; exact hF i
theorem fwd_LI : ∀ n y (s : Nat → Nat → Nat), LI y s → s 1 0 = y + n → LI (y + n) (fwd rowF n y s) ∧ (fwd rowF n y s) 1 0 = s 1 0 := by
  intro n
  induction n with
  | zero => intro y s h e; exact ⟨h, rfl⟩
  | succ n ih =>
    intro y s h e
    have g := row3_ok h (by omega)
    have e1 : rowF y s 1 0 = s 1 0 := by rw [rowF_row y s (by decide), g.2.2.1]
    have i := ih (y + 1) (rowF y s) (rowF_LI h (by omega)) (by omega)
    rw [e1, show y + 1 + n = y + (n + 1) by omega] at i
    exact i
theorem labR_LI {s : Nat → Nat → Nat} (h1 : 1 ≤ s 0 0) (h2 : s 0 0 ≤ 12) (h3 : 1 ≤ s 1 0) (h4 : s 1 0 ≤ 12) (hF : ∀ i, s 8 i ≤ i) : LI (s 1 0) (labR s) := by
  have := (fwd_LI (s 1 0) 0 (labI s) (labI_LI h1 h2 h3 h4 hF) (show s 1 0 = _ by omega)).1
  rw [Nat.zero_add] at this
  exact this
theorem stF_row (s : Nat → Nat → Nat) {k' : Nat} (h : k' < 8 ∨ k' = 9) : stF s k' = s k' :=
  fwd_inv (fun t => t k' = s k') _ _ (stI s) (by unfold stI; rw [up_row (by omega), up_row (by omega), up_row (by omega), up_row (by omega), up_row (by omega)]) (fun j t _ _ ht => by rw [stS_row _ _ h]; exact ht)
/-- what labelAll asks -/
def LabOk (s : Nat → Nat → Nat) : Prop := 1 ≤ s 0 0 ∧ s 0 0 ≤ 12 ∧ 1 ≤ s 1 0 ∧ s 1 0 ≤ 12 ∧ (∀ i, s 8 i ≤ i) ∧ (s 3 0 = 0 → (∀ j k', j < labR s 4 0 - 1 → k' = 1 + j → StOk k' (fwd stS j 1 (stI (labR s)))) ∧ (∀ j k', j < stF (labR s) 4 0 - 1 → k' + j = stF (labR s) 4 0 - 1 → SuOk k' (bwd suS j (stF (labR s) 4 0 - 1) (fwd suZ (stF (labR s) 4 0) 0 (stF (labR s))))))
section
variable {p : Program} {l : Launch} {e : Env} {R : Room} {s : State} {m : MethodId} {args : Array Value} {below : List Frame} {meth : Method} {c : Code} {H : Heap} {locs : List Loc} {Q : State → Prop}
variable {G : va_G} {A : Nat → Prop} {H0 : Heap} {σ : Nat → Nat → Nat} {h0 : Nat} {r : Nat → Nat} {d : Nat → ClassId}
theorem lab_loop (C : zC p m c cX1_labelAll 2 s args RX1) : ∀ n y σ H locs, clW G h0 r d A s H0 H locs σ → LI y σ → σ 1 0 = y + n → ∀ ls, lv_has ls 2 [(1, .int (nI y)), (0, .ref h0)] → (∀ H locs ls, clW G h0 r d A s H0 H locs (fwd rowF n y σ) → lv_has ls 2 [(0, .ref h0)] → W p l e (rmF 4 93) s m args below meth c H locs 0 0 Q (F0 m 91 ls [])) → W p l e (rmF 4 93) s m args below meth c H locs 0 0 Q (F0 m 29 ls []) := by
  intro n
  induction n with
  | zero =>
    intro y σ H locs w hI hn ls hl K
    have hI2 := hI
    obtain ⟨h1, h2, h3, h4, hF, h5, h6, h7⟩ := hI2
    refine lv_iload_n C.1 C.2.1 dX1_labelAll_29 rfl (lv_at hl 0 rfl) ?_
    refine lv_aload_n C.1 C.2.1 dX1_labelAll_30 rfl (lv_at hl 1 rfl) ?_
    refine cl_g1 C w dX1_labelAll_31 ?_
    refine z_cmp_ge (tgt := 91) C dX1_labelAll_34 (by decide) (by omega) (by omega) (fun c_34 => ?_) (fun c_34 => ?_)
    · exact K H locs ls w (lv_sub hl [1] rfl)
    · exact absurd c_34 (by omega)
  | succ n ih =>
    intro y σ H locs w hI hn ls hl K
    have hI2 := hI
    obtain ⟨h1, h2, h3, h4, hF, h5, h6, h7⟩ := hI2
    obtain ⟨g1, g2, g3, g4, g5, g6, g7, g8⟩ := row3_ok hI (by omega)
    have g20 : row3 y σ 0 0 = σ 0 0 := by rw [g2]
    have g30 : row3 y σ 1 0 = σ 1 0 := by rw [g3]
    have b2 := w.2.2.2.2.2 2 y
    have q4 := row2_4 y σ
    refine lv_iload_n C.1 C.2.1 dX1_labelAll_29 rfl (lv_at hl 0 rfl) ?_
    refine lv_aload_n C.1 C.2.1 dX1_labelAll_30 rfl (lv_at hl 1 rfl) ?_
    refine cl_g1 C w dX1_labelAll_31 ?_
    refine z_cmp_ge (tgt := 91) C dX1_labelAll_34 (by decide) (by omega) (by omega) (fun c_34 => ?_) (fun c_34 => ?_)
    · exact absurd c_34 (by omega)
    · refine lv_aload_n C.1 C.2.1 dX1_labelAll_37 rfl (lv_at hl 1 rfl) ?_
      refine cl_g9 C w dX1_labelAll_38 ?_
      refine lv_iload_n C.1 C.2.1 dX1_labelAll_41 rfl (lv_at hl 0 rfl) ?_
      refine lv_aload_n C.1 C.2.1 dX1_labelAll_42 rfl (lv_at hl 1 rfl) ?_
      refine cl_g4 C w dX1_labelAll_43 ?_
      refine z_i2s C (by omega) dX1_labelAll_46 ?_
      refine cl_s9 C w (by omega) (by omega) dX1_labelAll_47 (fun H locs w => ?_)
      refine lv_aload_n C.1 C.2.1 dX1_labelAll_48 rfl (lv_at hl 1 rfl) ?_
      refine lv_aload_n C.1 C.2.1 dX1_labelAll_49 rfl (lv_at hl 1 rfl) ?_
      refine cl_g2 C w dX1_labelAll_50 ?_
      refine lv_iload_n C.1 C.2.1 dX1_labelAll_53 rfl (lv_at hl 0 rfl) ?_
      refine cl_l2 C w (by omega) dX1_labelAll_54 ?_
      refine W.eq (g2 := F0 m 55 ls [.int (nI (σ 2 y)), .ref h0]) rfl ?_
      refine z_callv (As := [.int (nI (σ 2 y))]) C (m_cutRow l G h0 r d (row1 y σ) (σ 2 y) (by omega) h2 (show σ 4 0 + σ 0 0 ≤ 145 by omega)) (cwV 1 C.2.2.2.2 (lw_V q123 q125 qs2 q27 q126) rfl rfl rfl (by decide +kernel) ⟨Nat.le_of_ble_eq_true rfl, Nat.le_of_ble_eq_true rfl⟩) w (cl_rc w) rfl hl.1 rfl (Nat.le_of_ble_eq_true rfl) dX1_labelAll_55 ⟨Nat.le_refl _, Nat.le_refl _⟩ (fun s1 H locs hp w => ?_)
      have hσ := hp
      rw [hσ] at w
      have w : clW G h0 r d A s H0 H locs (row2 y σ) := w
      have b4 := w.2.2.2.2.2 4 0
      refine lv_aload_n C.1 C.2.1 dX1_labelAll_58 rfl (lv_at hl 1 rfl) ?_
      refine cl_g9 C w dX1_labelAll_59 ?_
      refine lv_iload_n C.1 C.2.1 dX1_labelAll_62 rfl (lv_at hl 0 rfl) ?_
      refine lv_iconst (v := nI 1) C.1 C.2.1 dX1_labelAll_63 (by decide) ?_
      refine z_iadd C dX1_labelAll_64 ?_
      refine lv_aload_n C.1 C.2.1 dX1_labelAll_65 rfl (lv_at hl 1 rfl) ?_
      refine cl_g4 C w dX1_labelAll_66 ?_
      refine z_i2s C (by omega) dX1_labelAll_69 ?_
      refine cl_s9 C w (by omega) (by omega) dX1_labelAll_70 (fun H locs w => ?_)
      refine lv_aload_n C.1 C.2.1 dX1_labelAll_71 rfl (lv_at hl 1 rfl) ?_
      refine lv_iload_n C.1 C.2.1 dX1_labelAll_72 rfl (lv_at hl 0 rfl) ?_
      refine z_callv (As := [.int (nI y)]) C (m_openBorders l G h0 r d (row3 y σ) y (by omega) g1 (by omega) (by omega) (by omega) (by omega)) (cwV 1 C.2.2.2.2 (lw_V q127 q129 qs3 q27 q130) rfl rfl rfl (by decide +kernel) ⟨Nat.le_of_ble_eq_true rfl, Nat.le_of_ble_eq_true rfl⟩) w (cl_rc w) rfl hl.1 rfl (Nat.le_of_ble_eq_true rfl) dX1_labelAll_73 ⟨Nat.le_refl _, Nat.le_refl _⟩ (fun s2 H locs hp w => ?_)
      have hσ := hp
      rw [hσ] at w
      have w : clW G h0 r d A s H0 H locs (row4 y σ) := w
      refine lv_iload_n C.1 C.2.1 dX1_labelAll_76 rfl (lv_at hl 0 rfl) ?_
      refine z_if_le (tgt := 85) C dX1_labelAll_77 (by decide) (by omega) (fun c_77 => ?_) (fun c_77 => ?_)
      · refine lv_iinc (lv' := [(1, .int (nI (y + 1))), (0, .ref h0)]) C.1 C.2.1 dX1_labelAll_85 hl (k := 0) rfl (nI_add _ _) (by decide) rfl (fun ls hl => ?_)
        refine lv_goto (tgt := 29) C.1 C.2.1 dX1_labelAll_88 (by decide) ?_
        have e1 : rowF y σ = row4 y σ := if_pos (by omega)
        exact ih (y + 1) (rowF y σ) H locs (by rw [e1]; exact w) (rowF_LI hI (by omega)) (by rw [rowF_row y σ (by decide), g30]; omega) ls hl K
      · refine lv_aload_n C.1 C.2.1 dX1_labelAll_80 rfl (lv_at hl 1 rfl) ?_
        refine lv_iload_n C.1 C.2.1 dX1_labelAll_81 rfl (lv_at hl 0 rfl) ?_
        refine z_callv (As := [.int (nI y)]) C (m_touchAbove l G h0 r d (row4 y σ) y (by omega) (by omega) (obF_fo g1 y) (by rw [row4_row y σ (by decide)]; have := g8 (by omega); have := h7 (by omega); omega) (by rw [row4_row y σ (by decide)]; omega) (by rw [row4_row y σ (by decide)]; omega)) (cwV 1 C.2.2.2.2 (lw_V q139 q141 qs6 q27 q142) rfl rfl rfl (by decide +kernel) ⟨Nat.le_of_ble_eq_true rfl, Nat.le_of_ble_eq_true rfl⟩) w (cl_rc w) rfl hl.1 rfl (Nat.le_of_ble_eq_true rfl) dX1_labelAll_82 ⟨Nat.le_refl _, Nat.le_refl _⟩ (fun s3 H locs hp w => ?_)
        have hσ := hp
        rw [hσ] at w
        refine lv_iinc (lv' := [(1, .int (nI (y + 1))), (0, .ref h0)]) C.1 C.2.1 dX1_labelAll_85 hl (k := 0) rfl (nI_add _ _) (by decide) rfl (fun ls hl => ?_)
        refine lv_goto (tgt := 29) C.1 C.2.1 dX1_labelAll_88 (by decide) ?_
        have e1 : rowF y σ = taA y (row4 y σ) := if_neg (by omega)
        exact ih (y + 1) (rowF y σ) H locs (by rw [e1]; exact w) (rowF_LI hI (by omega)) (by rw [rowF_row y σ (by decide), g30]; omega) ls hl K
end
theorem m_labelAll (l : Launch) (G : va_G) (h0 : Nat) (r : Nat → Nat) (d : Nat → ClassId) (σ : Nat → Nat → Nat)  (hok : LabOk σ) : zMv l yX1_labelAll cX1_labelAll 2 none (rmF 4 93) G (clT d) (clC h0 r d) [.ref h0] σ (fun σ' => σ' = labF σ) := by
  refine zMv_of (own := RX1) (by decide) rfl (Nat.le_of_ble_eq_true rfl) ?_
  intro p e s m args below meth c A ls C hr hlk w hl
  have hl : lv_has ls 2 [(0, .ref h0)] := hl
  have hbd := w.2.2.2.2.2
  obtain ⟨h1, h2, h3, h4, hF, hs⟩ := hok
  have b3 := hbd 3 0
  refine lv_aload_n C.1 C.2.1 dX1_labelAll_0 rfl (lv_at hl 0 rfl) ?_
  refine cl_g3 C w dX1_labelAll_1 ?_
  refine z_if_eq (tgt := 8) C dX1_labelAll_4 (by decide) (by omega) (fun c_4 => ?_) (fun c_4 => ?_)
  · refine lv_aload_n C.1 C.2.1 dX1_labelAll_8 rfl (lv_at hl 0 rfl) ?_
    refine lv_iconst (v := nI 1) C.1 C.2.1 dX1_labelAll_9 (by decide) ?_
    refine cl_p4 C w (by omega) dX1_labelAll_10 (fun H locs w => ?_)
    refine lv_aload_n C.1 C.2.1 dX1_labelAll_13 rfl (lv_at hl 0 rfl) ?_
    refine cl_g7 C w dX1_labelAll_14 ?_
    refine lv_iconst (v := nI 0) C.1 C.2.1 dX1_labelAll_17 (by decide) ?_
    refine lv_iconst (v := nI 0) C.1 C.2.1 dX1_labelAll_18 (by decide) ?_
    refine cl_s7 C w (by omega) (by omega) dX1_labelAll_19 (fun H locs w => ?_)
    refine lv_aload_n C.1 C.2.1 dX1_labelAll_20 rfl (lv_at hl 0 rfl) ?_
    refine cl_g8 C w dX1_labelAll_21 ?_
    refine lv_iconst (v := nI 0) C.1 C.2.1 dX1_labelAll_24 (by decide) ?_
    refine lv_iconst (v := nI 0) C.1 C.2.1 dX1_labelAll_25 (by decide) ?_
    refine cl_s8 C w (by omega) (by omega) dX1_labelAll_26 (fun H locs w => ?_)
    refine lv_iconst (v := nI 0) C.1 C.2.1 dX1_labelAll_27 (by decide) ?_
    refine lv_istore_n (lv' := [(1, .int (nI 0)), (0, .ref h0)]) C.1 C.2.1 dX1_labelAll_28 rfl hl (by decide) rfl (fun ls hl => ?_)
    have e0 : labF σ = labX σ := if_neg (fun z => z c_4)
    obtain ⟨hs1, hs2⟩ := hs c_4
    have hR := labR_LI h1 h2 h3 h4 hF
    obtain ⟨-, -, -, -, -, r5, r6, -⟩ := hR
    have w : clW G h0 r d A s s.heap H locs (labI σ) := w
    refine lab_loop C (σ 1 0) 0 (labI σ) _ _ w (labI_LI h1 h2 h3 h4 hF) (show σ 1 0 = _ by omega) ls (lv_sub hl [0, 1] rfl) (fun H locs ls w hl => ?_)
    have w : clW G h0 r d A s s.heap H locs (labR σ) := w
    refine lv_aload_n C.1 C.2.1 dX1_labelAll_91 rfl (lv_at hl 0 rfl) ?_
    refine z_callv (As := []) C (m_settleRuns l G h0 r d (labR σ) (by omega) (by omega) hs1) (cwV 0 C.2.2.2.2 (lw_V q147 q149 qs8 q27 q150) rfl rfl rfl (by decide +kernel) ⟨Nat.le_of_ble_eq_true rfl, Nat.le_of_ble_eq_true rfl⟩) w (cl_rc w) rfl hl.1 rfl (Nat.le_of_ble_eq_true rfl) dX1_labelAll_92 ⟨Nat.le_refl _, Nat.le_refl _⟩ (fun s1 H locs hp w => ?_)
    have hσ := hp
    rw [hσ] at w
    refine lv_aload_n C.1 C.2.1 dX1_labelAll_95 rfl (lv_at hl 0 rfl) ?_
    refine z_callv (As := []) C (m_sumUp l G h0 r d (stF (labR σ)) (by rw [stF_row _ (by omega)]; omega) (by rw [stF_row _ (by omega)]; omega) hs2) (cwV 0 C.2.2.2.2 (lw_V q151 q153 qs9 q27 q154) rfl rfl rfl (by decide +kernel) ⟨Nat.le_of_ble_eq_true rfl, Nat.le_of_ble_eq_true rfl⟩) w (cl_rc w) rfl hl.1 rfl (Nat.le_of_ble_eq_true rfl) dX1_labelAll_96 ⟨Nat.le_refl _, Nat.le_refl _⟩ (fun s2 H locs hp w => ?_)
    have hσ := hp
    rw [hσ] at w
    refine lv_aload_n C.1 C.2.1 dX1_labelAll_99 rfl (lv_at hl 0 rfl) ?_
    refine lv_iconst (v := nI 1) C.1 C.2.1 dX1_labelAll_100 (by decide) ?_
    refine cl_p3 C w (by omega) dX1_labelAll_101 (fun H locs w => ?_)
    exact z_vret C hr hlk w (show _ = labF σ by rw [e0]; rfl) dX1_labelAll_104
  · exact z_vret C hr hlk w (if_pos c_4 : labF σ = σ).symm dX1_labelAll_7
