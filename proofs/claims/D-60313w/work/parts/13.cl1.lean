set_option maxRecDepth 100000
/-! ===== CompLabel: first, unite ===== -/
abbrev rmF (f k : Nat) : Room := { frames := f, cells := 0, slots := 0, locals := k }
def fstF (lead : Nat → Nat) : Nat → Nat → Nat
  | 0, r => r
  | n + 1, r => if lead r = r then r else fstF lead n (lead r)
def fst (lead : Nat → Nat) (r : Nat) : Nat := fstF lead r r
def uniteF (s : Nat → Nat → Nat) (a b : Nat) : Nat → Nat → Nat := if fst (s 8) a < fst (s 8) b then up s 8 (fst (s 8) b) (fst (s 8) a) else up s 8 (fst (s 8) a) (fst (s 8) b)
theorem fstF_le {lead : Nat → Nat} (h : ∀ i, lead i ≤ i) : ∀ n r, fstF lead n r ≤ r := by
  intro n
  induction n with
  | zero => intro r; exact Nat.le_refl _
  | succ n ih =>
    intro r
    show (if lead r = r then r else fstF lead n (lead r)) ≤ r
    split
    · exact Nat.le_refl _
    · exact Nat.le_trans (ih _) (h r)
theorem fst_le {lead : Nat → Nat} (h : ∀ i, lead i ≤ i) (r : Nat) : fst lead r ≤ r := fstF_le h r r
section
variable {p : Program} {l : Launch} {e : Env} {R : Room} {s : State} {m : MethodId} {args : Array Value} {below : List Frame} {meth : Method} {c : Code} {H : Heap} {locs : List Loc} {Q : State → Prop}
variable {G : va_G} {A : Nat → Prop} {H0 : Heap} {σ : Nat → Nat → Nat} {h0 : Nat} {r : Nat → Nat} {d : Nat → ClassId}
theorem first_loop {a : Nat} (C : zC p m c cX1_first 3 s args RX1) (w : clW G h0 r d A s H0 H locs σ) (hF : ∀ i, σ 8 i ≤ i) : ∀ n k, k ≤ n → k < 145 → ∀ ls, lv_has ls 3 [(2, .int (nI k)), (0, .ref h0), (1, .int (nI a))] → (∀ ls, lv_has ls 3 [(2, .int (nI (fstF (σ 8) n k))), (0, .ref h0), (1, .int (nI a))] → W p l e R s m args below meth c H locs 0 0 Q (F0 m 22 ls [])) → W p l e R s m args below meth c H locs 0 0 Q (F0 m 2 ls []) := by
  have hbd := w.2.2.2.2.2
  intro n
  induction n with
  | zero =>
    intro k hk hk2 ls hl K
    have h1 := hF k
    have h2 := hbd 8 k
    refine lv_aload_n C.1 C.2.1 dX1_first_2 rfl (lv_at hl 1 rfl) ?_
    refine cl_g8 C w dX1_first_3 ?_
    refine lv_iload_n C.1 C.2.1 dX1_first_6 rfl (lv_at hl 0 rfl) ?_
    refine cl_l8 C w (by omega) dX1_first_7 ?_
    refine lv_iload_n C.1 C.2.1 dX1_first_8 rfl (lv_at hl 0 rfl) ?_
    refine z_cmp_eq (tgt := 22) C dX1_first_9 (by decide) (by omega) (by omega) (fun c_9 => ?_) (fun c_9 => ?_)
    · exact K ls hl
    · exact absurd (by omega) c_9
  | succ n ih =>
    intro k hk hk2 ls hl K
    have h1 := hF k
    have h2 := hbd 8 k
    refine lv_aload_n C.1 C.2.1 dX1_first_2 rfl (lv_at hl 1 rfl) ?_
    refine cl_g8 C w dX1_first_3 ?_
    refine lv_iload_n C.1 C.2.1 dX1_first_6 rfl (lv_at hl 0 rfl) ?_
    refine cl_l8 C w (by omega) dX1_first_7 ?_
    refine lv_iload_n C.1 C.2.1 dX1_first_8 rfl (lv_at hl 0 rfl) ?_
    refine z_cmp_eq (tgt := 22) C dX1_first_9 (by decide) (by omega) (by omega) (fun c_9 => ?_) (fun c_9 => ?_)
    · have e1 : fstF (σ 8) (n + 1) k = k := if_pos c_9
      rw [e1] at K
      exact K ls hl
    · refine lv_aload_n C.1 C.2.1 dX1_first_12 rfl (lv_at hl 1 rfl) ?_
      refine cl_g8 C w dX1_first_13 ?_
      refine lv_iload_n C.1 C.2.1 dX1_first_16 rfl (lv_at hl 0 rfl) ?_
      refine cl_l8 C w (by omega) dX1_first_17 ?_
      refine lv_istore_n (lv' := [(2, .int (nI (σ 8 k))), (0, .ref h0), (1, .int (nI a))]) C.1 C.2.1 dX1_first_18 rfl hl (by decide) rfl (fun ls hl => ?_)
      refine lv_goto (tgt := 2) C.1 C.2.1 dX1_first_19 (by decide) ?_
      have e1 : fstF (σ 8) (n + 1) k = fstF (σ 8) n (σ 8 k) := if_neg c_9
      rw [e1] at K
      exact ih (σ 8 k) (by omega) (by omega) ls (lv_sub hl [0, 1, 2] rfl) K
end
theorem m_first (l : Launch) (G : va_G) (h0 : Nat) (r : Nat → Nat) (d : Nat → ClassId) (σ : Nat → Nat → Nat) (a : Nat) (ha : a < 145) (hF : ∀ i, σ 8 i ≤ i) : zMi l yX1_first cX1_first 3 (some .int) (rmF 0 0) G (clT d) (clC h0 r d) [.ref h0, .int (nI a)] σ (fun v σ' => v = nI (fst (σ 8) a) ∧ σ' = σ) := by
  refine zMi_of (own := RX1) (by decide) rfl (Nat.le_of_ble_eq_true rfl) ?_
  intro p e s m args below meth c A ls C hr hlk w hl
  have hl : lv_has ls 3 [(0, .ref h0), (1, .int (nI a))] := hl
  refine lv_iload_n C.1 C.2.1 dX1_first_0 rfl (lv_at hl 1 rfl) ?_
  refine lv_istore_n (lv' := [(2, .int (nI a)), (0, .ref h0), (1, .int (nI a))]) C.1 C.2.1 dX1_first_1 rfl hl (by decide) rfl (fun ls hl => ?_)
  refine first_loop C w hF a a (Nat.le_refl _) ha ls (lv_sub hl [0, 1, 2] rfl) (fun ls hl => ?_)
  refine lv_iload_n C.1 C.2.1 dX1_first_22 rfl (lv_at hl 0 rfl) ?_
  exact z_iret C hr hlk w ⟨rfl, rfl⟩ dX1_first_23
theorem m_unite (l : Launch) (G : va_G) (h0 : Nat) (r : Nat → Nat) (d : Nat → ClassId) (σ : Nat → Nat → Nat) (a b : Nat) (ha : a < 145) (hb : b < 145) (hF : ∀ i, σ 8 i ≤ i) : zMv l yX1_unite cX1_unite 5 none (rmF 1 22) G (clT d) (clC h0 r d) [.ref h0, .int (nI a), .int (nI b)] σ (fun σ' => σ' = uniteF σ a b) := by
  refine zMv_of (own := RX1) (by decide) rfl (Nat.le_of_ble_eq_true rfl) ?_
  intro p e s m args below meth c A ls C hr hlk w hl
  have hl : lv_has ls 5 [(0, .ref h0), (1, .int (nI a)), (2, .int (nI b))] := hl
  have h1 := fst_le hF a
  have h2 := fst_le hF b
  refine lv_aload_n C.1 C.2.1 dX1_unite_0 rfl (lv_at hl 0 rfl) ?_
  refine lv_iload_n C.1 C.2.1 dX1_unite_1 rfl (lv_at hl 1 rfl) ?_
  refine z_calli (As := [.int (nI a)]) C (m_first l G h0 r d σ a (by omega) hF) (cwV 1 C.2.2.2.2 (lw_V q135 q137 qs5 q27 q138) rfl rfl rfl (by decide +kernel) ⟨Nat.le_of_ble_eq_true rfl, Nat.le_of_ble_eq_true rfl⟩) w (cl_rc w) rfl hl.1 rfl (Nat.le_of_ble_eq_true rfl) dX1_unite_2 ⟨Nat.le_refl _, Nat.le_refl _⟩ (fun v1 s1 H locs hp w => ?_)
  obtain ⟨hv, hσ⟩ := hp
  subst hv
  rw [hσ] at w
  refine lv_istore_n (lv' := [(3, .int (nI (fst (σ 8) a))), (0, .ref h0), (1, .int (nI a)), (2, .int (nI b))]) C.1 C.2.1 dX1_unite_5 rfl hl (by decide) rfl (fun ls hl => ?_)
  refine lv_aload_n C.1 C.2.1 dX1_unite_6 rfl (lv_at hl 1 rfl) ?_
  refine lv_iload_n C.1 C.2.1 dX1_unite_7 rfl (lv_at hl 3 rfl) ?_
  refine z_calli (As := [.int (nI b)]) C (m_first l G h0 r d σ b (by omega) hF) (cwV 1 C.2.2.2.2 (lw_V q135 q137 qs5 q27 q138) rfl rfl rfl (by decide +kernel) ⟨Nat.le_of_ble_eq_true rfl, Nat.le_of_ble_eq_true rfl⟩) w (cl_rc w) rfl hl.1 rfl (Nat.le_of_ble_eq_true rfl) dX1_unite_8 ⟨Nat.le_refl _, Nat.le_refl _⟩ (fun v2 s2 H locs hp w => ?_)
  obtain ⟨hv, hσ⟩ := hp
  subst hv
  rw [hσ] at w
  refine lv_istore (lv' := [(4, .int (nI (fst (σ 8) b))), (3, .int (nI (fst (σ 8) a))), (0, .ref h0), (1, .int (nI a)), (2, .int (nI b))]) C.1 C.2.1 dX1_unite_11 hl (by decide) rfl (fun ls hl => ?_)
  refine lv_iload_n C.1 C.2.1 dX1_unite_13 rfl (lv_at hl 1 rfl) ?_
  refine lv_iload C.1 C.2.1 dX1_unite_14 (lv_at hl 0 rfl) ?_
  refine z_cmp_ge (tgt := 31) C dX1_unite_16 (by decide) (by omega) (by omega) (fun c_16 => ?_) (fun c_16 => ?_)
  · refine lv_aload_n C.1 C.2.1 dX1_unite_31 rfl (lv_at hl 2 rfl) ?_
    refine cl_g8 C w dX1_unite_32 ?_
    refine lv_iload_n C.1 C.2.1 dX1_unite_35 rfl (lv_at hl 1 rfl) ?_
    refine lv_iload C.1 C.2.1 dX1_unite_36 (lv_at hl 0 rfl) ?_
    refine z_i2s C (by omega) dX1_unite_38 ?_
    refine cl_s8 C w (by omega) (by omega) dX1_unite_39 (fun H locs w => ?_)
    refine z_vret C hr hlk w ?_ dX1_unite_40
    unfold uniteF
    rw [if_neg (by omega)]
  · refine lv_aload_n C.1 C.2.1 dX1_unite_19 rfl (lv_at hl 2 rfl) ?_
    refine cl_g8 C w dX1_unite_20 ?_
    refine lv_iload C.1 C.2.1 dX1_unite_23 (lv_at hl 0 rfl) ?_
    refine lv_iload_n C.1 C.2.1 dX1_unite_25 rfl (lv_at hl 1 rfl) ?_
    refine z_i2s C (by omega) dX1_unite_26 ?_
    refine cl_s8 C w (by omega) (by omega) dX1_unite_27 (fun H locs w => ?_)
    refine lv_goto (tgt := 40) C.1 C.2.1 dX1_unite_28 (by decide) ?_
    refine z_vret C hr hlk w ?_ dX1_unite_40
    unfold uniteF
    rw [if_pos c_16]
