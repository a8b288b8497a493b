set_option maxRecDepth 100000
/-! ===== CompLabel: openBorders, cornerAbove, touchAbove ===== -/
theorem uniteF_row (s : Nat → Nat → Nat) (a b : Nat) {k : Nat} (h : k ≠ 8) : uniteF s a b k = s k := by
  unfold uniteF
  split
  · exact up_row h
  · exact up_row h
theorem uniteF_fo {s : Nat → Nat → Nat} (hF : ∀ i, s 8 i ≤ i) (a b : Nat) : ∀ i, uniteF s a b 8 i ≤ i := by
  intro i
  unfold uniteF
  split
  · by_cases e : i = fst (s 8) b
    · rw [e, up_eq]; omega
    · rw [up_ne (Or.inr e)]; exact hF i
  · by_cases e : i = fst (s 8) a
    · rw [e, up_eq]; omega
    · rw [up_ne (Or.inr e)]; exact hF i
def obS (e k : Nat) (s : Nat → Nat → Nat) : Nat → Nat → Nat := if s 7 k ≠ 0 then s else if e ≠ 0 ∨ s 5 k = 0 ∨ s 6 k = s 0 0 - 1 then uniteF s 0 k else s
theorem obS_row (e k : Nat) (s : Nat → Nat → Nat) {k' : Nat} (h : k' ≠ 8) : obS e k s k' = s k' := by
  unfold obS
  split
  · rfl
  · split
    · exact uniteF_row _ _ _ h
    · rfl
theorem obS_fo {s : Nat → Nat → Nat} (hF : ∀ i, s 8 i ≤ i) (e k : Nat) : ∀ i, obS e k s 8 i ≤ i := by
  unfold obS
  split
  · exact hF
  · split
    · exact uniteF_fo hF _ _
    · exact hF
def obE (y : Nat) (s : Nat → Nat → Nat) : Nat := if y = 0 ∨ y = s 1 0 - 1 then 1 else 0
def obF (y : Nat) (s : Nat → Nat → Nat) : Nat → Nat → Nat := fwd (obS (obE y s)) (s 9 (y + 1) - s 9 y) (s 9 y) s
section
variable {p : Program} {l : Launch} {e : Env} {R : Room} {s : State} {m : MethodId} {args : Array Value} {below : List Frame} {meth : Method} {c : Code} {H : Heap} {locs : List Loc} {Q : State → Prop}
variable {G : va_G} {A : Nat → Prop} {H0 : Heap} {σ : Nat → Nat → Nat} {h0 : Nat} {r : Nat → Nat} {d : Nat → ClassId}
theorem ob_loop {y b : Nat} (C : zC p m c cX1_openBorders 4 s args RX1) (hy : y < 12) (hb : b < 2) : ∀ n k σ H locs, clW G h0 r d A s H0 H locs σ → (∀ i, σ 8 i ≤ i) → σ 9 (y + 1) = k + n → k + n ≤ 145 → 1 ≤ σ 0 0 → ∀ ls, lv_has ls 4 [(3, .int (nI k)), (2, .int (nI b)), (0, .ref h0), (1, .int (nI y))] → (∀ H locs ls, clW G h0 r d A s H0 H locs (fwd (obS b) n k σ) → W p l e (rmF 2 46) s m args below meth c H locs 0 0 Q (F0 m 91 ls [])) → W p l e (rmF 2 46) s m args below meth c H locs 0 0 Q (F0 m 27 ls []) := by
  intro n
  induction n with
  | zero =>
    intro k σ H locs w hF hE hn hw ls hl K
    have b9 := w.2.2.2.2.2 9 (y + 1)
    refine lv_iload_n C.1 C.2.1 dX1_openBorders_27 rfl (lv_at hl 0 rfl) ?_
    refine lv_aload_n C.1 C.2.1 dX1_openBorders_28 rfl (lv_at hl 2 rfl) ?_
    refine cl_g9 C w dX1_openBorders_29 ?_
    refine lv_iload_n C.1 C.2.1 dX1_openBorders_32 rfl (lv_at hl 3 rfl) ?_
    refine lv_iconst (v := nI 1) C.1 C.2.1 dX1_openBorders_33 (by decide) ?_
    refine z_iadd C dX1_openBorders_34 ?_
    refine cl_l9 C w (by omega) dX1_openBorders_35 ?_
    refine z_cmp_ge (tgt := 91) C dX1_openBorders_36 (by decide) (by omega) (by omega) (fun c_36 => ?_) (fun c_36 => ?_)
    · exact K H locs ls w
    · exact absurd c_36 (by omega)
  | succ n ih =>
    intro k σ H locs w hF hE hn hw ls hl K
    have b9 := w.2.2.2.2.2 9 (y + 1)
    have b7 := w.2.2.2.2.2 7 k
    have b5 := w.2.2.2.2.2 5 k
    have b6 := w.2.2.2.2.2 6 k
    have b0 := w.2.2.2.2.2 0 0
    refine lv_iload_n C.1 C.2.1 dX1_openBorders_27 rfl (lv_at hl 0 rfl) ?_
    refine lv_aload_n C.1 C.2.1 dX1_openBorders_28 rfl (lv_at hl 2 rfl) ?_
    refine cl_g9 C w dX1_openBorders_29 ?_
    refine lv_iload_n C.1 C.2.1 dX1_openBorders_32 rfl (lv_at hl 3 rfl) ?_
    refine lv_iconst (v := nI 1) C.1 C.2.1 dX1_openBorders_33 (by decide) ?_
    refine z_iadd C dX1_openBorders_34 ?_
    refine cl_l9 C w (by omega) dX1_openBorders_35 ?_
    refine z_cmp_ge (tgt := 91) C dX1_openBorders_36 (by decide) (by omega) (by omega) (fun c_36 => ?_) (fun c_36 => ?_)
    · exact absurd c_36 (by omega)
    · refine lv_aload_n C.1 C.2.1 dX1_openBorders_39 rfl (lv_at hl 2 rfl) ?_
      refine cl_g7 C w dX1_openBorders_40 ?_
      refine lv_iload_n C.1 C.2.1 dX1_openBorders_43 rfl (lv_at hl 0 rfl) ?_
      refine cl_l7 C w (by omega) dX1_openBorders_44 ?_
      refine z_if_eq (tgt := 51) C dX1_openBorders_45 (by decide) (by omega) (fun c_45 => ?_) (fun c_45 => ?_)
      · refine lv_iload_n C.1 C.2.1 dX1_openBorders_51 rfl (lv_at hl 1 rfl) ?_
        refine z_if_ne (tgt := 79) C dX1_openBorders_52 (by decide) (by omega) (fun c_52 => ?_) (fun c_52 => ?_)
        · refine lv_aload_n C.1 C.2.1 dX1_openBorders_79 rfl (lv_at hl 2 rfl) ?_
          refine lv_iconst (v := nI 0) C.1 C.2.1 dX1_openBorders_80 (by decide) ?_
          refine lv_iload_n C.1 C.2.1 dX1_openBorders_81 rfl (lv_at hl 0 rfl) ?_
          refine z_callv (As := [.int (nI 0), .int (nI k)]) C (m_unite l G h0 r d σ 0 k (by omega) (by omega) hF) (cwV 2 C.2.2.2.2 (lw_V q131 q133 qs4 q27 q134) rfl rfl rfl (by decide +kernel) ⟨Nat.le_of_ble_eq_true rfl, Nat.le_of_ble_eq_true rfl⟩) w (cl_rc w) rfl hl.1 rfl (Nat.le_of_ble_eq_true rfl) dX1_openBorders_82 ⟨Nat.le_refl _, Nat.le_refl _⟩ (fun s1 H locs hp w => ?_)
          have hσ := hp
          rw [hσ] at w
          refine lv_iinc (lv' := [(3, .int (nI (k + 1))), (2, .int (nI b)), (0, .ref h0), (1, .int (nI y))]) C.1 C.2.1 dX1_openBorders_85 hl (k := 0) rfl (nI_add _ _) (by decide) rfl (fun ls hl => ?_)
          refine lv_goto (tgt := 27) C.1 C.2.1 dX1_openBorders_88 (by decide) ?_
          have e1 : obS b k σ = uniteF σ 0 k := by unfold obS; split <;> (try split) <;> first | rfl | omega
          exact ih (k + 1) (obS b k σ) H locs (by rw [e1]; exact w) (obS_fo hF b k) (by rw [obS_row b k σ (by decide)]; omega) (by omega) (by rw [obS_row b k σ (by decide)]; exact hw) ls hl K
        · refine lv_aload_n C.1 C.2.1 dX1_openBorders_55 rfl (lv_at hl 2 rfl) ?_
          refine cl_g5 C w dX1_openBorders_56 ?_
          refine lv_iload_n C.1 C.2.1 dX1_openBorders_59 rfl (lv_at hl 0 rfl) ?_
          refine cl_l5 C w (by omega) dX1_openBorders_60 ?_
          refine z_if_eq (tgt := 79) C dX1_openBorders_61 (by decide) (by omega) (fun c_61 => ?_) (fun c_61 => ?_)
          · refine lv_aload_n C.1 C.2.1 dX1_openBorders_79 rfl (lv_at hl 2 rfl) ?_
            refine lv_iconst (v := nI 0) C.1 C.2.1 dX1_openBorders_80 (by decide) ?_
            refine lv_iload_n C.1 C.2.1 dX1_openBorders_81 rfl (lv_at hl 0 rfl) ?_
            refine z_callv (As := [.int (nI 0), .int (nI k)]) C (m_unite l G h0 r d σ 0 k (by omega) (by omega) hF) (cwV 2 C.2.2.2.2 (lw_V q131 q133 qs4 q27 q134) rfl rfl rfl (by decide +kernel) ⟨Nat.le_of_ble_eq_true rfl, Nat.le_of_ble_eq_true rfl⟩) w (cl_rc w) rfl hl.1 rfl (Nat.le_of_ble_eq_true rfl) dX1_openBorders_82 ⟨Nat.le_refl _, Nat.le_refl _⟩ (fun s2 H locs hp w => ?_)
            have hσ := hp
            rw [hσ] at w
            refine lv_iinc (lv' := [(3, .int (nI (k + 1))), (2, .int (nI b)), (0, .ref h0), (1, .int (nI y))]) C.1 C.2.1 dX1_openBorders_85 hl (k := 0) rfl (nI_add _ _) (by decide) rfl (fun ls hl => ?_)
            refine lv_goto (tgt := 27) C.1 C.2.1 dX1_openBorders_88 (by decide) ?_
            have e1 : obS b k σ = uniteF σ 0 k := by unfold obS; split <;> (try split) <;> first | rfl | omega
            exact ih (k + 1) (obS b k σ) H locs (by rw [e1]; exact w) (obS_fo hF b k) (by rw [obS_row b k σ (by decide)]; omega) (by omega) (by rw [obS_row b k σ (by decide)]; exact hw) ls hl K
          · refine lv_aload_n C.1 C.2.1 dX1_openBorders_64 rfl (lv_at hl 2 rfl) ?_
            refine cl_g6 C w dX1_openBorders_65 ?_
            refine lv_iload_n C.1 C.2.1 dX1_openBorders_68 rfl (lv_at hl 0 rfl) ?_
            refine cl_l6 C w (by omega) dX1_openBorders_69 ?_
            refine lv_aload_n C.1 C.2.1 dX1_openBorders_70 rfl (lv_at hl 2 rfl) ?_
            refine cl_g0 C w dX1_openBorders_71 ?_
            refine lv_iconst (v := nI 1) C.1 C.2.1 dX1_openBorders_74 (by decide) ?_
            refine z_isub C (by omega) dX1_openBorders_75 ?_
            refine z_cmp_ne (tgt := 85) C dX1_openBorders_76 (by decide) (by omega) (by omega) (fun c_76 => ?_) (fun c_76 => ?_)
            · refine lv_iinc (lv' := [(3, .int (nI (k + 1))), (2, .int (nI b)), (0, .ref h0), (1, .int (nI y))]) C.1 C.2.1 dX1_openBorders_85 hl (k := 0) rfl (nI_add _ _) (by decide) rfl (fun ls hl => ?_)
              refine lv_goto (tgt := 27) C.1 C.2.1 dX1_openBorders_88 (by decide) ?_
              have e1 : obS b k σ = σ := by unfold obS; split <;> (try split) <;> first | rfl | omega
              exact ih (k + 1) (obS b k σ) H locs (by rw [e1]; exact w) (obS_fo hF b k) (by rw [obS_row b k σ (by decide)]; omega) (by omega) (by rw [obS_row b k σ (by decide)]; exact hw) ls hl K
            · refine lv_aload_n C.1 C.2.1 dX1_openBorders_79 rfl (lv_at hl 2 rfl) ?_
              refine lv_iconst (v := nI 0) C.1 C.2.1 dX1_openBorders_80 (by decide) ?_
              refine lv_iload_n C.1 C.2.1 dX1_openBorders_81 rfl (lv_at hl 0 rfl) ?_
              refine z_callv (As := [.int (nI 0), .int (nI k)]) C (m_unite l G h0 r d σ 0 k (by omega) (by omega) hF) (cwV 2 C.2.2.2.2 (lw_V q131 q133 qs4 q27 q134) rfl rfl rfl (by decide +kernel) ⟨Nat.le_of_ble_eq_true rfl, Nat.le_of_ble_eq_true rfl⟩) w (cl_rc w) rfl hl.1 rfl (Nat.le_of_ble_eq_true rfl) dX1_openBorders_82 ⟨Nat.le_refl _, Nat.le_refl _⟩ (fun s3 H locs hp w => ?_)
              have hσ := hp
              rw [hσ] at w
              refine lv_iinc (lv' := [(3, .int (nI (k + 1))), (2, .int (nI b)), (0, .ref h0), (1, .int (nI y))]) C.1 C.2.1 dX1_openBorders_85 hl (k := 0) rfl (nI_add _ _) (by decide) rfl (fun ls hl => ?_)
              refine lv_goto (tgt := 27) C.1 C.2.1 dX1_openBorders_88 (by decide) ?_
              have e1 : obS b k σ = uniteF σ 0 k := by unfold obS; split <;> (try split) <;> first | rfl | omega
              exact ih (k + 1) (obS b k σ) H locs (by rw [e1]; exact w) (obS_fo hF b k) (by rw [obS_row b k σ (by decide)]; omega) (by omega) (by rw [obS_row b k σ (by decide)]; exact hw) ls hl K
      · refine lv_goto (tgt := 85) C.1 C.2.1 dX1_openBorders_48 (by decide) ?_
        refine lv_iinc (lv' := [(3, .int (nI (k + 1))), (2, .int (nI b)), (0, .ref h0), (1, .int (nI y))]) C.1 C.2.1 dX1_openBorders_85 hl (k := 0) rfl (nI_add _ _) (by decide) rfl (fun ls hl => ?_)
        refine lv_goto (tgt := 27) C.1 C.2.1 dX1_openBorders_88 (by decide) ?_
        have e1 : obS b k σ = σ := by unfold obS; split <;> (try split) <;> first | rfl | omega
        exact ih (k + 1) (obS b k σ) H locs (by rw [e1]; exact w) (obS_fo hF b k) (by rw [obS_row b k σ (by decide)]; omega) (by omega) (by rw [obS_row b k σ (by decide)]; exact hw) ls hl K
end
theorem m_openBorders (l : Launch) (G : va_G) (h0 : Nat) (r : Nat → Nat) (d : Nat → ClassId) (σ : Nat → Nat → Nat) (y : Nat) (hy : y < 12) (hF : ∀ i, σ 8 i ≤ i) (hw : 1 ≤ σ 0 0) (hh : 1 ≤ σ 1 0) (h1 : σ 9 y ≤ σ 9 (y + 1)) (h2 : σ 9 (y + 1) ≤ 145) : zMv l yX1_openBorders cX1_openBorders 4 none (rmF 2 46) G (clT d) (clC h0 r d) [.ref h0, .int (nI y)] σ (fun σ' => σ' = obF y σ) := by
  refine zMv_of (own := RX1) (by decide) rfl (Nat.le_of_ble_eq_true rfl) ?_
  intro p e s m args below meth c A ls C hr hlk w hl
  have hl : lv_has ls 4 [(0, .ref h0), (1, .int (nI y))] := hl
  have hbd := w.2.2.2.2.2
  have b1 := hbd 1 0
  refine lv_iload_n C.1 C.2.1 dX1_openBorders_0 rfl (lv_at hl 1 rfl) ?_
  refine z_if_eq (tgt := 14) C dX1_openBorders_1 (by decide) (by omega) (fun c_1 => ?_) (fun c_1 => ?_)
  · refine lv_iconst (v := nI 1) C.1 C.2.1 dX1_openBorders_14 (by decide) ?_
    refine lv_goto (tgt := 19) C.1 C.2.1 dX1_openBorders_15 (by decide) ?_
    refine lv_istore_n (lv' := [(2, .int (nI 1)), (0, .ref h0), (1, .int (nI y))]) C.1 C.2.1 dX1_openBorders_19 rfl hl (by decide) rfl (fun ls hl => ?_)
    refine lv_aload_n C.1 C.2.1 dX1_openBorders_20 rfl (lv_at hl 1 rfl) ?_
    refine cl_g9 C w dX1_openBorders_21 ?_
    refine lv_iload_n C.1 C.2.1 dX1_openBorders_24 rfl (lv_at hl 2 rfl) ?_
    refine cl_l9 C w (by omega) dX1_openBorders_25 ?_
    refine lv_istore_n (lv' := [(3, .int (nI (σ 9 y))), (2, .int (nI 1)), (0, .ref h0), (1, .int (nI y))]) C.1 C.2.1 dX1_openBorders_26 rfl hl (by decide) rfl (fun ls hl => ?_)
    have e1 : obE y σ = 1 := by unfold obE; rw [if_pos (by omega)]
    refine ob_loop C hy (b := 1) (by decide) (σ 9 (y + 1) - σ 9 y) (σ 9 y) σ _ _ w hF (by omega) (by omega) hw ls hl (fun H locs ls w => ?_)
    exact z_vret C hr hlk w (show _ = obF y σ by unfold obF; rw [e1]) dX1_openBorders_91
  · refine lv_iload_n C.1 C.2.1 dX1_openBorders_4 rfl (lv_at hl 1 rfl) ?_
    refine lv_aload_n C.1 C.2.1 dX1_openBorders_5 rfl (lv_at hl 0 rfl) ?_
    refine cl_g1 C w dX1_openBorders_6 ?_
    refine lv_iconst (v := nI 1) C.1 C.2.1 dX1_openBorders_9 (by decide) ?_
    refine z_isub C (by omega) dX1_openBorders_10 ?_
    refine z_cmp_ne (tgt := 18) C dX1_openBorders_11 (by decide) (by omega) (by omega) (fun c_11 => ?_) (fun c_11 => ?_)
    · refine lv_iconst (v := nI 0) C.1 C.2.1 dX1_openBorders_18 (by decide) ?_
      refine lv_istore_n (lv' := [(2, .int (nI 0)), (0, .ref h0), (1, .int (nI y))]) C.1 C.2.1 dX1_openBorders_19 rfl hl (by decide) rfl (fun ls hl => ?_)
      refine lv_aload_n C.1 C.2.1 dX1_openBorders_20 rfl (lv_at hl 1 rfl) ?_
      refine cl_g9 C w dX1_openBorders_21 ?_
      refine lv_iload_n C.1 C.2.1 dX1_openBorders_24 rfl (lv_at hl 2 rfl) ?_
      refine cl_l9 C w (by omega) dX1_openBorders_25 ?_
      refine lv_istore_n (lv' := [(3, .int (nI (σ 9 y))), (2, .int (nI 0)), (0, .ref h0), (1, .int (nI y))]) C.1 C.2.1 dX1_openBorders_26 rfl hl (by decide) rfl (fun ls hl => ?_)
      have e1 : obE y σ = 0 := by unfold obE; rw [if_neg (by omega)]
      refine ob_loop C hy (b := 0) (by decide) (σ 9 (y + 1) - σ 9 y) (σ 9 y) σ _ _ w hF (by omega) (by omega) hw ls hl (fun H locs ls w => ?_)
      exact z_vret C hr hlk w (show _ = obF y σ by unfold obF; rw [e1]) dX1_openBorders_91
    · refine lv_iconst (v := nI 1) C.1 C.2.1 dX1_openBorders_14 (by decide) ?_
      refine lv_goto (tgt := 19) C.1 C.2.1 dX1_openBorders_15 (by decide) ?_
      refine lv_istore_n (lv' := [(2, .int (nI 1)), (0, .ref h0), (1, .int (nI y))]) C.1 C.2.1 dX1_openBorders_19 rfl hl (by decide) rfl (fun ls hl => ?_)
      refine lv_aload_n C.1 C.2.1 dX1_openBorders_20 rfl (lv_at hl 1 rfl) ?_
      refine cl_g9 C w dX1_openBorders_21 ?_
      refine lv_iload_n C.1 C.2.1 dX1_openBorders_24 rfl (lv_at hl 2 rfl) ?_
      refine cl_l9 C w (by omega) dX1_openBorders_25 ?_
      refine lv_istore_n (lv' := [(3, .int (nI (σ 9 y))), (2, .int (nI 1)), (0, .ref h0), (1, .int (nI y))]) C.1 C.2.1 dX1_openBorders_26 rfl hl (by decide) rfl (fun ls hl => ?_)
      have e1 : obE y σ = 1 := by unfold obE; rw [if_pos (by omega)]
      refine ob_loop C hy (b := 1) (by decide) (σ 9 (y + 1) - σ 9 y) (σ 9 y) σ _ _ w hF (by omega) (by omega) hw ls hl (fun H locs ls w => ?_)
      exact z_vret C hr hlk w (show _ = obF y σ by unfold obF; rw [e1]) dX1_openBorders_91
def cr1 (y u v : Nat) (s : Nat → Nat → Nat) : Nat → Nat → Nat := if s 7 u = 0 ∧ u + 1 < s 9 y ∧ s 5 (u + 1) = s 6 v + 1 then uniteF s (u + 1) v else s
def cr2 (y u v : Nat) (s : Nat → Nat → Nat) : Nat → Nat → Nat := if s 7 v = 0 ∧ v + 1 < s 9 (y + 1) ∧ s 5 (v + 1) = s 6 u + 1 then uniteF s u (v + 1) else s
def crF (y u v : Nat) (s : Nat → Nat → Nat) : Nat → Nat → Nat := cr2 y u v (cr1 y u v s)
theorem cr1_row (y u v : Nat) (s : Nat → Nat → Nat) {k' : Nat} (h : k' ≠ 8) : cr1 y u v s k' = s k' := by
  unfold cr1
  split
  · exact uniteF_row _ _ _ h
  · rfl
theorem cr2_row (y u v : Nat) (s : Nat → Nat → Nat) {k' : Nat} (h : k' ≠ 8) : cr2 y u v s k' = s k' := by
  unfold cr2
  split
  · exact uniteF_row _ _ _ h
  · rfl
theorem cr1_fo {s : Nat → Nat → Nat} (hF : ∀ i, s 8 i ≤ i) (y u v : Nat) : ∀ i, cr1 y u v s 8 i ≤ i := by
  unfold cr1
  split
  · exact uniteF_fo hF _ _
  · exact hF
theorem cr2_fo {s : Nat → Nat → Nat} (hF : ∀ i, s 8 i ≤ i) (y u v : Nat) : ∀ i, cr2 y u v s 8 i ≤ i := by
  unfold cr2
  split
  · exact uniteF_fo hF _ _
  · exact hF
theorem crF_row (y u v : Nat) (s : Nat → Nat → Nat) {k' : Nat} (h : k' ≠ 8) : crF y u v s k' = s k' := by
  unfold crF
  rw [cr2_row y u v _ h, cr1_row y u v _ h]
theorem crF_fo {s : Nat → Nat → Nat} (hF : ∀ i, s 8 i ≤ i) (y u v : Nat) : ∀ i, crF y u v s 8 i ≤ i := cr2_fo (cr1_fo hF y u v) y u v
theorem m_cornerAbove (l : Launch) (G : va_G) (h0 : Nat) (r : Nat → Nat) (d : Nat → ClassId) (σ : Nat → Nat → Nat) (u v y : Nat) (hu : u < 145) (hv : v < 145) (hy : y < 12) (hF : ∀ i, σ 8 i ≤ i) (h1 : σ 9 y ≤ 145) (h2 : σ 9 (y + 1) ≤ 145) : zMv l yX1_cornerAbove cX1_cornerAbove 4 none (rmF 2 46) G (clT d) (clC h0 r d) [.ref h0, .int (nI u), .int (nI v), .int (nI y)] σ (fun σ' => σ' = crF y u v σ) := by
  refine zMv_of (own := RX1) (by decide) rfl (Nat.le_of_ble_eq_true rfl) ?_
  intro p e s m args below meth c A ls C hr hlk w hl
  have hl : lv_has ls 4 [(0, .ref h0), (1, .int (nI u)), (2, .int (nI v)), (3, .int (nI y))] := hl
  have hbd := w.2.2.2.2.2
  have K : ∀ H locs, clW G h0 r d A s s.heap H locs (cr1 y u v σ) → W p l e (rmF 2 46) s m args below meth c H locs 0 0 (MQ below (zQv G (clT d) (clC h0 r d) A (fun σ' => σ' = crF y u v σ)) args s 0 0 A) (F0 m 48 ls []) := by
    intro H locs w
    have hF1 := cr1_fo hF y u v
    have e9 := cr1_row y u v σ (k' := 9) (by decide)
    generalize hτ : cr1 y u v σ = τ at w hF1 e9
    have hbd := w.2.2.2.2.2
    have b7 := hbd 7 v
    have b9 := hbd 9 (y + 1)
    have b5 := hbd 5 (v + 1)
    have b6 := hbd 6 u
    have e91 : τ 9 (y + 1) = σ 9 (y + 1) := by rw [e9]
    refine lv_aload_n C.1 C.2.1 dX1_cornerAbove_48 rfl (lv_at hl 0 rfl) ?_
    refine cl_g7 C w dX1_cornerAbove_49 ?_
    refine lv_iload_n C.1 C.2.1 dX1_cornerAbove_52 rfl (lv_at hl 2 rfl) ?_
    refine cl_l7 C w (by omega) dX1_cornerAbove_53 ?_
    refine z_if_ne (tgt := 98) C dX1_cornerAbove_54 (by decide) (by omega) (fun c_54 => ?_) (fun c_54 => ?_)
    · have e1 : cr2 y u v τ = τ := by unfold cr2; split <;> first | rfl | omega
      exact z_vret C hr hlk w (show _ = cr2 y u v (cr1 y u v σ) by rw [hτ, e1]) dX1_cornerAbove_98
    · refine lv_iload_n C.1 C.2.1 dX1_cornerAbove_57 rfl (lv_at hl 2 rfl) ?_
      refine lv_iconst (v := nI 1) C.1 C.2.1 dX1_cornerAbove_58 (by decide) ?_
      refine z_iadd C dX1_cornerAbove_59 ?_
      refine lv_aload_n C.1 C.2.1 dX1_cornerAbove_60 rfl (lv_at hl 0 rfl) ?_
      refine cl_g9 C w dX1_cornerAbove_61 ?_
      refine lv_iload_n C.1 C.2.1 dX1_cornerAbove_64 rfl (lv_at hl 3 rfl) ?_
      refine lv_iconst (v := nI 1) C.1 C.2.1 dX1_cornerAbove_65 (by decide) ?_
      refine z_iadd C dX1_cornerAbove_66 ?_
      refine cl_l9 C w (by omega) dX1_cornerAbove_67 ?_
      refine z_cmp_ge (tgt := 98) C dX1_cornerAbove_68 (by decide) (by omega) (by omega) (fun c_68 => ?_) (fun c_68 => ?_)
      · have e1 : cr2 y u v τ = τ := by unfold cr2; split <;> first | rfl | omega
        exact z_vret C hr hlk w (show _ = cr2 y u v (cr1 y u v σ) by rw [hτ, e1]) dX1_cornerAbove_98
      · refine lv_aload_n C.1 C.2.1 dX1_cornerAbove_71 rfl (lv_at hl 0 rfl) ?_
        refine cl_g5 C w dX1_cornerAbove_72 ?_
        refine lv_iload_n C.1 C.2.1 dX1_cornerAbove_75 rfl (lv_at hl 2 rfl) ?_
        refine lv_iconst (v := nI 1) C.1 C.2.1 dX1_cornerAbove_76 (by decide) ?_
        refine z_iadd C dX1_cornerAbove_77 ?_
        refine cl_l5 C w (by omega) dX1_cornerAbove_78 ?_
        refine lv_aload_n C.1 C.2.1 dX1_cornerAbove_79 rfl (lv_at hl 0 rfl) ?_
        refine cl_g6 C w dX1_cornerAbove_80 ?_
        refine lv_iload_n C.1 C.2.1 dX1_cornerAbove_83 rfl (lv_at hl 1 rfl) ?_
        refine cl_l6 C w (by omega) dX1_cornerAbove_84 ?_
        refine lv_iconst (v := nI 1) C.1 C.2.1 dX1_cornerAbove_85 (by decide) ?_
        refine z_iadd C dX1_cornerAbove_86 ?_
        refine z_cmp_ne (tgt := 98) C dX1_cornerAbove_87 (by decide) (by omega) (by omega) (fun c_87 => ?_) (fun c_87 => ?_)
        · have e1 : cr2 y u v τ = τ := by unfold cr2; split <;> first | rfl | omega
          exact z_vret C hr hlk w (show _ = cr2 y u v (cr1 y u v σ) by rw [hτ, e1]) dX1_cornerAbove_98
        · refine lv_aload_n C.1 C.2.1 dX1_cornerAbove_90 rfl (lv_at hl 0 rfl) ?_
          refine lv_iload_n C.1 C.2.1 dX1_cornerAbove_91 rfl (lv_at hl 1 rfl) ?_
          refine lv_iload_n C.1 C.2.1 dX1_cornerAbove_92 rfl (lv_at hl 2 rfl) ?_
          refine lv_iconst (v := nI 1) C.1 C.2.1 dX1_cornerAbove_93 (by decide) ?_
          refine z_iadd C dX1_cornerAbove_94 ?_
          refine z_callv (As := [.int (nI u), .int (nI (v + 1))]) C (m_unite l G h0 r d τ u (v + 1) (by omega) (by omega) hF1) (cwV 2 C.2.2.2.2 (lw_V q131 q133 qs4 q27 q134) rfl rfl rfl (by decide +kernel) ⟨Nat.le_of_ble_eq_true rfl, Nat.le_of_ble_eq_true rfl⟩) w (cl_rc w) rfl hl.1 rfl (Nat.le_of_ble_eq_true rfl) dX1_cornerAbove_95 ⟨Nat.le_refl _, Nat.le_refl _⟩ (fun s1 H locs hp w => ?_)
          have hσ := hp
          rw [hσ] at w
          have e1 : cr2 y u v τ = uniteF τ u (v + 1) := by unfold cr2; split <;> first | rfl | omega
          exact z_vret C hr hlk w (show _ = cr2 y u v (cr1 y u v σ) by rw [hτ, e1]) dX1_cornerAbove_98
  have b7 := hbd 7 u
  have b9 := hbd 9 y
  have b5 := hbd 5 (u + 1)
  have b6 := hbd 6 v
  refine lv_aload_n C.1 C.2.1 dX1_cornerAbove_0 rfl (lv_at hl 0 rfl) ?_
  refine cl_g7 C w dX1_cornerAbove_1 ?_
  refine lv_iload_n C.1 C.2.1 dX1_cornerAbove_4 rfl (lv_at hl 1 rfl) ?_
  refine cl_l7 C w (by omega) dX1_cornerAbove_5 ?_
  refine z_if_ne (tgt := 48) C dX1_cornerAbove_6 (by decide) (by omega) (fun c_6 => ?_) (fun c_6 => ?_)
  · have e1 : cr1 y u v σ = σ := by unfold cr1; split <;> first | rfl | omega
    exact K _ _ (by rw [e1]; exact w)
  · refine lv_iload_n C.1 C.2.1 dX1_cornerAbove_9 rfl (lv_at hl 1 rfl) ?_
    refine lv_iconst (v := nI 1) C.1 C.2.1 dX1_cornerAbove_10 (by decide) ?_
    refine z_iadd C dX1_cornerAbove_11 ?_
    refine lv_aload_n C.1 C.2.1 dX1_cornerAbove_12 rfl (lv_at hl 0 rfl) ?_
    refine cl_g9 C w dX1_cornerAbove_13 ?_
    refine lv_iload_n C.1 C.2.1 dX1_cornerAbove_16 rfl (lv_at hl 3 rfl) ?_
    refine cl_l9 C w (by omega) dX1_cornerAbove_17 ?_
    refine z_cmp_ge (tgt := 48) C dX1_cornerAbove_18 (by decide) (by omega) (by omega) (fun c_18 => ?_) (fun c_18 => ?_)
    · have e1 : cr1 y u v σ = σ := by unfold cr1; split <;> first | rfl | omega
      exact K _ _ (by rw [e1]; exact w)
    · refine lv_aload_n C.1 C.2.1 dX1_cornerAbove_21 rfl (lv_at hl 0 rfl) ?_
      refine cl_g5 C w dX1_cornerAbove_22 ?_
      refine lv_iload_n C.1 C.2.1 dX1_cornerAbove_25 rfl (lv_at hl 1 rfl) ?_
      refine lv_iconst (v := nI 1) C.1 C.2.1 dX1_cornerAbove_26 (by decide) ?_
      refine z_iadd C dX1_cornerAbove_27 ?_
      refine cl_l5 C w (by omega) dX1_cornerAbove_28 ?_
      refine lv_aload_n C.1 C.2.1 dX1_cornerAbove_29 rfl (lv_at hl 0 rfl) ?_
      refine cl_g6 C w dX1_cornerAbove_30 ?_
      refine lv_iload_n C.1 C.2.1 dX1_cornerAbove_33 rfl (lv_at hl 2 rfl) ?_
      refine cl_l6 C w (by omega) dX1_cornerAbove_34 ?_
      refine lv_iconst (v := nI 1) C.1 C.2.1 dX1_cornerAbove_35 (by decide) ?_
      refine z_iadd C dX1_cornerAbove_36 ?_
      refine z_cmp_ne (tgt := 48) C dX1_cornerAbove_37 (by decide) (by omega) (by omega) (fun c_37 => ?_) (fun c_37 => ?_)
      · have e1 : cr1 y u v σ = σ := by unfold cr1; split <;> first | rfl | omega
        exact K _ _ (by rw [e1]; exact w)
      · refine lv_aload_n C.1 C.2.1 dX1_cornerAbove_40 rfl (lv_at hl 0 rfl) ?_
        refine lv_iload_n C.1 C.2.1 dX1_cornerAbove_41 rfl (lv_at hl 1 rfl) ?_
        refine lv_iconst (v := nI 1) C.1 C.2.1 dX1_cornerAbove_42 (by decide) ?_
        refine z_iadd C dX1_cornerAbove_43 ?_
        refine lv_iload_n C.1 C.2.1 dX1_cornerAbove_44 rfl (lv_at hl 2 rfl) ?_
        refine z_callv (As := [.int (nI (u + 1)), .int (nI v)]) C (m_unite l G h0 r d σ (u + 1) v (by omega) (by omega) hF) (cwV 2 C.2.2.2.2 (lw_V q131 q133 qs4 q27 q134) rfl rfl rfl (by decide +kernel) ⟨Nat.le_of_ble_eq_true rfl, Nat.le_of_ble_eq_true rfl⟩) w (cl_rc w) rfl hl.1 rfl (Nat.le_of_ble_eq_true rfl) dX1_cornerAbove_45 ⟨Nat.le_refl _, Nat.le_refl _⟩ (fun s1 H locs hp w => ?_)
        have hσ := hp
        rw [hσ] at w
        have e1 : cr1 y u v σ = uniteF σ (u + 1) v := by unfold cr1; split <;> first | rfl | omega
        exact K H locs (by rw [e1]; exact w)
def rch (s : Nat → Nat → Nat) (u : Nat) : Nat := if s 7 u ≠ 0 then 1 else 0
def ta1 (u v : Nat) (s : Nat → Nat → Nat) : Nat → Nat → Nat := if s 7 u = s 7 v ∧ s 5 u ≤ s 6 v + rch s u ∧ s 5 v ≤ s 6 u + rch s u then uniteF s u v else s
def ta2 (y u v : Nat) (s : Nat → Nat → Nat) : Nat → Nat → Nat := if s 7 u ≠ s 7 v then crF y u v s else s
def taS (y u v : Nat) (s : Nat → Nat → Nat) : Nat → Nat → Nat := ta2 y u v (ta1 u v s)
theorem ta1_row (u v : Nat) (s : Nat → Nat → Nat) {k' : Nat} (h : k' ≠ 8) : ta1 u v s k' = s k' := by
  unfold ta1
  split
  · exact uniteF_row _ _ _ h
  · rfl
theorem ta2_row (y u v : Nat) (s : Nat → Nat → Nat) {k' : Nat} (h : k' ≠ 8) : ta2 y u v s k' = s k' := by
  unfold ta2
  split
  · exact crF_row _ _ _ _ h
  · rfl
theorem ta1_fo {s : Nat → Nat → Nat} (hF : ∀ i, s 8 i ≤ i) (u v : Nat) : ∀ i, ta1 u v s 8 i ≤ i := by
  unfold ta1
  split
  · exact uniteF_fo hF _ _
  · exact hF
theorem ta2_fo {s : Nat → Nat → Nat} (hF : ∀ i, s 8 i ≤ i) (y u v : Nat) : ∀ i, ta2 y u v s 8 i ≤ i := by
  unfold ta2
  split
  · exact crF_fo hF _ _ _
  · exact hF
theorem taS_row (y u v : Nat) (s : Nat → Nat → Nat) {k' : Nat} (h : k' ≠ 8) : taS y u v s k' = s k' := by
  unfold taS
  rw [ta2_row y u v _ h, ta1_row u v _ h]
theorem taS_fo {s : Nat → Nat → Nat} (hF : ∀ i, s 8 i ≤ i) (y u v : Nat) : ∀ i, taS y u v s 8 i ≤ i := ta2_fo (ta1_fo hF u v) y u v
def taF (y : Nat) : Nat → Nat → Nat → (Nat → Nat → Nat) → Nat → Nat → Nat
  | 0, _, _, s => s
  | n + 1, u, v, s => if u < s 9 y ∧ v < s 9 (y + 1) then (if s 6 u < s 6 v then taF y n (u + 1) v (taS y u v s) else taF y n u (v + 1) (taS y u v s)) else s
def taA (y : Nat) (s : Nat → Nat → Nat) : Nat → Nat → Nat := taF y (s 9 y + s 9 (y + 1)) (s 9 (y - 1)) (s 9 y) s
section
variable {p : Program} {l : Launch} {e : Env} {R : Room} {s : State} {m : MethodId} {args : Array Value} {below : List Frame} {meth : Method} {c : Code} {H : Heap} {locs : List Loc} {Q : State → Prop}
variable {G : va_G} {A : Nat → Prop} {H0 : Heap} {σ : Nat → Nat → Nat} {h0 : Nat} {r : Nat → Nat} {d : Nat → ClassId}
theorem ta_loop {y : Nat} (C : zC p m c cX1_touchAbove 5 s args RX1) (hy : y < 12) : ∀ n u v σ H locs, clW G h0 r d A s H0 H locs σ → (∀ i, σ 8 i ≤ i) → σ 9 y + σ 9 (y + 1) ≤ u + v + n → u ≤ σ 9 y → v ≤ σ 9 (y + 1) → σ 9 y ≤ 145 → σ 9 (y + 1) ≤ 145 → ∀ ls, lv_has ls 5 [(2, .int (nI u)), (3, .int (nI v)), (0, .ref h0), (1, .int (nI y))] → (∀ H locs ls, clW G h0 r d A s H0 H locs (taF y n u v σ) → W p l e (rmF 3 69) s m args below meth c H locs 0 0 Q (F0 m 160 ls [])) → W p l e (rmF 3 69) s m args below meth c H locs 0 0 Q (F0 m 16 ls []) := by
  intro n
  induction n with
  | zero =>
    intro u v σ H locs w hF hn hu hv h1 h2 ls hl K
    have b9 := w.2.2.2.2.2 9 (y + 1)
    have b8 := w.2.2.2.2.2 9 y
    refine lv_iload_n C.1 C.2.1 dX1_touchAbove_16 rfl (lv_at hl 0 rfl) ?_
    refine lv_aload_n C.1 C.2.1 dX1_touchAbove_17 rfl (lv_at hl 2 rfl) ?_
    refine cl_g9 C w dX1_touchAbove_18 ?_
    refine lv_iload_n C.1 C.2.1 dX1_touchAbove_21 rfl (lv_at hl 3 rfl) ?_
    refine cl_l9 C w (by omega) dX1_touchAbove_22 ?_
    refine z_cmp_ge (tgt := 160) C dX1_touchAbove_23 (by decide) (by omega) (by omega) (fun c_23 => ?_) (fun c_23 => ?_)
    · exact K H locs ls w
    · exact absurd c_23 (by omega)
  | succ n ih =>
    intro u v σ H locs w hF hn hu hv h1 h2 ls hl K
    have b9 := w.2.2.2.2.2 9 (y + 1)
    have b8 := w.2.2.2.2.2 9 y
    have b7 := w.2.2.2.2.2 7 u
    have b7v := w.2.2.2.2.2 7 v
    have b5u := w.2.2.2.2.2 5 u
    have b5v := w.2.2.2.2.2 5 v
    have b6u := w.2.2.2.2.2 6 u
    have b6v := w.2.2.2.2.2 6 v
    by_cases hin : u < σ 9 y ∧ v < σ 9 (y + 1)
    · have e0 : taF y (n + 1) u v σ = if σ 6 u < σ 6 v then taF y n (u + 1) v (taS y u v σ) else taF y n u (v + 1) (taS y u v σ) := if_pos hin
      rw [e0] at K
      have K3 : ∀ q H locs ls, clW G h0 r d A s H0 H locs (taS y u v σ) → lv_has ls 5 [(4, .int (nI q)), (2, .int (nI u)), (3, .int (nI v)), (0, .ref h0), (1, .int (nI y))] → W p l e (rmF 3 69) s m args below meth c H locs 0 0 Q (F0 m 133 ls []) := by
        intro q H locs ls w hl
        have hF1 := taS_fo hF y u v
        have e6 := taS_row y u v σ (k' := 6) (by decide)
        have e9 := taS_row y u v σ (k' := 9) (by decide)
        generalize taS y u v σ = τ at w hF1 e6 e9 K
        have e6u : τ 6 u = σ 6 u := by rw [e6]
        have e6v : τ 6 v = σ 6 v := by rw [e6]
        have e9a : τ 9 y = σ 9 y := by rw [e9]
        have e9b : τ 9 (y + 1) = σ 9 (y + 1) := by rw [e9]
        refine lv_aload_n C.1 C.2.1 dX1_touchAbove_133 rfl (lv_at hl 3 rfl) ?_
        refine cl_g6 C w dX1_touchAbove_134 ?_
        refine lv_iload_n C.1 C.2.1 dX1_touchAbove_137 rfl (lv_at hl 1 rfl) ?_
        refine cl_l6 C w (by omega) dX1_touchAbove_138 ?_
        refine lv_aload_n C.1 C.2.1 dX1_touchAbove_139 rfl (lv_at hl 3 rfl) ?_
        refine cl_g6 C w dX1_touchAbove_140 ?_
        refine lv_iload_n C.1 C.2.1 dX1_touchAbove_143 rfl (lv_at hl 2 rfl) ?_
        refine cl_l6 C w (by omega) dX1_touchAbove_144 ?_
        refine z_cmp_ge (tgt := 154) C dX1_touchAbove_145 (by decide) (by omega) (by omega) (fun c_145 => ?_) (fun c_145 => ?_)
        · refine lv_iinc (lv' := [(3, .int (nI (v + 1))), (4, .int (nI q)), (2, .int (nI u)), (0, .ref h0), (1, .int (nI y))]) C.1 C.2.1 dX1_touchAbove_154 hl (k := 2) rfl (nI_add _ _) (by decide) rfl (fun ls hl => ?_)
          refine lv_goto (tgt := 16) C.1 C.2.1 dX1_touchAbove_157 (by decide) ?_
          rw [if_neg (by omega)] at K
          exact ih u (v + 1) τ H locs w hF1 (by omega) (by omega) (by omega) (by omega) (by omega) ls (lv_sub hl [2, 0, 3, 4] rfl) K
        · refine lv_iinc (lv' := [(2, .int (nI (u + 1))), (4, .int (nI q)), (3, .int (nI v)), (0, .ref h0), (1, .int (nI y))]) C.1 C.2.1 dX1_touchAbove_148 hl (k := 1) rfl (nI_add _ _) (by decide) rfl (fun ls hl => ?_)
          refine lv_goto (tgt := 157) C.1 C.2.1 dX1_touchAbove_151 (by decide) ?_
          refine lv_goto (tgt := 16) C.1 C.2.1 dX1_touchAbove_157 (by decide) ?_
          rw [if_pos (by omega)] at K
          exact ih (u + 1) v τ H locs w hF1 (by omega) (by omega) (by omega) (by omega) (by omega) ls (lv_sub hl [0, 2, 3, 4] rfl) K
      have K2 : ∀ q H locs ls, clW G h0 r d A s H0 H locs (ta1 u v σ) → lv_has ls 5 [(4, .int (nI q)), (2, .int (nI u)), (3, .int (nI v)), (0, .ref h0), (1, .int (nI y))] → W p l e (rmF 3 69) s m args below meth c H locs 0 0 Q (F0 m 111 ls []) := by
        intro q H locs ls w hl
        have hF1 := ta1_fo hF u v
        have e7 := ta1_row u v σ (k' := 7) (by decide)
        have e9 := ta1_row u v σ (k' := 9) (by decide)
        have K3' : ∀ H locs ls, clW G h0 r d A s H0 H locs (ta2 y u v (ta1 u v σ)) → lv_has ls 5 [(4, .int (nI q)), (2, .int (nI u)), (3, .int (nI v)), (0, .ref h0), (1, .int (nI y))] → W p l e (rmF 3 69) s m args below meth c H locs 0 0 Q (F0 m 133 ls []) := K3 q
        generalize ta1 u v σ = τ at w hF1 e7 e9 K3'
        have e7u : τ 7 u = σ 7 u := by rw [e7]
        have e7v : τ 7 v = σ 7 v := by rw [e7]
        have e9a : τ 9 y = σ 9 y := by rw [e9]
        have e9b : τ 9 (y + 1) = σ 9 (y + 1) := by rw [e9]
        refine lv_aload_n C.1 C.2.1 dX1_touchAbove_111 rfl (lv_at hl 3 rfl) ?_
        refine cl_g7 C w dX1_touchAbove_112 ?_
        refine lv_iload_n C.1 C.2.1 dX1_touchAbove_115 rfl (lv_at hl 1 rfl) ?_
        refine cl_l7 C w (by omega) dX1_touchAbove_116 ?_
        refine lv_aload_n C.1 C.2.1 dX1_touchAbove_117 rfl (lv_at hl 3 rfl) ?_
        refine cl_g7 C w dX1_touchAbove_118 ?_
        refine lv_iload_n C.1 C.2.1 dX1_touchAbove_121 rfl (lv_at hl 2 rfl) ?_
        refine cl_l7 C w (by omega) dX1_touchAbove_122 ?_
        refine z_cmp_eq (tgt := 133) C dX1_touchAbove_123 (by decide) (by omega) (by omega) (fun c_123 => ?_) (fun c_123 => ?_)
        · have e1 : ta2 y u v τ = τ := by unfold ta2; split <;> first | rfl | omega
          exact K3' H locs ls (by rw [e1]; exact w) hl
        · refine lv_aload_n C.1 C.2.1 dX1_touchAbove_126 rfl (lv_at hl 3 rfl) ?_
          refine lv_iload_n C.1 C.2.1 dX1_touchAbove_127 rfl (lv_at hl 1 rfl) ?_
          refine lv_iload_n C.1 C.2.1 dX1_touchAbove_128 rfl (lv_at hl 2 rfl) ?_
          refine lv_iload_n C.1 C.2.1 dX1_touchAbove_129 rfl (lv_at hl 4 rfl) ?_
          refine z_callv (As := [.int (nI u), .int (nI v), .int (nI y)]) C (m_cornerAbove l G h0 r d τ u v y (by omega) (by omega) hy hF1 (by omega) (by omega)) (cwV 3 C.2.2.2.2 (lw_V q143 q145 qs7 q27 q146) rfl rfl rfl (by decide +kernel) ⟨Nat.le_of_ble_eq_true rfl, Nat.le_of_ble_eq_true rfl⟩) w (cl_rc w) rfl hl.1 rfl (Nat.le_of_ble_eq_true rfl) dX1_touchAbove_130 ⟨Nat.le_refl _, Nat.le_refl _⟩ (fun s1 H locs hp w => ?_)
          have hσ := hp
          rw [hσ] at w
          have e1 : ta2 y u v τ = crF y u v τ := by unfold ta2; split <;> first | rfl | omega
          exact K3' H locs ls (by rw [e1]; exact w) hl
      have K1 : ∀ q ls, q = rch σ u → lv_has ls 5 [(4, .int (nI q)), (2, .int (nI u)), (3, .int (nI v)), (0, .ref h0), (1, .int (nI y))] → W p l e (rmF 3 69) s m args below meth c H locs 0 0 Q (F0 m 54 ls []) := by
        intro q ls hq hl
        have hq2 : q < 2 := by rw [hq]; unfold rch; split <;> decide
        refine lv_aload_n C.1 C.2.1 dX1_touchAbove_54 rfl (lv_at hl 3 rfl) ?_
        refine cl_g7 C w dX1_touchAbove_55 ?_
        refine lv_iload_n C.1 C.2.1 dX1_touchAbove_58 rfl (lv_at hl 1 rfl) ?_
        refine cl_l7 C w (by omega) dX1_touchAbove_59 ?_
        refine lv_aload_n C.1 C.2.1 dX1_touchAbove_60 rfl (lv_at hl 3 rfl) ?_
        refine cl_g7 C w dX1_touchAbove_61 ?_
        refine lv_iload_n C.1 C.2.1 dX1_touchAbove_64 rfl (lv_at hl 2 rfl) ?_
        refine cl_l7 C w (by omega) dX1_touchAbove_65 ?_
        refine z_cmp_ne (tgt := 111) C dX1_touchAbove_66 (by decide) (by omega) (by omega) (fun c_66 => ?_) (fun c_66 => ?_)
        · have e1 : ta1 u v σ = σ := by unfold ta1; rw [← hq]; split <;> first | rfl | omega
          exact K2 q H locs ls (by rw [e1]; exact w) hl
        · refine lv_aload_n C.1 C.2.1 dX1_touchAbove_69 rfl (lv_at hl 3 rfl) ?_
          refine cl_g5 C w dX1_touchAbove_70 ?_
          refine lv_iload_n C.1 C.2.1 dX1_touchAbove_73 rfl (lv_at hl 1 rfl) ?_
          refine cl_l5 C w (by omega) dX1_touchAbove_74 ?_
          refine lv_aload_n C.1 C.2.1 dX1_touchAbove_75 rfl (lv_at hl 3 rfl) ?_
          refine cl_g6 C w dX1_touchAbove_76 ?_
          refine lv_iload_n C.1 C.2.1 dX1_touchAbove_79 rfl (lv_at hl 2 rfl) ?_
          refine cl_l6 C w (by omega) dX1_touchAbove_80 ?_
          refine lv_iload C.1 C.2.1 dX1_touchAbove_81 (lv_at hl 0 rfl) ?_
          refine z_iadd C dX1_touchAbove_83 ?_
          refine z_cmp_gt (tgt := 111) C dX1_touchAbove_84 (by decide) (by omega) (by omega) (fun c_84 => ?_) (fun c_84 => ?_)
          · have e1 : ta1 u v σ = σ := by unfold ta1; rw [← hq]; split <;> first | rfl | omega
            exact K2 q H locs ls (by rw [e1]; exact w) hl
          · refine lv_aload_n C.1 C.2.1 dX1_touchAbove_87 rfl (lv_at hl 3 rfl) ?_
            refine cl_g5 C w dX1_touchAbove_88 ?_
            refine lv_iload_n C.1 C.2.1 dX1_touchAbove_91 rfl (lv_at hl 2 rfl) ?_
            refine cl_l5 C w (by omega) dX1_touchAbove_92 ?_
            refine lv_aload_n C.1 C.2.1 dX1_touchAbove_93 rfl (lv_at hl 3 rfl) ?_
            refine cl_g6 C w dX1_touchAbove_94 ?_
            refine lv_iload_n C.1 C.2.1 dX1_touchAbove_97 rfl (lv_at hl 1 rfl) ?_
            refine cl_l6 C w (by omega) dX1_touchAbove_98 ?_
            refine lv_iload C.1 C.2.1 dX1_touchAbove_99 (lv_at hl 0 rfl) ?_
            refine z_iadd C dX1_touchAbove_101 ?_
            refine z_cmp_gt (tgt := 111) C dX1_touchAbove_102 (by decide) (by omega) (by omega) (fun c_102 => ?_) (fun c_102 => ?_)
            · have e1 : ta1 u v σ = σ := by unfold ta1; rw [← hq]; split <;> first | rfl | omega
              exact K2 q H locs ls (by rw [e1]; exact w) hl
            · refine lv_aload_n C.1 C.2.1 dX1_touchAbove_105 rfl (lv_at hl 3 rfl) ?_
              refine lv_iload_n C.1 C.2.1 dX1_touchAbove_106 rfl (lv_at hl 1 rfl) ?_
              refine lv_iload_n C.1 C.2.1 dX1_touchAbove_107 rfl (lv_at hl 2 rfl) ?_
              refine z_callv (As := [.int (nI u), .int (nI v)]) C (m_unite l G h0 r d σ u v (by omega) (by omega) hF) (cwV 2 C.2.2.2.2 (lw_V q131 q133 qs4 q27 q134) rfl rfl rfl (by decide +kernel) ⟨Nat.le_of_ble_eq_true rfl, Nat.le_of_ble_eq_true rfl⟩) w (cl_rc w) rfl hl.1 rfl (Nat.le_of_ble_eq_true rfl) dX1_touchAbove_108 ⟨Nat.le_refl _, Nat.le_refl _⟩ (fun s1 H locs hp w => ?_)
              have hσ := hp
              rw [hσ] at w
              have e1 : ta1 u v σ = uniteF σ u v := by unfold ta1; rw [← hq]; split <;> first | rfl | omega
              exact K2 q H locs ls (by rw [e1]; exact w) hl
      refine lv_iload_n C.1 C.2.1 dX1_touchAbove_16 rfl (lv_at hl 0 rfl) ?_
      refine lv_aload_n C.1 C.2.1 dX1_touchAbove_17 rfl (lv_at hl 2 rfl) ?_
      refine cl_g9 C w dX1_touchAbove_18 ?_
      refine lv_iload_n C.1 C.2.1 dX1_touchAbove_21 rfl (lv_at hl 3 rfl) ?_
      refine cl_l9 C w (by omega) dX1_touchAbove_22 ?_
      refine z_cmp_ge (tgt := 160) C dX1_touchAbove_23 (by decide) (by omega) (by omega) (fun c_23 => ?_) (fun c_23 => ?_)
      · omega
      · refine lv_iload_n C.1 C.2.1 dX1_touchAbove_26 rfl (lv_at hl 1 rfl) ?_
        refine lv_aload_n C.1 C.2.1 dX1_touchAbove_27 rfl (lv_at hl 2 rfl) ?_
        refine cl_g9 C w dX1_touchAbove_28 ?_
        refine lv_iload_n C.1 C.2.1 dX1_touchAbove_31 rfl (lv_at hl 3 rfl) ?_
        refine lv_iconst (v := nI 1) C.1 C.2.1 dX1_touchAbove_32 (by decide) ?_
        refine z_iadd C dX1_touchAbove_33 ?_
        refine cl_l9 C w (by omega) dX1_touchAbove_34 ?_
        refine z_cmp_ge (tgt := 160) C dX1_touchAbove_35 (by decide) (by omega) (by omega) (fun c_35 => ?_) (fun c_35 => ?_)
        · omega
        · refine lv_aload_n C.1 C.2.1 dX1_touchAbove_38 rfl (lv_at hl 2 rfl) ?_
          refine cl_g7 C w dX1_touchAbove_39 ?_
          refine lv_iload_n C.1 C.2.1 dX1_touchAbove_42 rfl (lv_at hl 0 rfl) ?_
          refine cl_l7 C w (by omega) dX1_touchAbove_43 ?_
          refine z_if_eq (tgt := 51) C dX1_touchAbove_44 (by decide) (by omega) (fun c_44 => ?_) (fun c_44 => ?_)
          · refine lv_iconst (v := nI 0) C.1 C.2.1 dX1_touchAbove_51 (by decide) ?_
            refine lv_istore (lv' := [(4, .int (nI 0)), (2, .int (nI u)), (3, .int (nI v)), (0, .ref h0), (1, .int (nI y))]) C.1 C.2.1 dX1_touchAbove_52 hl (by decide) rfl (fun ls hl => ?_)
            exact K1 0 ls (by unfold rch; split <;> first | rfl | omega) hl
          · refine lv_iconst (v := nI 1) C.1 C.2.1 dX1_touchAbove_47 (by decide) ?_
            refine lv_goto (tgt := 52) C.1 C.2.1 dX1_touchAbove_48 (by decide) ?_
            refine lv_istore (lv' := [(4, .int (nI 1)), (2, .int (nI u)), (3, .int (nI v)), (0, .ref h0), (1, .int (nI y))]) C.1 C.2.1 dX1_touchAbove_52 hl (by decide) rfl (fun ls hl => ?_)
            exact K1 1 ls (by unfold rch; split <;> first | rfl | omega) hl
    · have e0 : taF y (n + 1) u v σ = σ := if_neg hin
      rw [e0] at K
      refine lv_iload_n C.1 C.2.1 dX1_touchAbove_16 rfl (lv_at hl 0 rfl) ?_
      refine lv_aload_n C.1 C.2.1 dX1_touchAbove_17 rfl (lv_at hl 2 rfl) ?_
      refine cl_g9 C w dX1_touchAbove_18 ?_
      refine lv_iload_n C.1 C.2.1 dX1_touchAbove_21 rfl (lv_at hl 3 rfl) ?_
      refine cl_l9 C w (by omega) dX1_touchAbove_22 ?_
      refine z_cmp_ge (tgt := 160) C dX1_touchAbove_23 (by decide) (by omega) (by omega) (fun c_23 => ?_) (fun c_23 => ?_)
      · exact K H locs ls w
      · refine lv_iload_n C.1 C.2.1 dX1_touchAbove_26 rfl (lv_at hl 1 rfl) ?_
        refine lv_aload_n C.1 C.2.1 dX1_touchAbove_27 rfl (lv_at hl 2 rfl) ?_
        refine cl_g9 C w dX1_touchAbove_28 ?_
        refine lv_iload_n C.1 C.2.1 dX1_touchAbove_31 rfl (lv_at hl 3 rfl) ?_
        refine lv_iconst (v := nI 1) C.1 C.2.1 dX1_touchAbove_32 (by decide) ?_
        refine z_iadd C dX1_touchAbove_33 ?_
        refine cl_l9 C w (by omega) dX1_touchAbove_34 ?_
        refine z_cmp_ge (tgt := 160) C dX1_touchAbove_35 (by decide) (by omega) (by omega) (fun c_35 => ?_) (fun c_35 => ?_)
        · exact K H locs ls w
        · exact absurd ⟨c_23, c_35⟩ hin
end
theorem m_touchAbove (l : Launch) (G : va_G) (h0 : Nat) (r : Nat → Nat) (d : Nat → ClassId) (σ : Nat → Nat → Nat) (y : Nat) (hy0 : 0 < y) (hy : y < 12) (hF : ∀ i, σ 8 i ≤ i) (h0a : σ 9 (y - 1) ≤ σ 9 y) (h0b : σ 9 y ≤ σ 9 (y + 1)) (h2 : σ 9 (y + 1) ≤ 145) : zMv l yX1_touchAbove cX1_touchAbove 5 none (rmF 3 69) G (clT d) (clC h0 r d) [.ref h0, .int (nI y)] σ (fun σ' => σ' = taA y σ) := by
  refine zMv_of (own := RX1) (by decide) rfl (Nat.le_of_ble_eq_true rfl) ?_
  intro p e s m args below meth c A ls C hr hlk w hl
  have hl : lv_has ls 5 [(0, .ref h0), (1, .int (nI y))] := hl
  have hbd := w.2.2.2.2.2
  refine lv_aload_n C.1 C.2.1 dX1_touchAbove_0 rfl (lv_at hl 0 rfl) ?_
  refine cl_g9 C w dX1_touchAbove_1 ?_
  refine lv_iload_n C.1 C.2.1 dX1_touchAbove_4 rfl (lv_at hl 1 rfl) ?_
  refine lv_iconst (v := nI 1) C.1 C.2.1 dX1_touchAbove_5 (by decide) ?_
  refine z_isub C (by omega) dX1_touchAbove_6 ?_
  refine cl_l9 C w (by omega) dX1_touchAbove_7 ?_
  refine lv_istore_n (lv' := [(2, .int (nI (σ 9 (y - 1)))), (0, .ref h0), (1, .int (nI y))]) C.1 C.2.1 dX1_touchAbove_8 rfl hl (by decide) rfl (fun ls hl => ?_)
  refine lv_aload_n C.1 C.2.1 dX1_touchAbove_9 rfl (lv_at hl 1 rfl) ?_
  refine cl_g9 C w dX1_touchAbove_10 ?_
  refine lv_iload_n C.1 C.2.1 dX1_touchAbove_13 rfl (lv_at hl 2 rfl) ?_
  refine cl_l9 C w (by omega) dX1_touchAbove_14 ?_
  refine lv_istore_n (lv' := [(3, .int (nI (σ 9 y))), (2, .int (nI (σ 9 (y - 1)))), (0, .ref h0), (1, .int (nI y))]) C.1 C.2.1 dX1_touchAbove_15 rfl hl (by decide) rfl (fun ls hl => ?_)
  refine ta_loop C hy (σ 9 y + σ 9 (y + 1)) (σ 9 (y - 1)) (σ 9 y) σ _ _ w hF (by omega) (by omega) (by omega) (by omega) (by omega) ls (lv_sub hl [1, 0, 2, 3] rfl) (fun H locs ls w => ?_)
  exact z_vret C hr hlk w rfl dX1_touchAbove_160
