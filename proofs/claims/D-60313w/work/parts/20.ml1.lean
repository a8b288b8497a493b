set_option maxRecDepth 100000
/-! ===== CompLabelModel: small methods ===== -/
theorem m_inside (l : Launch) (G : va_G) (h0 : Nat) (r : Nat → Nat) (d : Nat → ClassId) (σ : Nat → Nat → Nat) (X Y : Int32)  : zMi l yX2_inside cX2_inside 3 (some .boolean) (rmF 0 0) G (mlT d) (mlC h0 r d) [.ref h0, .int X, .int Y] σ (fun v σ' => v = nI (if inP (σ 0 0) (σ 1 0) X Y then 1 else 0) ∧ σ' = σ) := by
  refine zMi_of (own := RX2) (by decide) rfl (Nat.le_of_ble_eq_true rfl) ?_
  intro p e s m args below meth c A ls C hr hlk w hl
  have hl : lv_has ls 3 [(0, .ref h0), (1, .int X), (2, .int Y)] := hl
  have hbd := w.2.2.2.2.2
  refine lv_iload_n C.1 C.2.1 dX2_inside_0 rfl (lv_at hl 1 rfl) ?_
  refine lv_if_lt (tgt := 28) C.1 C.2.1 dX2_inside_1 (by decide) (fun c_1 => ?_) (fun c_1 => ?_)
  · refine lv_iconst (v := nI 0) C.1 C.2.1 dX2_inside_28 (by decide) ?_
    exact z_zret C hr hlk w (by decide) ⟨by rw [if_neg (fun q => q.1 c_1)], rfl⟩ dX2_inside_29
  · refine lv_iload_n C.1 C.2.1 dX2_inside_4 rfl (lv_at hl 1 rfl) ?_
    refine lv_aload_n C.1 C.2.1 dX2_inside_5 rfl (lv_at hl 0 rfl) ?_
    refine ml_g0 C w dX2_inside_6 ?_
    refine lv_icmp_ge (tgt := 28) C.1 C.2.1 dX2_inside_9 (by decide) (fun c_9 => ?_) (fun c_9 => ?_)
    · refine lv_iconst (v := nI 0) C.1 C.2.1 dX2_inside_28 (by decide) ?_
      exact z_zret C hr hlk w (by decide) ⟨by rw [if_neg (fun q => q.2.1 c_9)], rfl⟩ dX2_inside_29
    · refine lv_iload_n C.1 C.2.1 dX2_inside_12 rfl (lv_at hl 2 rfl) ?_
      refine lv_if_lt (tgt := 28) C.1 C.2.1 dX2_inside_13 (by decide) (fun c_13 => ?_) (fun c_13 => ?_)
      · refine lv_iconst (v := nI 0) C.1 C.2.1 dX2_inside_28 (by decide) ?_
        exact z_zret C hr hlk w (by decide) ⟨by rw [if_neg (fun q => q.2.2.1 c_13)], rfl⟩ dX2_inside_29
      · refine lv_iload_n C.1 C.2.1 dX2_inside_16 rfl (lv_at hl 2 rfl) ?_
        refine lv_aload_n C.1 C.2.1 dX2_inside_17 rfl (lv_at hl 0 rfl) ?_
        refine ml_g1 C w dX2_inside_18 ?_
        refine lv_icmp_ge (tgt := 28) C.1 C.2.1 dX2_inside_21 (by decide) (fun c_21 => ?_) (fun c_21 => ?_)
        · refine lv_iconst (v := nI 0) C.1 C.2.1 dX2_inside_28 (by decide) ?_
          exact z_zret C hr hlk w (by decide) ⟨by rw [if_neg (fun q => q.2.2.2 c_21)], rfl⟩ dX2_inside_29
        · refine lv_iconst (v := nI 1) C.1 C.2.1 dX2_inside_24 (by decide) ?_
          refine lv_goto (tgt := 29) C.1 C.2.1 dX2_inside_25 (by decide) ?_
          exact z_zret C hr hlk w (by decide) ⟨by rw [if_pos ⟨c_1, c_9, c_13, c_21⟩], rfl⟩ dX2_inside_29
theorem m_place (l : Launch) (G : va_G) (h0 : Nat) (r : Nat → Nat) (d : Nat → ClassId) (σ : Nat → Nat → Nat) (x y : Nat)  : zMi l yX2_place cX2_place 3 (some .int) (rmF 0 0) G (mlT d) (mlC h0 r d) [.ref h0, .int (nI x), .int (nI y)] σ (fun v σ' => v = nI (14 * (y + 1) + x + 1) ∧ σ' = σ) := by
  refine zMi_of (own := RX2) (by decide) rfl (Nat.le_of_ble_eq_true rfl) ?_
  intro p e s m args below meth c A ls C hr hlk w hl
  have hl : lv_has ls 3 [(0, .ref h0), (1, .int (nI x)), (2, .int (nI y))] := hl
  have hbd := w.2.2.2.2.2
  refine lv_bipush (v := nI 14) C.1 C.2.1 dX2_place_0 (by decide) ?_
  refine lv_iload_n C.1 C.2.1 dX2_place_2 rfl (lv_at hl 2 rfl) ?_
  refine lv_iconst (v := nI 1) C.1 C.2.1 dX2_place_3 (by decide) ?_
  refine z_iadd C dX2_place_4 ?_
  refine z_imul C dX2_place_5 ?_
  refine lv_iload_n C.1 C.2.1 dX2_place_6 rfl (lv_at hl 1 rfl) ?_
  refine z_iadd C dX2_place_7 ?_
  refine lv_iconst (v := nI 1) C.1 C.2.1 dX2_place_8 (by decide) ?_
  refine z_iadd C dX2_place_9 ?_
  exact z_iret C hr hlk w ⟨rfl, rfl⟩ dX2_place_10
theorem m_besideWay (l : Launch) (G : va_G) (h0 : Nat) (r : Nat → Nat) (d : Nat → ClassId) (σ : Nat → Nat → Nat) (k : Nat) (hk : k < 9) : zMi l yX2_besideWay cX2_besideWay 2 (some .boolean) (rmF 0 0) G (mlT d) (mlC h0 r d) [.ref h0, .int (nI k)] σ (fun v σ' => v = nI (if k % 2 = 1 then 1 else 0) ∧ σ' = σ) := by
  refine zMi_of (own := RX2) (by decide) rfl (Nat.le_of_ble_eq_true rfl) ?_
  intro p e s m args below meth c A ls C hr hlk w hl
  have hl : lv_has ls 2 [(0, .ref h0), (1, .int (nI k))] := hl
  have hbd := w.2.2.2.2.2
  refine lv_iload_n C.1 C.2.1 dX2_besideWay_0 rfl (lv_at hl 1 rfl) ?_
  refine lv_iconst (v := nI 2) C.1 C.2.1 dX2_besideWay_1 (by decide) ?_
  refine z_irem C (by omega) (by decide) (by decide) dX2_besideWay_2 ?_
  refine lv_iconst (v := nI 1) C.1 C.2.1 dX2_besideWay_3 (by decide) ?_
  refine z_cmp_ne (tgt := 11) C dX2_besideWay_4 (by decide) (by omega) (by omega) (fun c_4 => ?_) (fun c_4 => ?_)
  · refine lv_iconst (v := nI 0) C.1 C.2.1 dX2_besideWay_11 (by decide) ?_
    exact z_zret C hr hlk w (by decide) ⟨by rw [if_neg c_4], rfl⟩ dX2_besideWay_12
  · refine lv_iconst (v := nI 1) C.1 C.2.1 dX2_besideWay_7 (by decide) ?_
    refine lv_goto (tgt := 12) C.1 C.2.1 dX2_besideWay_8 (by decide) ?_
    exact z_zret C hr hlk w (by decide) ⟨by rw [if_pos c_4], rfl⟩ dX2_besideWay_12
theorem z_m1 {a : Nat} (ha : a < 1000) : (nI a - nI 1 < 0 ↔ a = 0) ∧ (nI 13 < nI a - nI 1 ↔ 14 < a) := by
  rcases Nat.lt_or_ge 0 a with h | h
  · rw [pk_sub (show 1 ≤ a from h)]
    refine ⟨⟨fun q => absurd q (nI_pos (by omega)), fun q => by omega⟩, ⟨fun q => ?_, fun q => (nI_ltI (by decide) (by omega)).mpr (by omega)⟩⟩
    have := (nI_ltI (a := 13) (b := a - 1) (by decide) (by omega)).mp q
    omega
  · obtain rfl : a = 0 := by omega
    decide
theorem m_near (l : Launch) (G : va_G) (h0 : Nat) (r : Nat → Nat) (d : Nat → ClassId) (σ : Nat → Nat → Nat) (q k : Nat) (hq : q < 196) (hk : k < 9) : zMi l yX2_near cX2_near 5 (some .int) (rmF 0 0) G (mlT d) (mlC h0 r d) [.ref h0, .int (nI q), .int (nI k)] σ (fun v σ' => v = (if nr q k < 196 then nI (nr q k) else -1) ∧ σ' = σ) := by
  refine zMi_of (own := RX2) (by decide) rfl (Nat.le_of_ble_eq_true rfl) ?_
  intro p e s m args below meth c A ls C hr hlk w hl
  have hl : lv_has ls 5 [(0, .ref h0), (1, .int (nI q)), (2, .int (nI k))] := hl
  have hbd := w.2.2.2.2.2
  obtain ⟨m1, m2⟩ := z_m1 (a := q % 14 + k % 3) (by omega)
  obtain ⟨m3, m4⟩ := z_m1 (a := q / 14 + k / 3) (by omega)
  refine lv_iload_n C.1 C.2.1 dX2_near_0 rfl (lv_at hl 1 rfl) ?_
  refine lv_bipush (v := nI 14) C.1 C.2.1 dX2_near_1 (by decide) ?_
  refine z_irem C (by omega) (by decide) (by decide) dX2_near_3 ?_
  refine lv_iload_n C.1 C.2.1 dX2_near_4 rfl (lv_at hl 2 rfl) ?_
  refine lv_iconst (v := nI 3) C.1 C.2.1 dX2_near_5 (by decide) ?_
  refine z_irem C (by omega) (by decide) (by decide) dX2_near_6 ?_
  refine z_iadd C dX2_near_7 ?_
  refine lv_iconst (v := nI 1) C.1 C.2.1 dX2_near_8 (by decide) ?_
  refine lv_isub C.1 C.2.1 dX2_near_9 ?_
  refine lv_istore_n (lv' := [(3, .int (nI ((q % 14) + (k % 3)) - nI (1))), (0, .ref h0), (1, .int (nI q)), (2, .int (nI k))]) C.1 C.2.1 dX2_near_10 rfl hl (by decide) rfl (fun ls hl => ?_)
  refine lv_iload_n C.1 C.2.1 dX2_near_11 rfl (lv_at hl 2 rfl) ?_
  refine lv_bipush (v := nI 14) C.1 C.2.1 dX2_near_12 (by decide) ?_
  refine z_idiv C (by omega) (by decide) (by decide) dX2_near_14 ?_
  refine lv_iload_n C.1 C.2.1 dX2_near_15 rfl (lv_at hl 3 rfl) ?_
  refine lv_iconst (v := nI 3) C.1 C.2.1 dX2_near_16 (by decide) ?_
  refine z_idiv C (by omega) (by decide) (by decide) dX2_near_17 ?_
  refine z_iadd C dX2_near_18 ?_
  refine lv_iconst (v := nI 1) C.1 C.2.1 dX2_near_19 (by decide) ?_
  refine lv_isub C.1 C.2.1 dX2_near_20 ?_
  refine lv_istore (lv' := [(4, .int (nI ((q / 14) + (k / 3)) - nI (1))), (3, .int (nI ((q % 14) + (k % 3)) - nI (1))), (0, .ref h0), (1, .int (nI q)), (2, .int (nI k))]) C.1 C.2.1 dX2_near_21 hl (by decide) rfl (fun ls hl => ?_)
  refine lv_iload_n C.1 C.2.1 dX2_near_23 rfl (lv_at hl 1 rfl) ?_
  refine lv_if_lt (tgt := 45) C.1 C.2.1 dX2_near_24 (by decide) (fun c_24 => ?_) (fun c_24 => ?_)
  · refine lv_iconst (v := (-1)) C.1 C.2.1 dX2_near_45 (by decide) ?_
    refine lv_goto (tgt := 56) C.1 C.2.1 dX2_near_46 (by decide) ?_
    have e1 : nr q k = 196 := if_neg (fun z => by have := m1.mp c_24; omega)
    exact z_iret C hr hlk w ⟨by rw [e1]; rfl, rfl⟩ dX2_near_56
  · refine lv_iload_n C.1 C.2.1 dX2_near_27 rfl (lv_at hl 1 rfl) ?_
    refine lv_bipush (v := nI 13) C.1 C.2.1 dX2_near_28 (by decide) ?_
    refine lv_icmp_gt (tgt := 45) C.1 C.2.1 dX2_near_30 (by decide) (fun c_30 => ?_) (fun c_30 => ?_)
    · refine lv_iconst (v := (-1)) C.1 C.2.1 dX2_near_45 (by decide) ?_
      refine lv_goto (tgt := 56) C.1 C.2.1 dX2_near_46 (by decide) ?_
      have e1 : nr q k = 196 := if_neg (fun z => by have := m2.mp c_30; omega)
      exact z_iret C hr hlk w ⟨by rw [e1]; rfl, rfl⟩ dX2_near_56
    · refine lv_iload C.1 C.2.1 dX2_near_33 (lv_at hl 0 rfl) ?_
      refine lv_if_lt (tgt := 45) C.1 C.2.1 dX2_near_35 (by decide) (fun c_35 => ?_) (fun c_35 => ?_)
      · refine lv_iconst (v := (-1)) C.1 C.2.1 dX2_near_45 (by decide) ?_
        refine lv_goto (tgt := 56) C.1 C.2.1 dX2_near_46 (by decide) ?_
        have e1 : nr q k = 196 := if_neg (fun z => by have := m3.mp c_35; omega)
        exact z_iret C hr hlk w ⟨by rw [e1]; rfl, rfl⟩ dX2_near_56
      · refine lv_iload C.1 C.2.1 dX2_near_38 (lv_at hl 0 rfl) ?_
        refine lv_bipush (v := nI 13) C.1 C.2.1 dX2_near_40 (by decide) ?_
        refine lv_icmp_le (tgt := 49) C.1 C.2.1 dX2_near_42 (by decide) (fun c_42 => ?_) (fun c_42 => ?_)
        · have n1 : 1 ≤ q % 14 + k % 3 := by have := mt m1.mpr c_24; omega
          have n2 : q % 14 + k % 3 ≤ 14 := by have := mt m2.mpr c_30; omega
          have n3 : 1 ≤ q / 14 + k / 3 := by have := mt m3.mpr c_35; omega
          have n4 : q / 14 + k / 3 ≤ 14 := by have := mt m4.mpr (Int32.not_lt.mpr c_42); omega
          rw [pk_sub n1, pk_sub n3] at hl
          have e1 : nr q k = 14 * (q / 14 + k / 3 - 1) + (q % 14 + k % 3 - 1) := if_pos ⟨n1, n2, n3, n4⟩
          refine lv_bipush (v := nI 14) C.1 C.2.1 dX2_near_49 (by decide) ?_
          refine lv_iload C.1 C.2.1 dX2_near_51 (lv_at hl 0 rfl) ?_
          refine z_imul C dX2_near_53 ?_
          refine lv_iload_n C.1 C.2.1 dX2_near_54 rfl (lv_at hl 1 rfl) ?_
          refine z_iadd C dX2_near_55 ?_
          exact z_iret C hr hlk w ⟨by rw [e1, if_pos (by omega)], rfl⟩ dX2_near_56
        · refine lv_iconst (v := (-1)) C.1 C.2.1 dX2_near_45 (by decide) ?_
          refine lv_goto (tgt := 56) C.1 C.2.1 dX2_near_46 (by decide) ?_
          have e1 : nr q k = 196 := if_neg (fun z => by have := m4.mp (Int32.not_le.mp c_42); omega)
          exact z_iret C hr hlk w ⟨by rw [e1]; rfl, rfl⟩ dX2_near_56
theorem m_step (l : Launch) (G : va_G) (h0 : Nat) (r : Nat → Nat) (d : Nat → ClassId) (σ : Nat → Nat → Nat) (q1 q2 k : Nat) (h1 : q1 < 196) (h2 : q2 < 196) (hk : k < 9) : zMi l yX2_step cX2_step 4 (some .boolean) (rmF 1 22) G (mlT d) (mlC h0 r d) [.ref h0, .int (nI q1), .int (nI q2), .int (nI k)] σ (fun v σ' => v = nI (if stp (σ 2) q1 q2 k then 1 else 0) ∧ σ' = σ) := by
  refine zMi_of (own := RX2) (by decide) rfl (Nat.le_of_ble_eq_true rfl) ?_
  intro p e s m args below meth c A ls C hr hlk w hl
  have hl : lv_has ls 4 [(0, .ref h0), (1, .int (nI q1)), (2, .int (nI q2)), (3, .int (nI k))] := hl
  have hbd := w.2.2.2.2.2
  have b1 := hbd 2 q1
  have b2 := hbd 2 q2
  refine lv_aload_n C.1 C.2.1 dX2_step_0 rfl (lv_at hl 0 rfl) ?_
  refine ml_g2 C w dX2_step_1 ?_
  refine lv_iload_n C.1 C.2.1 dX2_step_4 rfl (lv_at hl 1 rfl) ?_
  refine ml_l2 C w (by omega) dX2_step_5 ?_
  refine lv_aload_n C.1 C.2.1 dX2_step_6 rfl (lv_at hl 0 rfl) ?_
  refine ml_g2 C w dX2_step_7 ?_
  refine lv_iload_n C.1 C.2.1 dX2_step_10 rfl (lv_at hl 2 rfl) ?_
  refine ml_l2 C w (by omega) dX2_step_11 ?_
  refine z_cmp_ne (tgt := 36) C dX2_step_12 (by decide) (by omega) (by omega) (fun c_12 => ?_) (fun c_12 => ?_)
  · refine lv_iconst (v := nI 0) C.1 C.2.1 dX2_step_36 (by decide) ?_
    exact z_zret C hr hlk w (by decide) ⟨by rw [if_neg (fun z => c_12 z.1)], rfl⟩ dX2_step_37
  · refine lv_aload_n C.1 C.2.1 dX2_step_15 rfl (lv_at hl 0 rfl) ?_
    refine ml_g2 C w dX2_step_16 ?_
    refine lv_iload_n C.1 C.2.1 dX2_step_19 rfl (lv_at hl 1 rfl) ?_
    refine ml_l2 C w (by omega) dX2_step_20 ?_
    refine z_if_ne (tgt := 32) C dX2_step_21 (by decide) (by omega) (fun c_21 => ?_) (fun c_21 => ?_)
    · refine lv_iconst (v := nI 1) C.1 C.2.1 dX2_step_32 (by decide) ?_
      refine lv_goto (tgt := 37) C.1 C.2.1 dX2_step_33 (by decide) ?_
      exact z_zret C hr hlk w (by decide) ⟨by rw [if_pos ⟨c_12, Or.inl c_21⟩], rfl⟩ dX2_step_37
    · refine lv_aload_n C.1 C.2.1 dX2_step_24 rfl (lv_at hl 0 rfl) ?_
      refine lv_iload_n C.1 C.2.1 dX2_step_25 rfl (lv_at hl 3 rfl) ?_
      refine z_calli (As := [.int (nI k)]) C (m_besideWay l G h0 r d σ k (by omega)) (cwV 1 C.2.2.2.2 (lw_V q255 q257 qs17 q28 q258) rfl rfl rfl (by decide +kernel) ⟨Nat.le_of_ble_eq_true rfl, Nat.le_of_ble_eq_true rfl⟩) w (ml_rc w) rfl hl.1 rfl (Nat.le_of_ble_eq_true rfl) dX2_step_26 ⟨Nat.le_refl _, Nat.le_refl _⟩ (fun v1 s1 H locs hp w => ?_)
      obtain ⟨hv, hσ⟩ := hp
      subst hv
      rw [hσ] at w
      refine z_if_eq (tgt := 36) C dX2_step_29 (by decide) z_ifB (fun c_29 => ?_) (fun c_29 => ?_)
      · refine lv_iconst (v := nI 0) C.1 C.2.1 dX2_step_36 (by decide) ?_
        exact z_zret C hr hlk w (by decide) ⟨by rw [if_neg (fun z => z.2.elim (fun y => y c_21) (z_ifN c_29))], rfl⟩ dX2_step_37
      · refine lv_iconst (v := nI 1) C.1 C.2.1 dX2_step_32 (by decide) ?_
        refine lv_goto (tgt := 37) C.1 C.2.1 dX2_step_33 (by decide) ?_
        exact z_zret C hr hlk w (by decide) ⟨by rw [if_pos ⟨c_12, Or.inr (z_ifP c_29)⟩], rfl⟩ dX2_step_37
theorem m_isFirst (l : Launch) (G : va_G) (h0 : Nat) (r : Nat → Nat) (d : Nat → ClassId) (σ : Nat → Nat → Nat) (q co : Nat) (h1 : q < 196) (h2 : co < 2) : zMi l yX2_isFirst cX2_isFirst 3 (some .boolean) (rmF 0 0) G (mlT d) (mlC h0 r d) [.ref h0, .int (nI q), .int (nI co)] σ (fun v σ' => v = nI (if σ 2 q = co ∧ σ 3 q = q then 1 else 0) ∧ σ' = σ) := by
  refine zMi_of (own := RX2) (by decide) rfl (Nat.le_of_ble_eq_true rfl) ?_
  intro p e s m args below meth c A ls C hr hlk w hl
  have hl : lv_has ls 3 [(0, .ref h0), (1, .int (nI q)), (2, .int (nI co))] := hl
  have hbd := w.2.2.2.2.2
  have b1 := hbd 2 q
  have b2 := hbd 3 q
  refine lv_aload_n C.1 C.2.1 dX2_isFirst_0 rfl (lv_at hl 0 rfl) ?_
  refine ml_g2 C w dX2_isFirst_1 ?_
  refine lv_iload_n C.1 C.2.1 dX2_isFirst_4 rfl (lv_at hl 1 rfl) ?_
  refine ml_l2 C w (by omega) dX2_isFirst_5 ?_
  refine lv_iload_n C.1 C.2.1 dX2_isFirst_6 rfl (lv_at hl 2 rfl) ?_
  refine z_cmp_ne (tgt := 24) C dX2_isFirst_7 (by decide) (by omega) (by omega) (fun c_7 => ?_) (fun c_7 => ?_)
  · refine lv_iconst (v := nI 0) C.1 C.2.1 dX2_isFirst_24 (by decide) ?_
    exact z_zret C hr hlk w (by decide) ⟨by rw [if_neg (fun z => c_7 z.1)], rfl⟩ dX2_isFirst_25
  · refine lv_aload_n C.1 C.2.1 dX2_isFirst_10 rfl (lv_at hl 0 rfl) ?_
    refine ml_g3 C w dX2_isFirst_11 ?_
    refine lv_iload_n C.1 C.2.1 dX2_isFirst_14 rfl (lv_at hl 1 rfl) ?_
    refine ml_l3 C w (by omega) dX2_isFirst_15 ?_
    refine lv_iload_n C.1 C.2.1 dX2_isFirst_16 rfl (lv_at hl 1 rfl) ?_
    refine z_cmp_ne (tgt := 24) C dX2_isFirst_17 (by decide) (by omega) (by omega) (fun c_17 => ?_) (fun c_17 => ?_)
    · refine lv_iconst (v := nI 0) C.1 C.2.1 dX2_isFirst_24 (by decide) ?_
      exact z_zret C hr hlk w (by decide) ⟨by rw [if_neg (fun z => c_17 z.2)], rfl⟩ dX2_isFirst_25
    · refine lv_iconst (v := nI 1) C.1 C.2.1 dX2_isFirst_20 (by decide) ?_
      refine lv_goto (tgt := 25) C.1 C.2.1 dX2_isFirst_21 (by decide) ?_
      exact z_zret C hr hlk w (by decide) ⟨by rw [if_pos ⟨c_7, c_17⟩], rfl⟩ dX2_isFirst_25
theorem m_mset (l : Launch) (G : va_G) (h0 : Nat) (r : Nat → Nat) (d : Nat → ClassId) (σ : Nat → Nat → Nat) (X Y : Int32) (b : Nat) (hb : b < 2) (k2 : σ 0 0 ≤ 12) (k4 : σ 1 0 ≤ 12) : zMi l yX2_set cX2_set 4 (some .boolean) (rmF 1 22) G (mlT d) (mlC h0 r d) [.ref h0, .int X, .int Y, .int (nI b)] σ (fun v σ' => (¬ inP (σ 0 0) (σ 1 0) X Y ∧ v = nI 0 ∧ σ' = σ) ∨ (∃ x y, X = nI x ∧ Y = nI y ∧ x < σ 0 0 ∧ y < σ 1 0 ∧ v = nI 1 ∧ σ' = up σ 2 (14 * (y + 1) + x + 1) b)) := by
  refine zMi_of (own := RX2) (by decide) rfl (Nat.le_of_ble_eq_true rfl) ?_
  intro p e s m args below meth c A ls C hr hlk w hl
  have hl : lv_has ls 4 [(0, .ref h0), (1, .int X), (2, .int Y), (3, .int (nI b))] := hl
  have hbd := w.2.2.2.2.2
  refine lv_aload_n C.1 C.2.1 dX2_set_0 rfl (lv_at hl 0 rfl) ?_
  refine lv_iload_n C.1 C.2.1 dX2_set_1 rfl (lv_at hl 1 rfl) ?_
  refine lv_iload_n C.1 C.2.1 dX2_set_2 rfl (lv_at hl 2 rfl) ?_
  refine z_calli (As := [.int X, .int Y]) C (m_inside l G h0 r d σ X Y) (cwV 2 C.2.2.2.2 (lw_V q219 q221 qs11 q28 q222) rfl rfl rfl (by decide +kernel) ⟨Nat.le_of_ble_eq_true rfl, Nat.le_of_ble_eq_true rfl⟩) w (ml_rc w) rfl hl.1 rfl (Nat.le_of_ble_eq_true rfl) dX2_set_3 ⟨Nat.le_refl _, Nat.le_refl _⟩ (fun v1 s1 H locs hp w => ?_)
  obtain ⟨hv, hσ⟩ := hp
  subst hv
  rw [hσ] at w
  refine z_if_ne (tgt := 11) C dX2_set_6 (by decide) z_ifB (fun c_6 => ?_) (fun c_6 => ?_)
  · obtain ⟨x, y, rfl, rfl, hx, hy⟩ := inP_nat (by omega) (by omega) (z_ifP c_6)
    refine lv_aload_n C.1 C.2.1 dX2_set_11 rfl (lv_at hl 0 rfl) ?_
    refine ml_g2 C w dX2_set_12 ?_
    refine lv_aload_n C.1 C.2.1 dX2_set_15 rfl (lv_at hl 0 rfl) ?_
    refine lv_iload_n C.1 C.2.1 dX2_set_16 rfl (lv_at hl 1 rfl) ?_
    refine lv_iload_n C.1 C.2.1 dX2_set_17 rfl (lv_at hl 2 rfl) ?_
    refine z_calli (As := [.int (nI x), .int (nI y)]) C (m_place l G h0 r d σ x y) (cwV 2 C.2.2.2.2 (lw_V q223 q225 qs12 q28 q226) rfl rfl rfl (by decide +kernel) ⟨Nat.le_of_ble_eq_true rfl, Nat.le_of_ble_eq_true rfl⟩) w (ml_rc w) rfl hl.1 rfl (Nat.le_of_ble_eq_true rfl) dX2_set_18 ⟨Nat.le_refl _, Nat.le_refl _⟩ (fun v2 s2 H locs hp w => ?_)
    obtain ⟨hv, hσ⟩ := hp
    subst hv
    rw [hσ] at w
    refine lv_iload_n C.1 C.2.1 dX2_set_21 rfl (lv_at hl 3 rfl) ?_
    refine ml_s2 C w (by omega) (by omega) dX2_set_22 (fun H locs w => ?_)
    refine lv_iconst (v := nI 1) C.1 C.2.1 dX2_set_23 (by decide) ?_
    exact z_zret C hr hlk w (by decide) (Or.inr ⟨x, y, rfl, rfl, hx, hy, rfl, rfl⟩) dX2_set_24
  · refine lv_iconst (v := nI 0) C.1 C.2.1 dX2_set_9 (by decide) ?_
    exact z_zret C hr hlk w (by decide) (Or.inl ⟨z_ifN c_6, rfl, rfl⟩) dX2_set_10
theorem m_misBlack (l : Launch) (G : va_G) (h0 : Nat) (r : Nat → Nat) (d : Nat → ClassId) (σ : Nat → Nat → Nat) (X Y : Int32) (k2 : σ 0 0 ≤ 12) (k4 : σ 1 0 ≤ 12) : zMi l yX2_isBlack cX2_isBlack 3 (some .boolean) (rmF 1 22) G (mlT d) (mlC h0 r d) [.ref h0, .int X, .int Y] σ (fun v σ' => ((¬ inP (σ 0 0) (σ 1 0) X Y ∧ v = nI 0) ∨ (∃ x y, X = nI x ∧ Y = nI y ∧ x < σ 0 0 ∧ y < σ 1 0 ∧ v = nI (if σ 2 (14 * (y + 1) + x + 1) ≠ 0 then 1 else 0))) ∧ σ' = σ) := by
  refine zMi_of (own := RX2) (by decide) rfl (Nat.le_of_ble_eq_true rfl) ?_
  intro p e s m args below meth c A ls C hr hlk w hl
  have hl : lv_has ls 3 [(0, .ref h0), (1, .int X), (2, .int Y)] := hl
  have hbd := w.2.2.2.2.2
  refine lv_aload_n C.1 C.2.1 dX2_isBlack_0 rfl (lv_at hl 0 rfl) ?_
  refine lv_iload_n C.1 C.2.1 dX2_isBlack_1 rfl (lv_at hl 1 rfl) ?_
  refine lv_iload_n C.1 C.2.1 dX2_isBlack_2 rfl (lv_at hl 2 rfl) ?_
  refine z_calli (As := [.int X, .int Y]) C (m_inside l G h0 r d σ X Y) (cwV 2 C.2.2.2.2 (lw_V q219 q221 qs11 q28 q222) rfl rfl rfl (by decide +kernel) ⟨Nat.le_of_ble_eq_true rfl, Nat.le_of_ble_eq_true rfl⟩) w (ml_rc w) rfl hl.1 rfl (Nat.le_of_ble_eq_true rfl) dX2_isBlack_3 ⟨Nat.le_refl _, Nat.le_refl _⟩ (fun v1 s1 H locs hp w => ?_)
  obtain ⟨hv, hσ⟩ := hp
  subst hv
  rw [hσ] at w
  refine z_if_eq (tgt := 27) C dX2_isBlack_6 (by decide) z_ifB (fun c_6 => ?_) (fun c_6 => ?_)
  · refine lv_iconst (v := nI 0) C.1 C.2.1 dX2_isBlack_27 (by decide) ?_
    exact z_zret C hr hlk w (by decide) ⟨Or.inl ⟨z_ifN c_6, rfl⟩, rfl⟩ dX2_isBlack_28
  · obtain ⟨x, y, rfl, rfl, hx, hy⟩ := inP_nat (by omega) (by omega) (z_ifP c_6)
    have b2 := hbd 2 (14 * (y + 1) + x + 1)
    refine lv_aload_n C.1 C.2.1 dX2_isBlack_9 rfl (lv_at hl 0 rfl) ?_
    refine ml_g2 C w dX2_isBlack_10 ?_
    refine lv_aload_n C.1 C.2.1 dX2_isBlack_13 rfl (lv_at hl 0 rfl) ?_
    refine lv_iload_n C.1 C.2.1 dX2_isBlack_14 rfl (lv_at hl 1 rfl) ?_
    refine lv_iload_n C.1 C.2.1 dX2_isBlack_15 rfl (lv_at hl 2 rfl) ?_
    refine z_calli (As := [.int (nI x), .int (nI y)]) C (m_place l G h0 r d σ x y) (cwV 2 C.2.2.2.2 (lw_V q223 q225 qs12 q28 q226) rfl rfl rfl (by decide +kernel) ⟨Nat.le_of_ble_eq_true rfl, Nat.le_of_ble_eq_true rfl⟩) w (ml_rc w) rfl hl.1 rfl (Nat.le_of_ble_eq_true rfl) dX2_isBlack_16 ⟨Nat.le_refl _, Nat.le_refl _⟩ (fun v2 s2 H locs hp w => ?_)
    obtain ⟨hv, hσ⟩ := hp
    subst hv
    rw [hσ] at w
    refine ml_l2 C w (by omega) dX2_isBlack_19 ?_
    refine z_if_eq (tgt := 27) C dX2_isBlack_20 (by decide) (by omega) (fun c_20 => ?_) (fun c_20 => ?_)
    · refine lv_iconst (v := nI 0) C.1 C.2.1 dX2_isBlack_27 (by decide) ?_
      exact z_zret C hr hlk w (by decide) ⟨Or.inr ⟨x, y, rfl, rfl, hx, hy, by rw [if_neg (fun z => z c_20)]⟩, rfl⟩ dX2_isBlack_28
    · refine lv_iconst (v := nI 1) C.1 C.2.1 dX2_isBlack_23 (by decide) ?_
      refine lv_goto (tgt := 28) C.1 C.2.1 dX2_isBlack_24 (by decide) ?_
      exact z_zret C hr hlk w (by decide) ⟨Or.inr ⟨x, y, rfl, rfl, hx, hy, by rw [if_pos c_20]⟩, rfl⟩ dX2_isBlack_28
def mvS (j i : Nat) (s : Nat → Nat → Nat) : Nat → Nat → Nat := up s 2 (14 * (j + 1) + i + 1) (if s 2 (14 * (j + 1) + i + 1) ≠ 0 then 0 else 1)
def mvR (x a j : Nat) (s : Nat → Nat → Nat) : Nat → Nat → Nat := fwd (mvS j) a x s
def mvF (a b x y : Nat) (s : Nat → Nat → Nat) : Nat → Nat → Nat := fwd (mvR x a) b y s
section
variable {p : Program} {l : Launch} {e : Env} {R : Room} {s : State} {m : MethodId} {args : Array Value} {below : List Frame} {meth : Method} {c : Code} {H : Heap} {locs : List Loc} {Q : State → Prop}
variable {G : va_G} {A : Nat → Prop} {H0 : Heap} {σ : Nat → Nat → Nat} {h0 : Nat} {r : Nat → Nat} {d : Nat → ClassId}
theorem mv_in {x y a b j : Nat} (C : zC p m c cX2_invert 7 s args RX2) (hj : j < 12) (hxa : x + a ≤ 12) : ∀ n i σ H locs, mlW G h0 r d A s H0 H locs σ → x + a = i + n → ∀ ls, lv_has ls 7 [(6, .int (nI i)), (5, .int (nI j)), (0, .ref h0), (1, .int (nI x)), (2, .int (nI y)), (3, .int (nI a)), (4, .int (nI b))] → (∀ H locs ls, mlW G h0 r d A s H0 H locs (fwd (mvS j) n i σ) → lv_has ls 7 [(5, .int (nI j)), (0, .ref h0), (1, .int (nI x)), (2, .int (nI y)), (3, .int (nI a)), (4, .int (nI b))] → W p l e (rmF 1 22) s m args below meth c H locs 0 0 Q (F0 m 106 ls [])) → W p l e (rmF 1 22) s m args below meth c H locs 0 0 Q (F0 m 58 ls []) := by
  intro n
  induction n with
  | zero =>
    intro i σ H locs w hn ls hl K
    refine lv_iload C.1 C.2.1 dX2_invert_58 (lv_at hl 0 rfl) ?_
    refine lv_iload_n C.1 C.2.1 dX2_invert_60 rfl (lv_at hl 3 rfl) ?_
    refine lv_iload_n C.1 C.2.1 dX2_invert_61 rfl (lv_at hl 5 rfl) ?_
    refine z_iadd C dX2_invert_62 ?_
    refine z_cmp_ge (tgt := 106) C dX2_invert_63 (by decide) (by omega) (by omega) (fun c_63 => ?_) (fun c_63 => ?_)
    · exact K H locs ls w (lv_sub hl [1, 2, 3, 4, 5, 6] rfl)
    · exact absurd c_63 (by omega)
  | succ n ih =>
    intro i σ H locs w hn ls hl K
    have b2 := w.2.2.2.2.2 2 (14 * (j + 1) + i + 1)
    refine lv_iload C.1 C.2.1 dX2_invert_58 (lv_at hl 0 rfl) ?_
    refine lv_iload_n C.1 C.2.1 dX2_invert_60 rfl (lv_at hl 3 rfl) ?_
    refine lv_iload_n C.1 C.2.1 dX2_invert_61 rfl (lv_at hl 5 rfl) ?_
    refine z_iadd C dX2_invert_62 ?_
    refine z_cmp_ge (tgt := 106) C dX2_invert_63 (by decide) (by omega) (by omega) (fun c_63 => ?_) (fun c_63 => ?_)
    · exact absurd c_63 (by omega)
    · refine lv_aload_n C.1 C.2.1 dX2_invert_66 rfl (lv_at hl 2 rfl) ?_
      refine ml_g2 C w dX2_invert_67 ?_
      refine lv_aload_n C.1 C.2.1 dX2_invert_70 rfl (lv_at hl 2 rfl) ?_
      refine lv_iload C.1 C.2.1 dX2_invert_71 (lv_at hl 0 rfl) ?_
      refine lv_iload C.1 C.2.1 dX2_invert_73 (lv_at hl 1 rfl) ?_
      refine z_calli (As := [.int (nI i), .int (nI j)]) C (m_place l G h0 r d σ i j) (cwV 2 C.2.2.2.2 (lw_V q223 q225 qs12 q28 q226) rfl rfl rfl (by decide +kernel) ⟨Nat.le_of_ble_eq_true rfl, Nat.le_of_ble_eq_true rfl⟩) w (ml_rc w) rfl hl.1 rfl (Nat.le_of_ble_eq_true rfl) dX2_invert_75 ⟨Nat.le_refl _, Nat.le_refl _⟩ (fun v1 s1 H locs hp w => ?_)
      obtain ⟨hv, hσ⟩ := hp
      subst hv
      rw [hσ] at w
      refine lv_aload_n C.1 C.2.1 dX2_invert_78 rfl (lv_at hl 2 rfl) ?_
      refine ml_g2 C w dX2_invert_79 ?_
      refine lv_aload_n C.1 C.2.1 dX2_invert_82 rfl (lv_at hl 2 rfl) ?_
      refine lv_iload C.1 C.2.1 dX2_invert_83 (lv_at hl 0 rfl) ?_
      refine lv_iload C.1 C.2.1 dX2_invert_85 (lv_at hl 1 rfl) ?_
      refine z_calli (As := [.int (nI i), .int (nI j)]) C (m_place l G h0 r d σ i j) (cwV 2 C.2.2.2.2 (lw_V q223 q225 qs12 q28 q226) rfl rfl rfl (by decide +kernel) ⟨Nat.le_of_ble_eq_true rfl, Nat.le_of_ble_eq_true rfl⟩) w (ml_rc w) rfl hl.1 rfl (Nat.le_of_ble_eq_true rfl) dX2_invert_87 ⟨Nat.le_refl _, Nat.le_refl _⟩ (fun v2 s2 H locs hp w => ?_)
      obtain ⟨hv, hσ⟩ := hp
      subst hv
      rw [hσ] at w
      refine ml_l2 C w (by omega) dX2_invert_90 ?_
      refine z_if_ne (tgt := 98) C dX2_invert_91 (by decide) (by omega) (fun c_91 => ?_) (fun c_91 => ?_)
      · refine lv_iconst (v := nI 0) C.1 C.2.1 dX2_invert_98 (by decide) ?_
        refine ml_s2 C w (by omega) (by omega) dX2_invert_99 (fun H locs w => ?_)
        refine lv_iinc (lv' := [(6, .int (nI (i + 1))), (5, .int (nI j)), (0, .ref h0), (1, .int (nI x)), (2, .int (nI y)), (3, .int (nI a)), (4, .int (nI b))]) C.1 C.2.1 dX2_invert_100 hl (k := 0) rfl (nI_add _ _) (by decide) rfl (fun ls hl => ?_)
        refine lv_goto (tgt := 58) C.1 C.2.1 dX2_invert_103 (by decide) ?_
        have e1 : mvS j i σ = up σ 2 (14 * (j + 1) + i + 1) 0 := by unfold mvS; rw [if_pos c_91]
        exact ih (i + 1) (mvS j i σ) H locs (by rw [e1]; exact w) (by omega) ls hl K
      · refine lv_iconst (v := nI 1) C.1 C.2.1 dX2_invert_94 (by decide) ?_
        refine lv_goto (tgt := 99) C.1 C.2.1 dX2_invert_95 (by decide) ?_
        refine ml_s2 C w (by omega) (by omega) dX2_invert_99 (fun H locs w => ?_)
        refine lv_iinc (lv' := [(6, .int (nI (i + 1))), (5, .int (nI j)), (0, .ref h0), (1, .int (nI x)), (2, .int (nI y)), (3, .int (nI a)), (4, .int (nI b))]) C.1 C.2.1 dX2_invert_100 hl (k := 0) rfl (nI_add _ _) (by decide) rfl (fun ls hl => ?_)
        refine lv_goto (tgt := 58) C.1 C.2.1 dX2_invert_103 (by decide) ?_
        have e1 : mvS j i σ = up σ 2 (14 * (j + 1) + i + 1) 1 := by unfold mvS; rw [if_neg (fun z => z c_91)]
        exact ih (i + 1) (mvS j i σ) H locs (by rw [e1]; exact w) (by omega) ls hl K
theorem mv_out {x y a b : Nat} (C : zC p m c cX2_invert 7 s args RX2) (hyb : y + b ≤ 12) (hxa : x + a ≤ 12) : ∀ n j σ H locs, mlW G h0 r d A s H0 H locs σ → y + b = j + n → ∀ ls, lv_has ls 7 [(5, .int (nI j)), (0, .ref h0), (1, .int (nI x)), (2, .int (nI y)), (3, .int (nI a)), (4, .int (nI b))] → (∀ H locs ls, mlW G h0 r d A s H0 H locs (fwd (mvR x a) n j σ) → W p l e (rmF 1 22) s m args below meth c H locs 0 0 Q (F0 m 112 ls [])) → W p l e (rmF 1 22) s m args below meth c H locs 0 0 Q (F0 m 46 ls []) := by
  intro n
  induction n with
  | zero =>
    intro j σ H locs w hn ls hl K
    refine lv_iload C.1 C.2.1 dX2_invert_46 (lv_at hl 0 rfl) ?_
    refine lv_iload_n C.1 C.2.1 dX2_invert_48 rfl (lv_at hl 3 rfl) ?_
    refine lv_iload C.1 C.2.1 dX2_invert_49 (lv_at hl 5 rfl) ?_
    refine z_iadd C dX2_invert_51 ?_
    refine z_cmp_ge (tgt := 112) C dX2_invert_52 (by decide) (by omega) (by omega) (fun c_52 => ?_) (fun c_52 => ?_)
    · exact K H locs ls w
    · exact absurd c_52 (by omega)
  | succ n ih =>
    intro j σ H locs w hn ls hl K
    refine lv_iload C.1 C.2.1 dX2_invert_46 (lv_at hl 0 rfl) ?_
    refine lv_iload_n C.1 C.2.1 dX2_invert_48 rfl (lv_at hl 3 rfl) ?_
    refine lv_iload C.1 C.2.1 dX2_invert_49 (lv_at hl 5 rfl) ?_
    refine z_iadd C dX2_invert_51 ?_
    refine z_cmp_ge (tgt := 112) C dX2_invert_52 (by decide) (by omega) (by omega) (fun c_52 => ?_) (fun c_52 => ?_)
    · exact absurd c_52 (by omega)
    · refine lv_iload_n C.1 C.2.1 dX2_invert_55 rfl (lv_at hl 2 rfl) ?_
      refine lv_istore (lv' := [(6, .int (nI x)), (5, .int (nI j)), (0, .ref h0), (1, .int (nI x)), (2, .int (nI y)), (3, .int (nI a)), (4, .int (nI b))]) C.1 C.2.1 dX2_invert_56 hl (by decide) rfl (fun ls hl => ?_)
      refine mv_in C (by omega) hxa a x σ _ _ w rfl ls hl (fun H locs ls w hl => ?_)
      refine lv_iinc (lv' := [(5, .int (nI (j + 1))), (0, .ref h0), (1, .int (nI x)), (2, .int (nI y)), (3, .int (nI a)), (4, .int (nI b))]) C.1 C.2.1 dX2_invert_106 hl (k := 0) rfl (nI_add _ _) (by decide) rfl (fun ls hl => ?_)
      refine lv_goto (tgt := 46) C.1 C.2.1 dX2_invert_109 (by decide) ?_
      exact ih (j + 1) (mvR x a j σ) H locs w (by omega) ls hl K
end
theorem m_minvert (l : Launch) (G : va_G) (h0 : Nat) (r : Nat → Nat) (d : Nat → ClassId) (σ : Nat → Nat → Nat) (X Y P Q : Int32) (k2 : σ 0 0 ≤ 12) (k4 : σ 1 0 ≤ 12) : zMi l yX2_invert cX2_invert 7 (some .boolean) (rmF 1 22) G (mlT d) (mlC h0 r d) [.ref h0, .int X, .int Y, .int P, .int Q] σ (fun v σ' => (¬ ivP (σ 0 0) (σ 1 0) X Y P Q ∧ v = nI 0 ∧ σ' = σ) ∨ (∃ x y a b, X = nI x ∧ Y = nI y ∧ P = nI a ∧ Q = nI b ∧ 1 ≤ a ∧ x + a ≤ σ 0 0 ∧ 1 ≤ b ∧ y + b ≤ σ 1 0 ∧ v = nI 1 ∧ σ' = mvF a b x y σ)) := by
  refine zMi_of (own := RX2) (by decide) rfl (Nat.le_of_ble_eq_true rfl) ?_
  intro p e s m args below meth c A ls C hr hlk w hl
  have hl : lv_has ls 7 [(0, .ref h0), (1, .int X), (2, .int Y), (3, .int P), (4, .int Q)] := hl
  have hbd := w.2.2.2.2.2
  refine lv_aload_n C.1 C.2.1 dX2_invert_0 rfl (lv_at hl 0 rfl) ?_
  refine lv_iload_n C.1 C.2.1 dX2_invert_1 rfl (lv_at hl 1 rfl) ?_
  refine lv_iload_n C.1 C.2.1 dX2_invert_2 rfl (lv_at hl 2 rfl) ?_
  refine z_calli (As := [.int X, .int Y]) C (m_inside l G h0 r d σ X Y) (cwV 2 C.2.2.2.2 (lw_V q219 q221 qs11 q28 q222) rfl rfl rfl (by decide +kernel) ⟨Nat.le_of_ble_eq_true rfl, Nat.le_of_ble_eq_true rfl⟩) w (ml_rc w) rfl hl.1 rfl (Nat.le_of_ble_eq_true rfl) dX2_invert_3 ⟨Nat.le_refl _, Nat.le_refl _⟩ (fun v1 s1 H locs hp w => ?_)
  obtain ⟨hv, hσ⟩ := hp
  subst hv
  rw [hσ] at w
  refine z_if_eq (tgt := 41) C dX2_invert_6 (by decide) z_ifB (fun c_6 => ?_) (fun c_6 => ?_)
  · refine lv_iconst (v := nI 0) C.1 C.2.1 dX2_invert_41 (by decide) ?_
    exact z_zret C hr hlk w (by decide) (Or.inl ⟨fun q => z_ifN c_6 q.1, rfl, rfl⟩) dX2_invert_42
  · obtain ⟨x, y, rfl, rfl, hx, hy⟩ := inP_nat (by omega) (by omega) (z_ifP c_6)
    refine lv_iload_n C.1 C.2.1 dX2_invert_9 rfl (lv_at hl 3 rfl) ?_
    refine lv_iconst (v := nI 1) C.1 C.2.1 dX2_invert_10 (by decide) ?_
    refine lv_icmp_lt (tgt := 41) C.1 C.2.1 dX2_invert_11 (by decide) (fun c_11 => ?_) (fun c_11 => ?_)
    · refine lv_iconst (v := nI 0) C.1 C.2.1 dX2_invert_41 (by decide) ?_
      exact z_zret C hr hlk w (by decide) (Or.inl ⟨fun q => q.2.1 c_11, rfl, rfl⟩) dX2_invert_42
    · refine lv_iload_n C.1 C.2.1 dX2_invert_14 rfl (lv_at hl 3 rfl) ?_
      refine lv_aload_n C.1 C.2.1 dX2_invert_15 rfl (lv_at hl 0 rfl) ?_
      refine ml_g0 C w dX2_invert_16 ?_
      refine lv_iload_n C.1 C.2.1 dX2_invert_19 rfl (lv_at hl 1 rfl) ?_
      refine z_isub C (by omega) dX2_invert_20 ?_
      refine lv_icmp_gt (tgt := 41) C.1 C.2.1 dX2_invert_21 (by decide) (fun c_21 => ?_) (fun c_21 => ?_)
      · refine lv_iconst (v := nI 0) C.1 C.2.1 dX2_invert_41 (by decide) ?_
        exact z_zret C hr hlk w (by decide) (Or.inl ⟨fun q => q.2.2.1 (by rw [pk_sub (by omega)]; exact c_21), rfl, rfl⟩) dX2_invert_42
      · refine lv_iload C.1 C.2.1 dX2_invert_24 (lv_at hl 4 rfl) ?_
        refine lv_iconst (v := nI 1) C.1 C.2.1 dX2_invert_26 (by decide) ?_
        refine lv_icmp_lt (tgt := 41) C.1 C.2.1 dX2_invert_27 (by decide) (fun c_27 => ?_) (fun c_27 => ?_)
        · refine lv_iconst (v := nI 0) C.1 C.2.1 dX2_invert_41 (by decide) ?_
          exact z_zret C hr hlk w (by decide) (Or.inl ⟨fun q => q.2.2.2.1 c_27, rfl, rfl⟩) dX2_invert_42
        · refine lv_iload C.1 C.2.1 dX2_invert_30 (lv_at hl 4 rfl) ?_
          refine lv_aload_n C.1 C.2.1 dX2_invert_32 rfl (lv_at hl 0 rfl) ?_
          refine ml_g1 C w dX2_invert_33 ?_
          refine lv_iload_n C.1 C.2.1 dX2_invert_36 rfl (lv_at hl 2 rfl) ?_
          refine z_isub C (by omega) dX2_invert_37 ?_
          refine lv_icmp_le (tgt := 43) C.1 C.2.1 dX2_invert_38 (by decide) (fun c_38 => ?_) (fun c_38 => ?_)
          · obtain ⟨a, ha1, ha2, rfl⟩ := z_ge1 c_11
            obtain ⟨b, hb1, hb2, rfl⟩ := z_ge1 c_27
            have ha3 := (nI_leI ha2 (by omega)).mp (Int32.not_lt.mp c_21)
            have hb3 := (nI_leI hb2 (by omega)).mp c_38
            refine lv_iload_n C.1 C.2.1 dX2_invert_43 rfl (lv_at hl 2 rfl) ?_
            refine lv_istore (lv' := [(5, .int (nI y)), (0, .ref h0), (1, .int (nI x)), (2, .int (nI y)), (3, .int (nI a)), (4, .int (nI b))]) C.1 C.2.1 dX2_invert_44 hl (by decide) rfl (fun ls hl => ?_)
            refine mv_out C (by omega) (by omega) b y σ _ _ w rfl ls (lv_sub hl [0, 1, 2, 3, 4, 5] rfl) (fun H locs ls w => ?_)
            refine lv_iconst (v := nI 1) C.1 C.2.1 dX2_invert_112 (by decide) ?_
            exact z_zret C hr hlk w (by decide) (Or.inr ⟨x, y, a, b, rfl, rfl, rfl, rfl, ha1, by omega, hb1, by omega, rfl, rfl⟩) dX2_invert_113
          · refine lv_iconst (v := nI 0) C.1 C.2.1 dX2_invert_41 (by decide) ?_
            exact z_zret C hr hlk w (by decide) (Or.inl ⟨fun q => c_38 (by have := q.2.2.2.2; rw [pk_sub (by omega)] at this; exact this), rfl, rfl⟩) dX2_invert_42
