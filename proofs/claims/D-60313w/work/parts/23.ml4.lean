set_option maxRecDepth 100000
/-! ===== CompLabelModel: holes, around, enclosed ===== -/
theorem z_eqs {a b k : Nat} (ha : a < 32768) (hb : b < 32768) (hk : k < 32768) : nI a = nI b - nI k ↔ a + k = b := by
  constructor
  · intro h
    have h2 : nI a + nI k = nI b := by rw [h]; exact Int32.sub_add_cancel _ _
    rw [nI_add] at h2
    exact (nI_eq (by omega) (by omega)).mp h2
  · intro h
    rw [pk_sub (by omega), ← h, Nat.add_sub_cancel]
/-- place q with its neighbour i lies at the border of rg against cp, one change deeper -/
def HoleQ (s : Nat → Nat → Nat) (rg cp q i : Nat) : Prop := nr q (2 * i + 1) < 196 ∧ s 3 q = rg ∧ s 3 (nr q (2 * i + 1)) = cp ∧ s 4 (nr q (2 * i + 1)) + 1 = s 4 q
def HoleP (s : Nat → Nat → Nat) (rg cp : Nat) : Prop := ∃ q i, q < 196 ∧ i < 4 ∧ HoleQ s rg cp q i
section
variable {p : Program} {l : Launch} {e : Env} {R : Room} {s : State} {m : MethodId} {args : Array Value} {below : List Frame} {meth : Method} {c : Code} {H : Heap} {locs : List Loc} {Q : State → Prop}
variable {G : va_G} {A : Nat → Prop} {H0 : Heap} {σ : Nat → Nat → Nat} {h0 : Nat} {r : Nat → Nat} {d : Nat → ClassId}
theorem hl_in {rg cp q : Nat} (C : zC p m c cX2_isHole 6 s args RX2) (hq : q < 196) (hrg : rg < 196) (hcp : cp < 196) (KR : ∀ i H locs ls, i < 4 → HoleQ σ rg cp q i → mlW G h0 r d A s H0 H locs σ → W p l e (rmF 1 24) s m args below meth c H locs 0 0 Q (F0 m 72 ls [])) (KX : ∀ H locs ls, (∀ i, i < 4 → ¬ HoleQ σ rg cp q i) → mlW G h0 r d A s H0 H locs σ → lv_has ls 6 [(3, .int (nI q)), (0, .ref h0), (1, .int (nI rg)), (2, .int (nI cp))] → W p l e (rmF 1 24) s m args below meth c H locs 0 0 Q (F0 m 80 ls [])) :
    ∀ n k H locs, mlW G h0 r d A s H0 H locs σ → k + n = 4 → (∀ i, i < k → ¬ HoleQ σ rg cp q i) → ∀ ls, lv_has ls 6 [(4, .int (nI (2 * k + 1))), (3, .int (nI q)), (0, .ref h0), (1, .int (nI rg)), (2, .int (nI cp))] → W p l e (rmF 1 24) s m args below meth c H locs 0 0 Q (F0 m 12 ls []) := by
  intro n
  induction n with
  | zero =>
    intro k H locs w hn hno ls hl
    refine lv_iload C.1 C.2.1 dX2_isHole_12 (lv_at hl 0 rfl) ?_
    refine lv_bipush (v := nI 9) C.1 C.2.1 dX2_isHole_14 (by decide) ?_
    refine z_cmp_ge (tgt := 80) C dX2_isHole_16 (by decide) (by omega) (by omega) (fun c_16 => ?_) (fun c_16 => ?_)
    · exact KX H locs ls (fun i hi => hno i (by omega)) w (lv_sub hl [1, 2, 3, 4] rfl)
    · exact absurd c_16 (by omega)
  | succ n ih =>
    intro k H locs w hn hno ls hl
    have r1 := w.2.2.2.2.2 3 q
    have r2 := w.2.2.2.2.2 3 (nr q (2 * k + 1))
    have r3 := w.2.2.2.2.2 4 q
    have r4 := w.2.2.2.2.2 4 (nr q (2 * k + 1))
    have r5 := z_eqs r4 r3 (k := 1) (by decide)
    refine lv_iload C.1 C.2.1 dX2_isHole_12 (lv_at hl 0 rfl) ?_
    refine lv_bipush (v := nI 9) C.1 C.2.1 dX2_isHole_14 (by decide) ?_
    refine z_cmp_ge (tgt := 80) C dX2_isHole_16 (by decide) (by omega) (by omega) (fun c_16 => ?_) (fun c_16 => ?_)
    · exact absurd c_16 (by omega)
    · refine lv_aload_n C.1 C.2.1 dX2_isHole_19 rfl (lv_at hl 2 rfl) ?_
      refine lv_iload_n C.1 C.2.1 dX2_isHole_20 rfl (lv_at hl 1 rfl) ?_
      refine lv_iload C.1 C.2.1 dX2_isHole_21 (lv_at hl 0 rfl) ?_
      refine z_calli (As := [.int (nI q), .int (nI (2 * k + 1))]) C (m_near l G h0 r d σ q (2 * k + 1) (by omega) (by omega)) (cwV 2 C.2.2.2.2 (lw_V q247 q249 qs15 q28 q250) rfl rfl rfl (by decide +kernel) ⟨Nat.le_of_ble_eq_true rfl, Nat.le_of_ble_eq_true rfl⟩) w (ml_rc w) rfl hl.1 rfl (Nat.le_of_ble_eq_true rfl) dX2_isHole_23 ⟨Nat.le_refl _, Nat.le_refl _⟩ (fun v1 s1 H locs hp w => ?_)
      obtain ⟨hv, hσ⟩ := hp
      subst hv
      rw [hσ] at w
      by_cases hn : nr q (2 * k + 1) < 196
      · rw [if_pos hn]
        refine lv_istore (lv' := [(5, .int (nI (nr q (2 * k + 1)))), (4, .int (nI (2 * k + 1))), (3, .int (nI q)), (0, .ref h0), (1, .int (nI rg)), (2, .int (nI cp))]) C.1 C.2.1 dX2_isHole_26 hl (by decide) rfl (fun ls hl => ?_)
        refine lv_iload C.1 C.2.1 dX2_isHole_28 (lv_at hl 0 rfl) ?_
        refine z_if_lt (tgt := 74) C dX2_isHole_30 (by decide) (by omega) ?_
        refine lv_aload_n C.1 C.2.1 dX2_isHole_33 rfl (lv_at hl 3 rfl) ?_
        refine ml_g3 C w dX2_isHole_34 ?_
        refine lv_iload_n C.1 C.2.1 dX2_isHole_37 rfl (lv_at hl 2 rfl) ?_
        refine ml_l3 C w (by omega) dX2_isHole_38 ?_
        refine lv_iload_n C.1 C.2.1 dX2_isHole_39 rfl (lv_at hl 4 rfl) ?_
        refine z_cmp_ne (tgt := 74) C dX2_isHole_40 (by decide) (by omega) (by omega) (fun c_40 => ?_) (fun c_40 => ?_)
        · refine lv_iinc (lv' := [(4, .int (nI ((2 * k + 1) + 2))), (5, .int (nI (nr q (2 * k + 1)))), (3, .int (nI q)), (0, .ref h0), (1, .int (nI rg)), (2, .int (nI cp))]) C.1 C.2.1 dX2_isHole_74 hl (k := 1) rfl (nI_add _ _) (by decide) rfl (fun ls hl => ?_)
          refine lv_goto (tgt := 12) C.1 C.2.1 dX2_isHole_77 (by decide) ?_
          have e1 : ¬ HoleQ σ rg cp q k := fun z => c_40 z.2.1
          rw [show 2 * k + 1 + 2 = 2 * (k + 1) + 1 by omega] at hl
          refine ih (k + 1) H locs w (by omega) (fun i hi => ?_) ls (lv_sub hl [0, 2, 3, 4, 5] rfl)
          rcases Nat.lt_or_eq_of_le (Nat.le_of_lt_succ hi) with z | z
          · exact hno i z
          · rw [z]; exact e1
        · refine lv_aload_n C.1 C.2.1 dX2_isHole_43 rfl (lv_at hl 3 rfl) ?_
          refine ml_g3 C w dX2_isHole_44 ?_
          refine lv_iload C.1 C.2.1 dX2_isHole_47 (lv_at hl 0 rfl) ?_
          refine ml_l3 C w (by omega) dX2_isHole_49 ?_
          refine lv_iload_n C.1 C.2.1 dX2_isHole_50 rfl (lv_at hl 5 rfl) ?_
          refine z_cmp_ne (tgt := 74) C dX2_isHole_51 (by decide) (by omega) (by omega) (fun c_51 => ?_) (fun c_51 => ?_)
          · refine lv_iinc (lv' := [(4, .int (nI ((2 * k + 1) + 2))), (5, .int (nI (nr q (2 * k + 1)))), (3, .int (nI q)), (0, .ref h0), (1, .int (nI rg)), (2, .int (nI cp))]) C.1 C.2.1 dX2_isHole_74 hl (k := 1) rfl (nI_add _ _) (by decide) rfl (fun ls hl => ?_)
            refine lv_goto (tgt := 12) C.1 C.2.1 dX2_isHole_77 (by decide) ?_
            have e1 : ¬ HoleQ σ rg cp q k := fun z => c_51 z.2.2.1
            rw [show 2 * k + 1 + 2 = 2 * (k + 1) + 1 by omega] at hl
            refine ih (k + 1) H locs w (by omega) (fun i hi => ?_) ls (lv_sub hl [0, 2, 3, 4, 5] rfl)
            rcases Nat.lt_or_eq_of_le (Nat.le_of_lt_succ hi) with z | z
            · exact hno i z
            · rw [z]; exact e1
          · refine lv_aload_n C.1 C.2.1 dX2_isHole_54 rfl (lv_at hl 3 rfl) ?_
            refine ml_g4 C w dX2_isHole_55 ?_
            refine lv_iload C.1 C.2.1 dX2_isHole_58 (lv_at hl 0 rfl) ?_
            refine ml_l4 C w (by omega) dX2_isHole_60 ?_
            refine lv_aload_n C.1 C.2.1 dX2_isHole_61 rfl (lv_at hl 3 rfl) ?_
            refine ml_g4 C w dX2_isHole_62 ?_
            refine lv_iload_n C.1 C.2.1 dX2_isHole_65 rfl (lv_at hl 2 rfl) ?_
            refine ml_l4 C w (by omega) dX2_isHole_66 ?_
            refine lv_iconst (v := nI 1) C.1 C.2.1 dX2_isHole_67 (by decide) ?_
            refine lv_isub C.1 C.2.1 dX2_isHole_68 ?_
            refine lv_icmp_ne (tgt := 74) C.1 C.2.1 dX2_isHole_69 (by decide) (fun c_69 => ?_) (fun c_69 => ?_)
            · refine lv_iinc (lv' := [(4, .int (nI ((2 * k + 1) + 2))), (5, .int (nI (nr q (2 * k + 1)))), (3, .int (nI q)), (0, .ref h0), (1, .int (nI rg)), (2, .int (nI cp))]) C.1 C.2.1 dX2_isHole_74 hl (k := 1) rfl (nI_add _ _) (by decide) rfl (fun ls hl => ?_)
              refine lv_goto (tgt := 12) C.1 C.2.1 dX2_isHole_77 (by decide) ?_
              have e1 : ¬ HoleQ σ rg cp q k := fun z => c_69 (r5.mpr z.2.2.2)
              rw [show 2 * k + 1 + 2 = 2 * (k + 1) + 1 by omega] at hl
              refine ih (k + 1) H locs w (by omega) (fun i hi => ?_) ls (lv_sub hl [0, 2, 3, 4, 5] rfl)
              rcases Nat.lt_or_eq_of_le (Nat.le_of_lt_succ hi) with z | z
              · exact hno i z
              · rw [z]; exact e1
            · exact KR k H locs ls (by omega) ⟨hn, c_40, c_51, r5.mp c_69⟩ w
      · rw [if_neg hn]
        refine lv_istore (lv' := [(5, .int (-1)), (4, .int (nI (2 * k + 1))), (3, .int (nI q)), (0, .ref h0), (1, .int (nI rg)), (2, .int (nI cp))]) C.1 C.2.1 dX2_isHole_26 hl (by decide) rfl (fun ls hl => ?_)
        refine lv_iload C.1 C.2.1 dX2_isHole_28 (lv_at hl 0 rfl) ?_
        refine lv_if_lt (tgt := 74) C.1 C.2.1 dX2_isHole_30 (by decide) (fun c_30 => ?_) (fun c_30 => ?_)
        · refine lv_iinc (lv' := [(4, .int (nI ((2 * k + 1) + 2))), (5, .int (-1)), (3, .int (nI q)), (0, .ref h0), (1, .int (nI rg)), (2, .int (nI cp))]) C.1 C.2.1 dX2_isHole_74 hl (k := 1) rfl (nI_add _ _) (by decide) rfl (fun ls hl => ?_)
          refine lv_goto (tgt := 12) C.1 C.2.1 dX2_isHole_77 (by decide) ?_
          have e1 : ¬ HoleQ σ rg cp q k := fun z => hn z.1
          rw [show 2 * k + 1 + 2 = 2 * (k + 1) + 1 by omega] at hl
          refine ih (k + 1) H locs w (by omega) (fun i hi => ?_) ls (lv_sub hl [0, 2, 3, 4, 5] rfl)
          rcases Nat.lt_or_eq_of_le (Nat.le_of_lt_succ hi) with z | z
          · exact hno i z
          · rw [z]; exact e1
        · exact absurd (by decide) c_30
theorem hl_out {rg cp : Nat} (C : zC p m c cX2_isHole 6 s args RX2) (hrg : rg < 196) (hcp : cp < 196) (KR : ∀ H locs ls, HoleP σ rg cp → mlW G h0 r d A s H0 H locs σ → W p l e (rmF 1 24) s m args below meth c H locs 0 0 Q (F0 m 72 ls [])) (KX : ∀ H locs ls, ¬ HoleP σ rg cp → mlW G h0 r d A s H0 H locs σ → W p l e (rmF 1 24) s m args below meth c H locs 0 0 Q (F0 m 86 ls [])) :
    ∀ n q H locs, mlW G h0 r d A s H0 H locs σ → q + n = 196 → (∀ q' i, q' < q → i < 4 → ¬ HoleQ σ rg cp q' i) → ∀ ls, lv_has ls 6 [(3, .int (nI q)), (0, .ref h0), (1, .int (nI rg)), (2, .int (nI cp))] → W p l e (rmF 1 24) s m args below meth c H locs 0 0 Q (F0 m 2 ls []) := by
  intro n
  induction n with
  | zero =>
    intro q H locs w hn hno ls hl
    refine lv_iload_n C.1 C.2.1 dX2_isHole_2 rfl (lv_at hl 0 rfl) ?_
    refine lv_sipush (v := nI 196) C.1 C.2.1 dX2_isHole_3 (by decide) ?_
    refine z_cmp_ge (tgt := 86) C dX2_isHole_6 (by decide) (by omega) (by omega) (fun c_6 => ?_) (fun c_6 => ?_)
    · exact KX H locs ls (fun z => by obtain ⟨q', i, h1, h2, h3⟩ := z; exact hno q' i (by omega) h2 h3) w
    · exact absurd c_6 (by omega)
  | succ n ih =>
    intro q H locs w hn hno ls hl
    refine lv_iload_n C.1 C.2.1 dX2_isHole_2 rfl (lv_at hl 0 rfl) ?_
    refine lv_sipush (v := nI 196) C.1 C.2.1 dX2_isHole_3 (by decide) ?_
    refine z_cmp_ge (tgt := 86) C dX2_isHole_6 (by decide) (by omega) (by omega) (fun c_6 => ?_) (fun c_6 => ?_)
    · exact absurd c_6 (by omega)
    · refine lv_iconst (v := nI 1) C.1 C.2.1 dX2_isHole_9 (by decide) ?_
      refine lv_istore (lv' := [(4, .int (nI 1)), (3, .int (nI q)), (0, .ref h0), (1, .int (nI rg)), (2, .int (nI cp))]) C.1 C.2.1 dX2_isHole_10 hl (by decide) rfl (fun ls hl => ?_)
      refine hl_in C (by omega) hrg hcp (fun i H locs ls hi hh w => KR H locs ls ⟨q, i, by omega, hi, hh⟩ w) (fun H locs ls hno2 w hl => ?_) 4 0 _ _ w (by omega) (fun i hi => absurd hi (Nat.not_lt_zero _)) ls (lv_sub hl [0, 1, 2, 3, 4] rfl)
      refine lv_iinc (lv' := [(3, .int (nI (q + 1))), (0, .ref h0), (1, .int (nI rg)), (2, .int (nI cp))]) C.1 C.2.1 dX2_isHole_80 hl (k := 0) rfl (nI_add _ _) (by decide) rfl (fun ls hl => ?_)
      refine lv_goto (tgt := 2) C.1 C.2.1 dX2_isHole_83 (by decide) ?_
      refine ih (q + 1) H locs w (by omega) (fun q' i hq' hi => ?_) ls hl
      rcases Nat.lt_or_eq_of_le (Nat.le_of_lt_succ hq') with z | z
      · exact hno q' i z hi
      · rw [z]; exact hno2 i hi
end
theorem m_isHole (l : Launch) (G : va_G) (h0 : Nat) (r : Nat → Nat) (d : Nat → ClassId) (σ : Nat → Nat → Nat) (rg cp : Nat) (hrg : rg < 196) (hcp : cp < 196) : zMi l yX2_isHole cX2_isHole 6 (some .boolean) (rmF 1 24) G (mlT d) (mlC h0 r d) [.ref h0, .int (nI rg), .int (nI cp)] σ (fun v σ' => ((HoleP σ rg cp ∧ v = nI 1) ∨ (¬ HoleP σ rg cp ∧ v = nI 0)) ∧ σ' = σ) := by
  refine zMi_of (own := RX2) (by decide) rfl (Nat.le_of_ble_eq_true rfl) ?_
  intro p e s m args below meth c A ls C hr hlk w hl
  have hl : lv_has ls 6 [(0, .ref h0), (1, .int (nI rg)), (2, .int (nI cp))] := hl
  have hbd := w.2.2.2.2.2
  refine lv_iconst (v := nI 0) C.1 C.2.1 dX2_isHole_0 (by decide) ?_
  refine lv_istore_n (lv' := [(3, .int (nI 0)), (0, .ref h0), (1, .int (nI rg)), (2, .int (nI cp))]) C.1 C.2.1 dX2_isHole_1 rfl hl (by decide) rfl (fun ls hl => ?_)
  refine hl_out C hrg hcp (fun H locs ls hh w => ?_) (fun H locs ls hh w => ?_) 196 0 _ _ w (by omega) (fun q' i hq' => absurd hq' (Nat.not_lt_zero _)) ls (lv_sub hl [0, 1, 2, 3] rfl)
  · refine lv_iconst (v := nI 1) C.1 C.2.1 dX2_isHole_72 (by decide) ?_
    exact z_zret C hr hlk w (by decide) ⟨Or.inl ⟨hh, rfl⟩, rfl⟩ dX2_isHole_73
  · refine lv_iconst (v := nI 0) C.1 C.2.1 dX2_isHole_86 (by decide) ?_
    exact z_zret C hr hlk w (by decide) ⟨Or.inr ⟨hh, rfl⟩, rfl⟩ dX2_isHole_87
section
variable {p : Program} {l : Launch} {e : Env} {R : Room} {s : State} {m : MethodId} {args : Array Value} {below : List Frame} {meth : Method} {c : Code} {H : Heap} {locs : List Loc} {Q : State → Prop}
variable {G : va_G} {A : Nat → Prop} {H0 : Heap} {σ : Nat → Nat → Nat} {h0 : Nat} {r : Nat → Nat} {d : Nat → ClassId}
theorem ho_loop {f : Nat} (C : zC p m c cX2_holes 5 s args RX2) (hf : f < 196) : ∀ n q H locs, mlW G h0 r d A s H0 H locs σ → 1 ≤ q → q + n = 196 → ∀ ls, lv_has ls 5 [(4, .int (nI q)), (3, .int (nI (ncnt (fun q => 1 ≤ q ∧ (σ 2 q = 0 ∧ σ 3 q = q) ∧ HoleP σ q f) q))), (0, .ref h0), (2, .int (nI f))] → (∀ H locs ls, mlW G h0 r d A s H0 H locs σ → lv_has ls 5 [(3, .int (nI (ncnt (fun q => 1 ≤ q ∧ (σ 2 q = 0 ∧ σ 3 q = q) ∧ HoleP σ q f) 196)))] → W p l e (rmF 5 116) s m args below meth c H locs 0 0 Q (F0 m 58 ls [])) → W p l e (rmF 5 116) s m args below meth c H locs 0 0 Q (F0 m 21 ls []) := by
  intro n
  induction n with
  | zero =>
    intro q H locs w hq1 hn ls hl K
    obtain rfl : q = 196 := by omega
    refine lv_iload C.1 C.2.1 dX2_holes_21 (lv_at hl 0 rfl) ?_
    refine lv_sipush (v := nI 196) C.1 C.2.1 dX2_holes_23 (by decide) ?_
    refine z_cmp_ge (tgt := 58) C dX2_holes_26 (by decide) (by decide) (by omega) (fun c_26 => ?_) (fun c_26 => ?_)
    · exact K H locs ls w (lv_sub hl [1] rfl)
    · exact absurd c_26 (by decide)
  | succ n ih =>
    intro q H locs w hq1 hn ls hl K
    refine lv_iload C.1 C.2.1 dX2_holes_21 (lv_at hl 0 rfl) ?_
    refine lv_sipush (v := nI 196) C.1 C.2.1 dX2_holes_23 (by decide) ?_
    refine z_cmp_ge (tgt := 58) C dX2_holes_26 (by decide) (by omega) (by omega) (fun c_26 => ?_) (fun c_26 => ?_)
    · exact absurd c_26 (by omega)
    · refine lv_aload_n C.1 C.2.1 dX2_holes_29 rfl (lv_at hl 2 rfl) ?_
      refine lv_iload C.1 C.2.1 dX2_holes_30 (lv_at hl 0 rfl) ?_
      refine lv_iconst (v := nI 0) C.1 C.2.1 dX2_holes_32 (by decide) ?_
      refine z_calli (As := [.int (nI q), .int (nI 0)]) C (m_isFirst l G h0 r d σ q 0 (by omega) (by omega)) (cwV 2 C.2.2.2.2 (lw_V q263 q265 qs19 q28 q266) rfl rfl rfl (by decide +kernel) ⟨Nat.le_of_ble_eq_true rfl, Nat.le_of_ble_eq_true rfl⟩) w (ml_rc w) rfl hl.1 rfl (Nat.le_of_ble_eq_true rfl) dX2_holes_33 ⟨Nat.le_refl _, Nat.le_refl _⟩ (fun v1 s1 H locs hp w => ?_)
      obtain ⟨hv, hσ⟩ := hp
      subst hv
      rw [hσ] at w
      refine z_if_eq (tgt := 52) C dX2_holes_36 (by decide) z_ifB (fun c_36 => ?_) (fun c_36 => ?_)
      · refine lv_iinc (lv' := [(4, .int (nI (q + 1))), (3, .int (nI (ncnt (fun q => 1 ≤ q ∧ (σ 2 q = 0 ∧ σ 3 q = q) ∧ HoleP σ q f) q))), (0, .ref h0), (2, .int (nI f))]) C.1 C.2.1 dX2_holes_52 hl (k := 0) rfl (nI_add _ _) (by decide) rfl (fun ls hl => ?_)
        refine lv_goto (tgt := 21) C.1 C.2.1 dX2_holes_55 (by decide) ?_
        rw [← ncnt_s0 (P := (fun q => 1 ≤ q ∧ (σ 2 q = 0 ∧ σ 3 q = q) ∧ HoleP σ q f)) (n := q) (fun z => z_ifN c_36 z.2.1)] at hl
        exact ih (q + 1) H locs w (by omega) (by omega) ls (lv_sub hl [0, 1, 2, 3] rfl) K
      · refine lv_aload_n C.1 C.2.1 dX2_holes_39 rfl (lv_at hl 2 rfl) ?_
        refine lv_iload C.1 C.2.1 dX2_holes_40 (lv_at hl 0 rfl) ?_
        refine lv_iload_n C.1 C.2.1 dX2_holes_42 rfl (lv_at hl 3 rfl) ?_
        refine z_calli (As := [.int (nI q), .int (nI f)]) C (m_isHole l G h0 r d σ q f (by omega) hf) (cwV 2 C.2.2.2.2 (lw_V q295 q297 qs23 q28 q298) rfl rfl rfl (by decide +kernel) ⟨Nat.le_of_ble_eq_true rfl, Nat.le_of_ble_eq_true rfl⟩) w (ml_rc w) rfl hl.1 rfl (Nat.le_of_ble_eq_true rfl) dX2_holes_43 ⟨Nat.le_refl _, Nat.le_refl _⟩ (fun v1 s1 H locs hp w => ?_)
        obtain ⟨hv, hσ⟩ := hp
        rw [hσ] at w
        rcases hv with ⟨hh, rfl⟩ | ⟨hh, rfl⟩
        · refine z_if_eq (tgt := 52) C dX2_holes_46 (by decide) (by decide) (fun c_46 => ?_) (fun c_46 => ?_)
          · exact absurd c_46 (by decide)
          · refine lv_iinc (lv' := [(3, .int (nI ((ncnt (fun q => 1 ≤ q ∧ (σ 2 q = 0 ∧ σ 3 q = q) ∧ HoleP σ q f) q) + 1))), (4, .int (nI q)), (0, .ref h0), (2, .int (nI f))]) C.1 C.2.1 dX2_holes_49 hl (k := 1) rfl (nI_add _ _) (by decide) rfl (fun ls hl => ?_)
            refine lv_iinc (lv' := [(4, .int (nI (q + 1))), (3, .int (nI ((ncnt (fun q => 1 ≤ q ∧ (σ 2 q = 0 ∧ σ 3 q = q) ∧ HoleP σ q f) q) + 1))), (0, .ref h0), (2, .int (nI f))]) C.1 C.2.1 dX2_holes_52 hl (k := 1) rfl (nI_add _ _) (by decide) rfl (fun ls hl => ?_)
            refine lv_goto (tgt := 21) C.1 C.2.1 dX2_holes_55 (by decide) ?_
            rw [← ncnt_s1 (P := (fun q => 1 ≤ q ∧ (σ 2 q = 0 ∧ σ 3 q = q) ∧ HoleP σ q f)) (n := q) (⟨hq1, z_ifP c_36, hh⟩)] at hl
            exact ih (q + 1) H locs w (by omega) (by omega) ls (lv_sub hl [0, 1, 2, 3] rfl) K
        · refine z_if_eq (tgt := 52) C dX2_holes_46 (by decide) (by decide) (fun c_46 => ?_) (fun c_46 => ?_)
          · refine lv_iinc (lv' := [(4, .int (nI (q + 1))), (3, .int (nI (ncnt (fun q => 1 ≤ q ∧ (σ 2 q = 0 ∧ σ 3 q = q) ∧ HoleP σ q f) q))), (0, .ref h0), (2, .int (nI f))]) C.1 C.2.1 dX2_holes_52 hl (k := 0) rfl (nI_add _ _) (by decide) rfl (fun ls hl => ?_)
            refine lv_goto (tgt := 21) C.1 C.2.1 dX2_holes_55 (by decide) ?_
            rw [← ncnt_s0 (P := (fun q => 1 ≤ q ∧ (σ 2 q = 0 ∧ σ 3 q = q) ∧ HoleP σ q f)) (n := q) (fun z => hh z.2.2)] at hl
            exact ih (q + 1) H locs w (by omega) (by omega) ls (lv_sub hl [0, 1, 2, 3] rfl) K
          · exact absurd rfl c_46
end
theorem m_mholes (l : Launch) (G : va_G) (h0 : Nat) (r : Nat → Nat) (d : Nat → ClassId) (σ : Nat → Nat → Nat) (K : Int32) (hb : Pic (σ 2)) : zMi l yX2_holes cX2_holes 5 (some .int) (rmF 5 116) G (mlT d) (mlC h0 r d) [.ref h0, .int K] σ (fun v σ' => ((∃ f, (f < 196 ∧ (frF σ 2 f = 1 ∧ frF σ 3 f = f) ∧ nI (ncnt (fun q => (frF σ) 2 q = 1 ∧ (frF σ) 3 q = q) f) = K) ∧ v = nI (ncnt (fun q => 1 ≤ q ∧ ((fcF (frF σ)) 2 q = 0 ∧ (fcF (frF σ)) 3 q = q) ∧ HoleP (fcF (frF σ)) q f) 196)) ∨ (v = -1 ∧ (∀ q, q < 196 → frF σ 2 q = 1 ∧ frF σ 3 q = q → nI (ncnt (fun q => (frF σ) 2 q = 1 ∧ (frF σ) 3 q = q) q) ≠ K))) ∧ (∀ k', k' < 3 → σ' k' = σ k')) := by
  refine zMi_of (own := RX2) (by decide) rfl (Nat.le_of_ble_eq_true rfl) ?_
  intro p e s m args below meth c A ls C hr hlk w hl
  have hl : lv_has ls 5 [(0, .ref h0), (1, .int K)] := hl
  have hbd := w.2.2.2.2.2
  have e0 : ∀ k', k' < 3 → frF σ k' = σ k' := fun k' h => (frF_ok σ).1 k' (by omega)
  have e1 : Pic (frF σ 2) → ∀ k', k' < 3 → fcF (frF σ) k' = σ k' := fun hb k' h => by rw [(fcF_ok (frF σ) hb).1 k' (by omega)]; exact e0 k' h
  replace e1 := e1 (by rw [e0 2 (by decide)]; exact hb)
  refine lv_aload_n C.1 C.2.1 dX2_holes_0 rfl (lv_at hl 0 rfl) ?_
  refine lv_iload_n C.1 C.2.1 dX2_holes_1 rfl (lv_at hl 1 rfl) ?_
  refine z_calli (As := [.int K]) C (m_firstOf l G h0 r d σ K) (cwV 1 C.2.2.2.2 (lw_V q279 q281 qs20 q28 q282) rfl rfl rfl (by decide +kernel) ⟨Nat.le_of_ble_eq_true rfl, Nat.le_of_ble_eq_true rfl⟩) w (ml_rc w) rfl hl.1 rfl (Nat.le_of_ble_eq_true rfl) dX2_holes_2 ⟨Nat.le_refl _, Nat.le_refl _⟩ (fun v1 s1 H locs hp w => ?_)
  obtain ⟨hv, hσ⟩ := hp
  rw [hσ] at w
  have hbd := w.2.2.2.2.2
  rcases hv with ⟨f, ⟨f1, f2, f3⟩, rfl⟩ | ⟨rfl, hno⟩
  · refine lv_istore_n (lv' := [(2, .int (nI f)), (0, .ref h0), (1, .int K)]) C.1 C.2.1 dX2_holes_5 rfl hl (by decide) rfl (fun ls hl => ?_)
    refine lv_iload_n C.1 C.2.1 dX2_holes_6 rfl (lv_at hl 0 rfl) ?_
    refine z_if_ge (tgt := 12) C dX2_holes_7 (by decide) (by omega) ?_
    refine lv_aload_n C.1 C.2.1 dX2_holes_12 rfl (lv_at hl 1 rfl) ?_
    refine z_callv (As := []) C (m_findChanges l G h0 r d (frF σ)) (cwV 0 C.2.2.2.2 (lw_V q287 q289 qs21 q28 q290) rfl rfl rfl (by decide +kernel) ⟨Nat.le_of_ble_eq_true rfl, Nat.le_of_ble_eq_true rfl⟩) w (ml_rc w) rfl hl.1 rfl (Nat.le_of_ble_eq_true rfl) dX2_holes_13 ⟨Nat.le_refl _, Nat.le_refl _⟩ (fun s1 H locs hp w => ?_)
    have hσ := hp
    rw [hσ] at w
    refine lv_iconst (v := nI 0) C.1 C.2.1 dX2_holes_16 (by decide) ?_
    refine lv_istore_n (lv' := [(3, .int (nI 0)), (2, .int (nI f)), (0, .ref h0), (1, .int K)]) C.1 C.2.1 dX2_holes_17 rfl hl (by decide) rfl (fun ls hl => ?_)
    refine lv_iconst (v := nI 1) C.1 C.2.1 dX2_holes_18 (by decide) ?_
    refine lv_istore (lv' := [(4, .int (nI 1)), (3, .int (nI 0)), (2, .int (nI f)), (0, .ref h0), (1, .int K)]) C.1 C.2.1 dX2_holes_19 hl (by decide) rfl (fun ls hl => ?_)
    have e9 : ncnt (fun q => 1 ≤ q ∧ ((fcF (frF σ)) 2 q = 0 ∧ (fcF (frF σ)) 3 q = q) ∧ HoleP (fcF (frF σ)) q f) 1 = 0 := ncnt_none (fun p hp z => absurd z.1 (by omega))
    rw [show nI 0 = nI (ncnt (fun q => 1 ≤ q ∧ ((fcF (frF σ)) 2 q = 0 ∧ (fcF (frF σ)) 3 q = q) ∧ HoleP (fcF (frF σ)) q f) 1) by rw [e9]] at hl
    refine ho_loop (σ := fcF (frF σ)) C f1 195 1 _ _ w (by omega) (by omega) ls (lv_sub hl [0, 1, 3, 2] rfl) (fun H locs ls w hl => ?_)
    refine lv_iload_n C.1 C.2.1 dX2_holes_58 rfl (lv_at hl 0 rfl) ?_
    exact z_iret C hr hlk w ⟨Or.inl ⟨f, ⟨f1, f2, f3⟩, rfl⟩, e1⟩ dX2_holes_59
  · refine lv_istore_n (lv' := [(2, .int (-1)), (0, .ref h0), (1, .int K)]) C.1 C.2.1 dX2_holes_5 rfl hl (by decide) rfl (fun ls hl => ?_)
    refine lv_iload_n C.1 C.2.1 dX2_holes_6 rfl (lv_at hl 0 rfl) ?_
    refine lv_if_ge (tgt := 12) C.1 C.2.1 dX2_holes_7 (by decide) (fun c_7 => ?_) (fun c_7 => ?_)
    · exact absurd c_7 (by decide)
    · refine lv_iconst (v := (-1)) C.1 C.2.1 dX2_holes_10 (by decide) ?_
      exact z_iret C hr hlk w ⟨Or.inr ⟨rfl, hno⟩, e0⟩ dX2_holes_11
