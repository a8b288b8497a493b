set_option maxRecDepth 100000
/-! ===== CompLabelModel: around, enclosed ===== -/
def AroQ (s : Nat → Nat → Nat) (f q : Nat) : Prop := (s 2 q = 1 ∧ s 3 q = q) ∧ s 4 q + 2 = s 4 f ∧ anc (s 2) q (rt (s 2) f) = q
section
variable {p : Program} {l : Launch} {e : Env} {R : Room} {s : State} {m : MethodId} {args : Array Value} {below : List Frame} {meth : Method} {c : Code} {H : Heap} {locs : List Loc} {Q : State → Prop}
variable {G : va_G} {A : Nat → Prop} {H0 : Heap} {σ : Nat → Nat → Nat} {h0 : Nat} {r : Nat → Nat} {d : Nat → ClassId}
theorem ao_loop {f : Nat} (C : zC p m c cX2_around 4 s args RX2) (hb : Pic (σ 2)) (hρ : ∀ z, z < 196 → σ 3 z = rt (σ 2) z) (hf : f < 196)
    (KR : ∀ q μ H locs ls, q < 196 → AroQ σ f q → (∀ q', q' < q → ¬ AroQ σ f q') → (∀ k', k' ≠ 5 → μ k' = σ k') → mlW G h0 r d A s H0 H locs μ → lv_has ls 4 [(3, .int (nI q)), (0, .ref h0)] → W p l e (rmF 5 116) s m args below meth c H locs 0 0 Q (F0 m 65 ls []))
    (KX : ∀ μ H locs ls, (∀ q', q' < 196 → ¬ AroQ σ f q') → (∀ k', k' ≠ 5 → μ k' = σ k') → mlW G h0 r d A s H0 H locs μ → W p l e (rmF 5 116) s m args below meth c H locs 0 0 Q (F0 m 78 ls [])) :
    ∀ n q μ H locs, mlW G h0 r d A s H0 H locs μ → (∀ k', k' ≠ 5 → μ k' = σ k') → q + n = 196 → (∀ q', q' < q → ¬ AroQ σ f q') → ∀ ls, lv_has ls 4 [(3, .int (nI q)), (0, .ref h0), (2, .int (nI f))] → W p l e (rmF 5 116) s m args below meth c H locs 0 0 Q (F0 m 18 ls []) := by
  intro n
  induction n with
  | zero =>
    intro q μ H locs w hμ hn hno ls hl
    obtain rfl : q = 196 := by omega
    refine lv_iload_n C.1 C.2.1 dX2_around_18 rfl (lv_at hl 0 rfl) ?_
    refine lv_sipush (v := nI 196) C.1 C.2.1 dX2_around_19 (by decide) ?_
    refine z_cmp_ge (tgt := 78) C dX2_around_22 (by decide) (by decide) (by omega) (fun c_22 => ?_) (fun c_22 => ?_)
    · exact KX μ H locs ls hno hμ w
    · exact absurd c_22 (by decide)
  | succ n ih =>
    intro q μ H locs w hμ hn hno ls hl
    have e2 := hμ 2 (by decide)
    have e3 := hμ 3 (by decide)
    have e4 := hμ 4 (by decide)
    have b1 := w.2.2.2.2.2 4 q
    have b2 := w.2.2.2.2.2 4 f
    have r5 := z_eqs b1 b2 (k := 2) (by decide)
    rw [e4] at r5
    refine lv_iload_n C.1 C.2.1 dX2_around_18 rfl (lv_at hl 0 rfl) ?_
    refine lv_sipush (v := nI 196) C.1 C.2.1 dX2_around_19 (by decide) ?_
    refine z_cmp_ge (tgt := 78) C dX2_around_22 (by decide) (by omega) (by omega) (fun c_22 => ?_) (fun c_22 => ?_)
    · exact absurd c_22 (by omega)
    · refine lv_aload_n C.1 C.2.1 dX2_around_25 rfl (lv_at hl 1 rfl) ?_
      refine lv_iload_n C.1 C.2.1 dX2_around_26 rfl (lv_at hl 0 rfl) ?_
      refine lv_iconst (v := nI 1) C.1 C.2.1 dX2_around_27 (by decide) ?_
      refine z_calli (As := [.int (nI q), .int (nI 1)]) C (m_isFirst l G h0 r d μ q 1 (by omega) (by omega)) (cwV 2 C.2.2.2.2 (lw_V q263 q265 qs19 q28 q266) rfl rfl rfl (by decide +kernel) ⟨Nat.le_of_ble_eq_true rfl, Nat.le_of_ble_eq_true rfl⟩) w (ml_rc w) rfl hl.1 rfl (Nat.le_of_ble_eq_true rfl) dX2_around_28 ⟨Nat.le_refl _, Nat.le_refl _⟩ (fun v1 s1 H locs hp w => ?_)
      obtain ⟨hv, hσ⟩ := hp
      subst hv
      rw [hσ] at w
      refine z_if_eq (tgt := 72) C dX2_around_31 (by decide) z_ifB (fun c_31 => ?_) (fun c_31 => ?_)
      · refine lv_iinc (lv' := [(3, .int (nI (q + 1))), (0, .ref h0), (2, .int (nI f))]) C.1 C.2.1 dX2_around_72 hl (k := 0) rfl (nI_add _ _) (by decide) rfl (fun ls hl => ?_)
        refine lv_goto (tgt := 18) C.1 C.2.1 dX2_around_75 (by decide) ?_
        have e9 : ¬ AroQ σ f q := fun z => z_ifN c_31 (by rw [e2, e3]; exact z.1)
        refine ih (q + 1) μ H locs w hμ (by omega) (fun q' hq' => ?_) ls (lv_sub hl [0, 1, 2] rfl)
        rcases Nat.lt_or_eq_of_le (Nat.le_of_lt_succ hq') with z | z
        · exact hno q' z
        · rw [z]; exact e9
      · refine lv_aload_n C.1 C.2.1 dX2_around_34 rfl (lv_at hl 1 rfl) ?_
        refine ml_g4 C w dX2_around_35 ?_
        refine lv_iload_n C.1 C.2.1 dX2_around_38 rfl (lv_at hl 0 rfl) ?_
        refine ml_l4 C w (by omega) dX2_around_39 ?_
        refine lv_aload_n C.1 C.2.1 dX2_around_40 rfl (lv_at hl 1 rfl) ?_
        refine ml_g4 C w dX2_around_41 ?_
        refine lv_iload_n C.1 C.2.1 dX2_around_44 rfl (lv_at hl 2 rfl) ?_
        refine ml_l4 C w (by omega) dX2_around_45 ?_
        refine lv_iconst (v := nI 2) C.1 C.2.1 dX2_around_46 (by decide) ?_
        refine lv_isub C.1 C.2.1 dX2_around_47 ?_
        refine lv_icmp_ne (tgt := 72) C.1 C.2.1 dX2_around_48 (by decide) (fun c_48 => ?_) (fun c_48 => ?_)
        · refine lv_iinc (lv' := [(3, .int (nI (q + 1))), (0, .ref h0), (2, .int (nI f))]) C.1 C.2.1 dX2_around_72 hl (k := 0) rfl (nI_add _ _) (by decide) rfl (fun ls hl => ?_)
          refine lv_goto (tgt := 18) C.1 C.2.1 dX2_around_75 (by decide) ?_
          have e9 : ¬ AroQ σ f q := fun z => c_48 (by rw [e4]; exact r5.mpr z.2.1)
          refine ih (q + 1) μ H locs w hμ (by omega) (fun q' hq' => ?_) ls (lv_sub hl [0, 1, 2] rfl)
          rcases Nat.lt_or_eq_of_le (Nat.le_of_lt_succ hq') with z | z
          · exact hno q' z
          · rw [z]; exact e9
        · refine lv_aload_n C.1 C.2.1 dX2_around_51 rfl (lv_at hl 1 rfl) ?_
          refine lv_iload_n C.1 C.2.1 dX2_around_52 rfl (lv_at hl 0 rfl) ?_
          refine z_callv (As := [.int (nI q)]) C (m_findReached l G h0 r d μ q (by omega)) (cwV 1 C.2.2.2.2 (lw_V q303 q305 qs24 q28 q306) rfl rfl rfl (by decide +kernel) ⟨Nat.le_of_ble_eq_true rfl, Nat.le_of_ble_eq_true rfl⟩) w (ml_rc w) rfl hl.1 rfl (Nat.le_of_ble_eq_true rfl) dX2_around_53 ⟨Nat.le_refl _, Nat.le_refl _⟩ (fun s2 H locs hp w => ?_)
          have hσ := hp
          rw [hσ] at w
          have hfirst := z_ifP c_31
          rw [e2, e3] at hfirst
          have c48 := r5.mp (by rw [e4] at c_48; exact c_48)
          obtain ⟨g1, g2⟩ := faF_ok μ q (by rw [e2]; exact hb) (fun z hz => by rw [e2, e3]; exact hρ z hz) (by omega) (by rw [e2, hfirst.1]; decide)
          rw [e2] at g2
          have g3 : ∀ k', k' ≠ 5 → faF q μ k' = σ k' := fun k' h => by rw [g1 k' h]; exact hμ k' h
          have b5 := w.2.2.2.2.2 5 f
          refine lv_aload_n C.1 C.2.1 dX2_around_56 rfl (lv_at hl 1 rfl) ?_
          refine ml_g5 C w dX2_around_57 ?_
          refine lv_iload_n C.1 C.2.1 dX2_around_60 rfl (lv_at hl 2 rfl) ?_
          refine ml_l5 C w (by omega) dX2_around_61 ?_
          refine z_if_ne (tgt := 72) C dX2_around_62 (by decide) (by omega) (fun c_62 => ?_) (fun c_62 => ?_)
          · refine lv_iinc (lv' := [(3, .int (nI (q + 1))), (0, .ref h0), (2, .int (nI f))]) C.1 C.2.1 dX2_around_72 hl (k := 0) rfl (nI_add _ _) (by decide) rfl (fun ls hl => ?_)
            refine lv_goto (tgt := 18) C.1 C.2.1 dX2_around_75 (by decide) ?_
            have e9 : ¬ AroQ σ f q := fun z => ((g2 f hf).mp c_62) z.2.2
            refine ih (q + 1) (faF q μ) H locs w g3 (by omega) (fun q' hq' => ?_) ls (lv_sub hl [0, 1, 2] rfl)
            rcases Nat.lt_or_eq_of_le (Nat.le_of_lt_succ hq') with z | z
            · exact hno q' z
            · rw [z]; exact e9
          · refine KR q (faF q μ) H locs ls (by omega) ⟨hfirst, c48, Classical.not_not.mp (fun z => ((g2 f hf).mpr z) c_62)⟩ hno g3 w (lv_sub hl [0, 1] rfl)
end
theorem m_maround (l : Launch) (G : va_G) (h0 : Nat) (r : Nat → Nat) (d : Nat → ClassId) (σ : Nat → Nat → Nat) (K : Int32) (hb : Pic (σ 2)) : zMi l yX2_around cX2_around 4 (some .int) (rmF 5 116) G (mlT d) (mlC h0 r d) [.ref h0, .int K] σ (fun v σ' => ((∃ f, (f < 196 ∧ (frF σ 2 f = 1 ∧ frF σ 3 f = f) ∧ nI (ncnt (fun q => (frF σ) 2 q = 1 ∧ (frF σ) 3 q = q) f) = K) ∧ ((∃ q, q < 196 ∧ AroQ (fcF (frF σ)) f q ∧ (∀ q', q' < q → ¬ AroQ (fcF (frF σ)) f q') ∧ v = nI (ncnt (fun q => (fcF (frF σ)) 2 q = 1 ∧ (fcF (frF σ)) 3 q = q) q)) ∨ (v = -2 ∧ ∀ q', q' < 196 → ¬ AroQ (fcF (frF σ)) f q'))) ∨ (v = -1 ∧ (∀ q, q < 196 → frF σ 2 q = 1 ∧ frF σ 3 q = q → nI (ncnt (fun q => (frF σ) 2 q = 1 ∧ (frF σ) 3 q = q) q) ≠ K))) ∧ (∀ k', k' < 3 → σ' k' = σ k')) := by
  refine zMi_of (own := RX2) (by decide) rfl (Nat.le_of_ble_eq_true rfl) ?_
  intro p e s m args below meth c A ls C hr hlk w hl
  have hl : lv_has ls 4 [(0, .ref h0), (1, .int K)] := hl
  have hbd := w.2.2.2.2.2
  have e0 : ∀ k', k' < 3 → frF σ k' = σ k' := fun k' h => (frF_ok σ).1 k' (by omega)
  have hb1 : Pic (frF σ 2) := by rw [e0 2 (by decide)]; exact hb
  have e1 : ∀ k', k' < 3 → fcF (frF σ) k' = σ k' := fun k' h => by rw [(fcF_ok (frF σ) hb1).1 k' (by omega)]; exact e0 k' h
  have hb2 : Pic (fcF (frF σ) 2) := by rw [e1 2 (by decide)]; exact hb
  have hρ : ∀ z, z < 196 → fcF (frF σ) 3 z = rt (fcF (frF σ) 2) z := fun z hz => by rw [(fcF_ok (frF σ) hb1).1 3 (by decide), e1 2 (by decide)]; exact (frF_ok σ).2 z hz
  refine lv_aload_n C.1 C.2.1 dX2_around_0 rfl (lv_at hl 0 rfl) ?_
  refine lv_iload_n C.1 C.2.1 dX2_around_1 rfl (lv_at hl 1 rfl) ?_
  refine z_calli (As := [.int K]) C (m_firstOf l G h0 r d σ K) (cwV 1 C.2.2.2.2 (lw_V q279 q281 qs20 q28 q282) rfl rfl rfl (by decide +kernel) ⟨Nat.le_of_ble_eq_true rfl, Nat.le_of_ble_eq_true rfl⟩) w (ml_rc w) rfl hl.1 rfl (Nat.le_of_ble_eq_true rfl) dX2_around_2 ⟨Nat.le_refl _, Nat.le_refl _⟩ (fun v1 s1 H locs hp w => ?_)
  obtain ⟨hv, hσ⟩ := hp
  rw [hσ] at w
  have hbd := w.2.2.2.2.2
  rcases hv with ⟨f, ⟨f1, f2, f3⟩, rfl⟩ | ⟨rfl, hno⟩
  · refine lv_istore_n (lv' := [(2, .int (nI f)), (0, .ref h0), (1, .int K)]) C.1 C.2.1 dX2_around_5 rfl hl (by decide) rfl (fun ls hl => ?_)
    refine lv_iload_n C.1 C.2.1 dX2_around_6 rfl (lv_at hl 0 rfl) ?_
    refine z_if_ge (tgt := 12) C dX2_around_7 (by decide) (by omega) ?_
    refine lv_aload_n C.1 C.2.1 dX2_around_12 rfl (lv_at hl 1 rfl) ?_
    refine z_callv (As := []) C (m_findChanges l G h0 r d (frF σ)) (cwV 0 C.2.2.2.2 (lw_V q287 q289 qs21 q28 q290) rfl rfl rfl (by decide +kernel) ⟨Nat.le_of_ble_eq_true rfl, Nat.le_of_ble_eq_true rfl⟩) w (ml_rc w) rfl hl.1 rfl (Nat.le_of_ble_eq_true rfl) dX2_around_13 ⟨Nat.le_refl _, Nat.le_refl _⟩ (fun s1 H locs hp w => ?_)
    have hσ := hp
    rw [hσ] at w
    refine lv_iconst (v := nI 0) C.1 C.2.1 dX2_around_16 (by decide) ?_
    refine lv_istore_n (lv' := [(3, .int (nI 0)), (2, .int (nI f)), (0, .ref h0), (1, .int K)]) C.1 C.2.1 dX2_around_17 rfl hl (by decide) rfl (fun ls hl => ?_)
    refine ao_loop (σ := fcF (frF σ)) C hb2 hρ f1 (fun q μ H locs ls h1 h2 h3 h4 w hl => ?_) (fun μ H locs ls h1 h4 w => ?_) 196 0 _ _ _ w (fun _ _ => rfl) (by omega) (fun q' hq' => absurd hq' (Nat.not_lt_zero _)) ls (lv_sub hl [0, 2, 1] rfl)
    · refine lv_aload_n C.1 C.2.1 dX2_around_65 rfl (lv_at hl 1 rfl) ?_
      refine lv_iconst (v := nI 1) C.1 C.2.1 dX2_around_66 (by decide) ?_
      refine lv_iload_n C.1 C.2.1 dX2_around_67 rfl (lv_at hl 0 rfl) ?_
      refine z_calli (As := [.int (nI 1), .int (nI q)]) C (m_count l G h0 r d μ 1 q (by decide) (by omega)) (cwV 2 C.2.2.2.2 (lw_V q259 q261 qs18 q28 q262) rfl rfl rfl (by decide +kernel) ⟨Nat.le_of_ble_eq_true rfl, Nat.le_of_ble_eq_true rfl⟩) w (ml_rc w) rfl hl.1 rfl (Nat.le_of_ble_eq_true rfl) dX2_around_68 ⟨Nat.le_refl _, Nat.le_refl _⟩ (fun v2 s2 H locs hp w => ?_)
      obtain ⟨hv, hσ⟩ := hp
      subst hv
      rw [hσ] at w
      exact z_iret C hr hlk w ⟨Or.inl ⟨f, ⟨f1, f2, f3⟩, Or.inl ⟨q, h1, h2, h3, by rw [h4 2 (by decide), h4 3 (by decide)]⟩⟩, (fun k' h => by rw [h4 k' (by omega)]; exact e1 k' h)⟩ dX2_around_71
    · refine lv_bipush (v := (-2)) C.1 C.2.1 dX2_around_78 (by decide) ?_
      exact z_iret C hr hlk w ⟨Or.inl ⟨f, ⟨f1, f2, f3⟩, Or.inr ⟨rfl, h1⟩⟩, (fun k' h => by rw [h4 k' (by omega)]; exact e1 k' h)⟩ dX2_around_80
  · refine lv_istore_n (lv' := [(2, .int (-1)), (0, .ref h0), (1, .int K)]) C.1 C.2.1 dX2_around_5 rfl hl (by decide) rfl (fun ls hl => ?_)
    refine lv_iload_n C.1 C.2.1 dX2_around_6 rfl (lv_at hl 0 rfl) ?_
    refine lv_if_ge (tgt := 12) C.1 C.2.1 dX2_around_7 (by decide) (fun c_7 => ?_) (fun c_7 => ?_)
    · exact absurd c_7 (by decide)
    · refine lv_iconst (v := (-1)) C.1 C.2.1 dX2_around_10 (by decide) ?_
      exact z_iret C hr hlk w ⟨Or.inr ⟨rfl, hno⟩, e0⟩ dX2_around_11
section
variable {p : Program} {l : Launch} {e : Env} {R : Room} {s : State} {m : MethodId} {args : Array Value} {below : List Frame} {meth : Method} {c : Code} {H : Heap} {locs : List Loc} {Q : State → Prop}
variable {G : va_G} {A : Nat → Prop} {H0 : Heap} {σ : Nat → Nat → Nat} {h0 : Nat} {r : Nat → Nat} {d : Nat → ClassId}
theorem en_loop {f : Nat} (C : zC p m c cX2_enclosed 5 s args RX2) (hf : f < 196) : ∀ n q H locs, mlW G h0 r d A s H0 H locs σ → q + n = 196 → ∀ ls, lv_has ls 5 [(4, .int (nI q)), (3, .int (nI (ncnt (fun q => σ 5 q = 0 ∧ σ 3 q ≠ f) q))), (0, .ref h0), (2, .int (nI f))] → (∀ H locs ls, mlW G h0 r d A s H0 H locs σ → lv_has ls 5 [(3, .int (nI (ncnt (fun q => σ 5 q = 0 ∧ σ 3 q ≠ f) 196)))] → W p l e (rmF 5 116) s m args below meth c H locs 0 0 Q (F0 m 60 ls [])) → W p l e (rmF 5 116) s m args below meth c H locs 0 0 Q (F0 m 22 ls []) := by
  intro n
  induction n with
  | zero =>
    intro q H locs w hn ls hl K
    obtain rfl : q = 196 := by omega
    refine lv_iload C.1 C.2.1 dX2_enclosed_22 (lv_at hl 0 rfl) ?_
    refine lv_sipush (v := nI 196) C.1 C.2.1 dX2_enclosed_24 (by decide) ?_
    refine z_cmp_ge (tgt := 60) C dX2_enclosed_27 (by decide) (by decide) (by omega) (fun c_27 => ?_) (fun c_27 => ?_)
    · exact K H locs ls w (lv_sub hl [1] rfl)
    · exact absurd c_27 (by decide)
  | succ n ih =>
    intro q H locs w hn ls hl K
    have b3 := w.2.2.2.2.2 3 q
    have b5 := w.2.2.2.2.2 5 q
    refine lv_iload C.1 C.2.1 dX2_enclosed_22 (lv_at hl 0 rfl) ?_
    refine lv_sipush (v := nI 196) C.1 C.2.1 dX2_enclosed_24 (by decide) ?_
    refine z_cmp_ge (tgt := 60) C dX2_enclosed_27 (by decide) (by omega) (by omega) (fun c_27 => ?_) (fun c_27 => ?_)
    · exact absurd c_27 (by omega)
    · refine lv_aload_n C.1 C.2.1 dX2_enclosed_30 rfl (lv_at hl 2 rfl) ?_
      refine ml_g5 C w dX2_enclosed_31 ?_
      refine lv_iload C.1 C.2.1 dX2_enclosed_34 (lv_at hl 0 rfl) ?_
      refine ml_l5 C w (by omega) dX2_enclosed_36 ?_
      refine z_if_ne (tgt := 54) C dX2_enclosed_37 (by decide) (by omega) (fun c_37 => ?_) (fun c_37 => ?_)
      · refine lv_iinc (lv' := [(4, .int (nI (q + 1))), (3, .int (nI (ncnt (fun q => σ 5 q = 0 ∧ σ 3 q ≠ f) q))), (0, .ref h0), (2, .int (nI f))]) C.1 C.2.1 dX2_enclosed_54 hl (k := 0) rfl (nI_add _ _) (by decide) rfl (fun ls hl => ?_)
        refine lv_goto (tgt := 22) C.1 C.2.1 dX2_enclosed_57 (by decide) ?_
        rw [← ncnt_s0 (P := (fun q => σ 5 q = 0 ∧ σ 3 q ≠ f)) (n := q) (fun z => c_37 z.1)] at hl
        exact ih (q + 1) H locs w (by omega) ls (lv_sub hl [0, 1, 2, 3] rfl) K
      · refine lv_aload_n C.1 C.2.1 dX2_enclosed_40 rfl (lv_at hl 2 rfl) ?_
        refine ml_g3 C w dX2_enclosed_41 ?_
        refine lv_iload C.1 C.2.1 dX2_enclosed_44 (lv_at hl 0 rfl) ?_
        refine ml_l3 C w (by omega) dX2_enclosed_46 ?_
        refine lv_iload_n C.1 C.2.1 dX2_enclosed_47 rfl (lv_at hl 3 rfl) ?_
        refine z_cmp_eq (tgt := 54) C dX2_enclosed_48 (by decide) (by omega) (by omega) (fun c_48 => ?_) (fun c_48 => ?_)
        · refine lv_iinc (lv' := [(4, .int (nI (q + 1))), (3, .int (nI (ncnt (fun q => σ 5 q = 0 ∧ σ 3 q ≠ f) q))), (0, .ref h0), (2, .int (nI f))]) C.1 C.2.1 dX2_enclosed_54 hl (k := 0) rfl (nI_add _ _) (by decide) rfl (fun ls hl => ?_)
          refine lv_goto (tgt := 22) C.1 C.2.1 dX2_enclosed_57 (by decide) ?_
          rw [← ncnt_s0 (P := (fun q => σ 5 q = 0 ∧ σ 3 q ≠ f)) (n := q) (fun z => z.2 c_48)] at hl
          exact ih (q + 1) H locs w (by omega) ls (lv_sub hl [0, 1, 2, 3] rfl) K
        · refine lv_iinc (lv' := [(3, .int (nI ((ncnt (fun q => σ 5 q = 0 ∧ σ 3 q ≠ f) q) + 1))), (4, .int (nI q)), (0, .ref h0), (2, .int (nI f))]) C.1 C.2.1 dX2_enclosed_51 hl (k := 1) rfl (nI_add _ _) (by decide) rfl (fun ls hl => ?_)
          refine lv_iinc (lv' := [(4, .int (nI (q + 1))), (3, .int (nI ((ncnt (fun q => σ 5 q = 0 ∧ σ 3 q ≠ f) q) + 1))), (0, .ref h0), (2, .int (nI f))]) C.1 C.2.1 dX2_enclosed_54 hl (k := 1) rfl (nI_add _ _) (by decide) rfl (fun ls hl => ?_)
          refine lv_goto (tgt := 22) C.1 C.2.1 dX2_enclosed_57 (by decide) ?_
          rw [← ncnt_s1 (P := (fun q => σ 5 q = 0 ∧ σ 3 q ≠ f)) (n := q) (⟨c_37, c_48⟩)] at hl
          exact ih (q + 1) H locs w (by omega) ls (lv_sub hl [0, 1, 2, 3] rfl) K
end
theorem m_menclosed (l : Launch) (G : va_G) (h0 : Nat) (r : Nat → Nat) (d : Nat → ClassId) (σ : Nat → Nat → Nat) (K : Int32) (hb : Pic (σ 2)) : zMi l yX2_enclosed cX2_enclosed 5 (some .int) (rmF 5 116) G (mlT d) (mlC h0 r d) [.ref h0, .int K] σ (fun v σ' => ((∃ f, (f < 196 ∧ (frF σ 2 f = 1 ∧ frF σ 3 f = f) ∧ nI (ncnt (fun q => (frF σ) 2 q = 1 ∧ (frF σ) 3 q = q) f) = K) ∧ v = nI (ncnt (fun q => (faF f (frF σ)) 5 q = 0 ∧ (faF f (frF σ)) 3 q ≠ f) 196)) ∨ (v = -1 ∧ (∀ q, q < 196 → frF σ 2 q = 1 ∧ frF σ 3 q = q → nI (ncnt (fun q => (frF σ) 2 q = 1 ∧ (frF σ) 3 q = q) q) ≠ K))) ∧ (∀ k', k' < 3 → σ' k' = σ k')) := by
  refine zMi_of (own := RX2) (by decide) rfl (Nat.le_of_ble_eq_true rfl) ?_
  intro p e s m args below meth c A ls C hr hlk w hl
  have hl : lv_has ls 5 [(0, .ref h0), (1, .int K)] := hl
  have hbd := w.2.2.2.2.2
  have e0 : ∀ k', k' < 3 → frF σ k' = σ k' := fun k' h => (frF_ok σ).1 k' (by omega)
  have hb1 : Pic (frF σ 2) := by rw [e0 2 (by decide)]; exact hb
  have hρ : ∀ z, z < 196 → frF σ 3 z = rt (frF σ 2) z := fun z hz => by rw [e0 2 (by decide)]; exact (frF_ok σ).2 z hz
  refine lv_aload_n C.1 C.2.1 dX2_enclosed_0 rfl (lv_at hl 0 rfl) ?_
  refine lv_iload_n C.1 C.2.1 dX2_enclosed_1 rfl (lv_at hl 1 rfl) ?_
  refine z_calli (As := [.int K]) C (m_firstOf l G h0 r d σ K) (cwV 1 C.2.2.2.2 (lw_V q279 q281 qs20 q28 q282) rfl rfl rfl (by decide +kernel) ⟨Nat.le_of_ble_eq_true rfl, Nat.le_of_ble_eq_true rfl⟩) w (ml_rc w) rfl hl.1 rfl (Nat.le_of_ble_eq_true rfl) dX2_enclosed_2 ⟨Nat.le_refl _, Nat.le_refl _⟩ (fun v1 s1 H locs hp w => ?_)
  obtain ⟨hv, hσ⟩ := hp
  rw [hσ] at w
  have hbd := w.2.2.2.2.2
  rcases hv with ⟨f, ⟨f1, f2, f3⟩, rfl⟩ | ⟨rfl, hno⟩
  · refine lv_istore_n (lv' := [(2, .int (nI f)), (0, .ref h0), (1, .int K)]) C.1 C.2.1 dX2_enclosed_5 rfl hl (by decide) rfl (fun ls hl => ?_)
    refine lv_iload_n C.1 C.2.1 dX2_enclosed_6 rfl (lv_at hl 0 rfl) ?_
    refine z_if_ge (tgt := 12) C dX2_enclosed_7 (by decide) (by omega) ?_
    refine lv_aload_n C.1 C.2.1 dX2_enclosed_12 rfl (lv_at hl 1 rfl) ?_
    refine lv_iload_n C.1 C.2.1 dX2_enclosed_13 rfl (lv_at hl 0 rfl) ?_
    refine z_callv (As := [.int (nI f)]) C (m_findReached l G h0 r d (frF σ) f (by omega)) (cwV 1 C.2.2.2.2 (lw_V q303 q305 qs24 q28 q306) rfl rfl rfl (by decide +kernel) ⟨Nat.le_of_ble_eq_true rfl, Nat.le_of_ble_eq_true rfl⟩) w (ml_rc w) rfl hl.1 rfl (Nat.le_of_ble_eq_true rfl) dX2_enclosed_14 ⟨Nat.le_refl _, Nat.le_refl _⟩ (fun s1 H locs hp w => ?_)
    have hσ := hp
    rw [hσ] at w
    refine lv_iconst (v := nI 0) C.1 C.2.1 dX2_enclosed_17 (by decide) ?_
    refine lv_istore_n (lv' := [(3, .int (nI 0)), (2, .int (nI f)), (0, .ref h0), (1, .int K)]) C.1 C.2.1 dX2_enclosed_18 rfl hl (by decide) rfl (fun ls hl => ?_)
    refine lv_iconst (v := nI 0) C.1 C.2.1 dX2_enclosed_19 (by decide) ?_
    refine lv_istore (lv' := [(4, .int (nI 0)), (3, .int (nI 0)), (2, .int (nI f)), (0, .ref h0), (1, .int K)]) C.1 C.2.1 dX2_enclosed_20 hl (by decide) rfl (fun ls hl => ?_)
    refine en_loop (σ := faF f (frF σ)) C f1 196 0 _ _ w (by omega) ls (lv_sub hl [0, 1, 3, 2] rfl) (fun H locs ls w hl => ?_)
    have e1 : ∀ k', k' < 3 → faF f (frF σ) k' = σ k' := fun k' h => by rw [(faF_ok (frF σ) f hb1 hρ f1 (by rw [f2.1]; decide)).1 k' (by omega)]; exact e0 k' h
    refine lv_iload_n C.1 C.2.1 dX2_enclosed_60 rfl (lv_at hl 0 rfl) ?_
    exact z_iret C hr hlk w ⟨Or.inl ⟨f, ⟨f1, f2, f3⟩, rfl⟩, e1⟩ dX2_enclosed_61
  · refine lv_istore_n (lv' := [(2, .int (-1)), (0, .ref h0), (1, .int K)]) C.1 C.2.1 dX2_enclosed_5 rfl hl (by decide) rfl (fun ls hl => ?_)
    refine lv_iload_n C.1 C.2.1 dX2_enclosed_6 rfl (lv_at hl 0 rfl) ?_
    refine lv_if_ge (tgt := 12) C.1 C.2.1 dX2_enclosed_7 (by decide) (fun c_7 => ?_) (fun c_7 => ?_)
    · exact absurd c_7 (by decide)
    · refine lv_iconst (v := (-1)) C.1 C.2.1 dX2_enclosed_10 (by decide) ?_
      exact z_iret C hr hlk w ⟨Or.inr ⟨rfl, hno⟩, e0⟩ dX2_enclosed_11
