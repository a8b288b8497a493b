set_option maxRecDepth 100000
/-! ===== CompLabelModel: reached, counts, answers ===== -/
section
variable {p : Program} {l : Launch} {e : Env} {R : Room} {s : State} {m : MethodId} {args : Array Value} {below : List Frame} {meth : Method} {c : Code} {H : Heap} {locs : List Loc} {Q : State → Prop}
variable {G : va_G} {A : Nat → Prop} {H0 : Heap} {σ : Nat → Nat → Nat} {h0 : Nat} {r : Nat → Nat} {d : Nat → ClassId}
theorem sa_in {av q : Nat} (C : zC p m c cX2_spreadReached 6 s args RX2) (hq : q < 196) (hav : av < 196) : ∀ n k σ ch H locs, mlW G h0 r d A s H0 H locs σ → ch < 2 → k + n = 4 → ∀ ls, lv_has ls 6 [(4, .int (nI (2 * k + 1))), (3, .int (nI q)), (2, .int (nI ch)), (0, .ref h0), (1, .int (nI av))] → (∀ H locs ls, mlW G h0 r d A s H0 H locs (fwd (saS av q) n k (σ, ch)).1 → (fwd (saS av q) n k (σ, ch)).2 < 2 → lv_has ls 6 [(3, .int (nI q)), (2, .int (nI ((fwd (saS av q) n k (σ, ch)).2))), (0, .ref h0), (1, .int (nI av))] → W p l e (rmF 1 24) s m args below meth c H locs 0 0 Q (F0 m 81 ls [])) → W p l e (rmF 1 24) s m args below meth c H locs 0 0 Q (F0 m 14 ls []) := by
  intro n
  induction n with
  | zero =>
    intro k σ ch H locs w hch hn ls hl K
    refine lv_iload C.1 C.2.1 dX2_spreadReached_14 (lv_at hl 0 rfl) ?_
    refine lv_bipush (v := nI 9) C.1 C.2.1 dX2_spreadReached_16 (by decide) ?_
    refine z_cmp_ge (tgt := 81) C dX2_spreadReached_18 (by decide) (by omega) (by omega) (fun c_18 => ?_) (fun c_18 => ?_)
    · exact K H locs ls w hch (lv_sub hl [1, 2, 3, 4] rfl)
    · exact absurd c_18 (by omega)
  | succ n ih =>
    intro k σ ch H locs w hch hn ls hl K
    have r1 := w.2.2.2.2.2 5 q
    have r2 := w.2.2.2.2.2 5 (nr q (2 * k + 1))
    have r3 := w.2.2.2.2.2 3 (nr q (2 * k + 1))
    refine lv_iload C.1 C.2.1 dX2_spreadReached_14 (lv_at hl 0 rfl) ?_
    refine lv_bipush (v := nI 9) C.1 C.2.1 dX2_spreadReached_16 (by decide) ?_
    refine z_cmp_ge (tgt := 81) C dX2_spreadReached_18 (by decide) (by omega) (by omega) (fun c_18 => ?_) (fun c_18 => ?_)
    · exact absurd c_18 (by omega)
    · refine lv_aload_n C.1 C.2.1 dX2_spreadReached_21 rfl (lv_at hl 3 rfl) ?_
      refine lv_iload_n C.1 C.2.1 dX2_spreadReached_22 rfl (lv_at hl 1 rfl) ?_
      refine lv_iload C.1 C.2.1 dX2_spreadReached_23 (lv_at hl 0 rfl) ?_
      refine z_calli (As := [.int (nI q), .int (nI (2 * k + 1))]) C (m_near l G h0 r d σ q (2 * k + 1) (by omega) (by omega)) (cwV 2 C.2.2.2.2 (lw_V q247 q249 qs15 q28 q250) rfl rfl rfl (by decide +kernel) ⟨Nat.le_of_ble_eq_true rfl, Nat.le_of_ble_eq_true rfl⟩) w (ml_rc w) rfl hl.1 rfl (Nat.le_of_ble_eq_true rfl) dX2_spreadReached_25 ⟨Nat.le_refl _, Nat.le_refl _⟩ (fun v1 s1 H locs hp w => ?_)
      obtain ⟨hv, hσ⟩ := hp
      subst hv
      rw [hσ] at w
      by_cases hn : nr q (2 * k + 1) < 196
      · rw [if_pos hn]
        refine lv_istore (lv' := [(5, .int (nI (nr q (2 * k + 1)))), (4, .int (nI (2 * k + 1))), (3, .int (nI q)), (2, .int (nI ch)), (0, .ref h0), (1, .int (nI av))]) C.1 C.2.1 dX2_spreadReached_28 hl (by decide) rfl (fun ls hl => ?_)
        refine lv_iload C.1 C.2.1 dX2_spreadReached_30 (lv_at hl 0 rfl) ?_
        refine z_if_lt (tgt := 75) C dX2_spreadReached_32 (by decide) (by omega) ?_
        refine lv_aload_n C.1 C.2.1 dX2_spreadReached_35 rfl (lv_at hl 4 rfl) ?_
        refine ml_g5 C w dX2_spreadReached_36 ?_
        refine lv_iload_n C.1 C.2.1 dX2_spreadReached_39 rfl (lv_at hl 2 rfl) ?_
        refine ml_l5 C w (by omega) dX2_spreadReached_40 ?_
        refine z_if_eq (tgt := 75) C dX2_spreadReached_41 (by decide) (by omega) (fun c_41 => ?_) (fun c_41 => ?_)
        · refine lv_iinc (lv' := [(4, .int (nI ((2 * k + 1) + 2))), (5, .int (nI (nr q (2 * k + 1)))), (3, .int (nI q)), (2, .int (nI ch)), (0, .ref h0), (1, .int (nI av))]) C.1 C.2.1 dX2_spreadReached_75 hl (k := 1) rfl (nI_add _ _) (by decide) rfl (fun ls hl => ?_)
          refine lv_goto (tgt := 14) C.1 C.2.1 dX2_spreadReached_78 (by decide) ?_
          have e1 : saS av q k (σ, ch) = (σ, ch) := if_neg (fun z => z.2.1 c_41)
          rw [show fwd (saS av q) (n + 1) k (σ, ch) = fwd (saS av q) n (k + 1) (saS av q k (σ, ch)) from rfl, e1] at K
          rw [show 2 * k + 1 + 2 = 2 * (k + 1) + 1 by omega] at hl
          exact ih (k + 1) σ ch H locs w hch (by omega) ls (lv_sub hl [0, 2, 3, 4, 5] rfl) K
        · refine lv_aload_n C.1 C.2.1 dX2_spreadReached_44 rfl (lv_at hl 4 rfl) ?_
          refine ml_g5 C w dX2_spreadReached_45 ?_
          refine lv_iload C.1 C.2.1 dX2_spreadReached_48 (lv_at hl 0 rfl) ?_
          refine ml_l5 C w (by omega) dX2_spreadReached_50 ?_
          refine z_if_ne (tgt := 75) C dX2_spreadReached_51 (by decide) (by omega) (fun c_51 => ?_) (fun c_51 => ?_)
          · refine lv_iinc (lv' := [(4, .int (nI ((2 * k + 1) + 2))), (5, .int (nI (nr q (2 * k + 1)))), (3, .int (nI q)), (2, .int (nI ch)), (0, .ref h0), (1, .int (nI av))]) C.1 C.2.1 dX2_spreadReached_75 hl (k := 1) rfl (nI_add _ _) (by decide) rfl (fun ls hl => ?_)
            refine lv_goto (tgt := 14) C.1 C.2.1 dX2_spreadReached_78 (by decide) ?_
            have e1 : saS av q k (σ, ch) = (σ, ch) := if_neg (fun z => c_51 z.2.2.1)
            rw [show fwd (saS av q) (n + 1) k (σ, ch) = fwd (saS av q) n (k + 1) (saS av q k (σ, ch)) from rfl, e1] at K
            rw [show 2 * k + 1 + 2 = 2 * (k + 1) + 1 by omega] at hl
            exact ih (k + 1) σ ch H locs w hch (by omega) ls (lv_sub hl [0, 2, 3, 4, 5] rfl) K
          · refine lv_aload_n C.1 C.2.1 dX2_spreadReached_54 rfl (lv_at hl 4 rfl) ?_
            refine ml_g3 C w dX2_spreadReached_55 ?_
            refine lv_iload C.1 C.2.1 dX2_spreadReached_58 (lv_at hl 0 rfl) ?_
            refine ml_l3 C w (by omega) dX2_spreadReached_60 ?_
            refine lv_iload_n C.1 C.2.1 dX2_spreadReached_61 rfl (lv_at hl 5 rfl) ?_
            refine z_cmp_eq (tgt := 75) C dX2_spreadReached_62 (by decide) (by omega) (by omega) (fun c_62 => ?_) (fun c_62 => ?_)
            · refine lv_iinc (lv' := [(4, .int (nI ((2 * k + 1) + 2))), (5, .int (nI (nr q (2 * k + 1)))), (3, .int (nI q)), (2, .int (nI ch)), (0, .ref h0), (1, .int (nI av))]) C.1 C.2.1 dX2_spreadReached_75 hl (k := 1) rfl (nI_add _ _) (by decide) rfl (fun ls hl => ?_)
              refine lv_goto (tgt := 14) C.1 C.2.1 dX2_spreadReached_78 (by decide) ?_
              have e1 : saS av q k (σ, ch) = (σ, ch) := if_neg (fun z => z.2.2.2 c_62)
              rw [show fwd (saS av q) (n + 1) k (σ, ch) = fwd (saS av q) n (k + 1) (saS av q k (σ, ch)) from rfl, e1] at K
              rw [show 2 * k + 1 + 2 = 2 * (k + 1) + 1 by omega] at hl
              exact ih (k + 1) σ ch H locs w hch (by omega) ls (lv_sub hl [0, 2, 3, 4, 5] rfl) K
            · refine lv_aload_n C.1 C.2.1 dX2_spreadReached_65 rfl (lv_at hl 4 rfl) ?_
              refine ml_g5 C w dX2_spreadReached_66 ?_
              refine lv_iload C.1 C.2.1 dX2_spreadReached_69 (lv_at hl 0 rfl) ?_
              refine lv_iconst (v := nI 1) C.1 C.2.1 dX2_spreadReached_71 (by decide) ?_
              refine ml_s5 C w (by omega) (by omega) dX2_spreadReached_72 (fun H locs w => ?_)
              refine lv_iconst (v := nI 1) C.1 C.2.1 dX2_spreadReached_73 (by decide) ?_
              refine lv_istore_n (lv' := [(2, .int (nI 1)), (5, .int (nI (nr q (2 * k + 1)))), (4, .int (nI (2 * k + 1))), (3, .int (nI q)), (0, .ref h0), (1, .int (nI av))]) C.1 C.2.1 dX2_spreadReached_74 rfl hl (by decide) rfl (fun ls hl => ?_)
              refine lv_iinc (lv' := [(4, .int (nI ((2 * k + 1) + 2))), (2, .int (nI 1)), (5, .int (nI (nr q (2 * k + 1)))), (3, .int (nI q)), (0, .ref h0), (1, .int (nI av))]) C.1 C.2.1 dX2_spreadReached_75 hl (k := 2) rfl (nI_add _ _) (by decide) rfl (fun ls hl => ?_)
              refine lv_goto (tgt := 14) C.1 C.2.1 dX2_spreadReached_78 (by decide) ?_
              have e1 : saS av q k (σ, ch) = (up σ 5 (nr q (2 * k + 1)) 1, 1) := if_pos ⟨hn, c_41, c_51, c_62⟩
              rw [show fwd (saS av q) (n + 1) k (σ, ch) = fwd (saS av q) n (k + 1) (saS av q k (σ, ch)) from rfl, e1] at K
              rw [show 2 * k + 1 + 2 = 2 * (k + 1) + 1 by omega] at hl
              exact ih (k + 1) (up σ 5 (nr q (2 * k + 1)) 1) 1 H locs w (by decide) (by omega) ls (lv_sub hl [0, 3, 1, 4, 5] rfl) K
      · rw [if_neg hn]
        refine lv_istore (lv' := [(5, .int (-1)), (4, .int (nI (2 * k + 1))), (3, .int (nI q)), (2, .int (nI ch)), (0, .ref h0), (1, .int (nI av))]) C.1 C.2.1 dX2_spreadReached_28 hl (by decide) rfl (fun ls hl => ?_)
        refine lv_iload C.1 C.2.1 dX2_spreadReached_30 (lv_at hl 0 rfl) ?_
        refine lv_if_lt (tgt := 75) C.1 C.2.1 dX2_spreadReached_32 (by decide) (fun c_32 => ?_) (fun c_32 => ?_)
        · refine lv_iinc (lv' := [(4, .int (nI ((2 * k + 1) + 2))), (5, .int (-1)), (3, .int (nI q)), (2, .int (nI ch)), (0, .ref h0), (1, .int (nI av))]) C.1 C.2.1 dX2_spreadReached_75 hl (k := 1) rfl (nI_add _ _) (by decide) rfl (fun ls hl => ?_)
          refine lv_goto (tgt := 14) C.1 C.2.1 dX2_spreadReached_78 (by decide) ?_
          have e1 : saS av q k (σ, ch) = (σ, ch) := if_neg (fun z => hn z.1)
          rw [show fwd (saS av q) (n + 1) k (σ, ch) = fwd (saS av q) n (k + 1) (saS av q k (σ, ch)) from rfl, e1] at K
          rw [show 2 * k + 1 + 2 = 2 * (k + 1) + 1 by omega] at hl
          exact ih (k + 1) σ ch H locs w hch (by omega) ls (lv_sub hl [0, 2, 3, 4, 5] rfl) K
        · exact absurd (by decide) c_32
theorem sa_out {av : Nat} (C : zC p m c cX2_spreadReached 6 s args RX2) (hav : av < 196) : ∀ n q σ ch H locs, mlW G h0 r d A s H0 H locs σ → ch < 2 → q + n = 196 → ∀ ls, lv_has ls 6 [(3, .int (nI q)), (2, .int (nI ch)), (0, .ref h0), (1, .int (nI av))] → (∀ H locs ls, mlW G h0 r d A s H0 H locs (fwd (fun p t => fwd (saS av p) 4 0 t) n q (σ, ch)).1 → lv_has ls 6 [(2, .int (nI ((fwd (fun p t => fwd (saS av p) 4 0 t) n q (σ, ch)).2))), (0, .ref h0)] → W p l e (rmF 1 24) s m args below meth c H locs 0 0 Q (F0 m 87 ls [])) → W p l e (rmF 1 24) s m args below meth c H locs 0 0 Q (F0 m 4 ls []) := by
  intro n
  induction n with
  | zero =>
    intro q σ ch H locs w hch hn ls hl K
    refine lv_iload_n C.1 C.2.1 dX2_spreadReached_4 rfl (lv_at hl 0 rfl) ?_
    refine lv_sipush (v := nI 196) C.1 C.2.1 dX2_spreadReached_5 (by decide) ?_
    refine z_cmp_ge (tgt := 87) C dX2_spreadReached_8 (by decide) (by omega) (by omega) (fun c_8 => ?_) (fun c_8 => ?_)
    · exact K H locs ls w (lv_sub hl [1, 2] rfl)
    · exact absurd c_8 (by omega)
  | succ n ih =>
    intro q σ ch H locs w hch hn ls hl K
    refine lv_iload_n C.1 C.2.1 dX2_spreadReached_4 rfl (lv_at hl 0 rfl) ?_
    refine lv_sipush (v := nI 196) C.1 C.2.1 dX2_spreadReached_5 (by decide) ?_
    refine z_cmp_ge (tgt := 87) C dX2_spreadReached_8 (by decide) (by omega) (by omega) (fun c_8 => ?_) (fun c_8 => ?_)
    · exact absurd c_8 (by omega)
    · refine lv_iconst (v := nI 1) C.1 C.2.1 dX2_spreadReached_11 (by decide) ?_
      refine lv_istore (lv' := [(4, .int (nI 1)), (3, .int (nI q)), (2, .int (nI ch)), (0, .ref h0), (1, .int (nI av))]) C.1 C.2.1 dX2_spreadReached_12 hl (by decide) rfl (fun ls hl => ?_)
      refine sa_in C (by omega) hav 4 0 σ ch _ _ w hch (by omega) ls (lv_sub hl [0, 1, 2, 3, 4] rfl) (fun H locs ls w hch hl => ?_)
      rw [show fwd (fun p t => fwd (saS av p) 4 0 t) (n + 1) q (σ, ch) = fwd (fun p t => fwd (saS av p) 4 0 t) n (q + 1) (fwd (saS av q) 4 0 (σ, ch)) from rfl] at K
      generalize fwd (saS av q) 4 0 (σ, ch) = t at w hch hl K
      obtain ⟨τ, ch2⟩ := t
      have hl : lv_has ls 6 [(3, .int (nI q)), (2, .int (nI ch2)), (0, .ref h0), (1, .int (nI av))] := hl
      have w : mlW G h0 r d A s H0 H locs τ := w
      refine lv_iinc (lv' := [(3, .int (nI (q + 1))), (2, .int (nI ch2)), (0, .ref h0), (1, .int (nI av))]) C.1 C.2.1 dX2_spreadReached_81 hl (k := 0) rfl (nI_add _ _) (by decide) rfl (fun ls hl => ?_)
      refine lv_goto (tgt := 4) C.1 C.2.1 dX2_spreadReached_84 (by decide) ?_
      exact ih (q + 1) τ ch2 H locs w hch (by omega) ls (lv_sub hl [0, 1, 2, 3] rfl) K
end
theorem m_spreadReached (l : Launch) (G : va_G) (h0 : Nat) (r : Nat → Nat) (d : Nat → ClassId) (σ : Nat → Nat → Nat) (av : Nat) (hav : av < 196) : zMi l yX2_spreadReached cX2_spreadReached 6 (some .boolean) (rmF 1 24) G (mlT d) (mlC h0 r d) [.ref h0, .int (nI av)] σ (fun v σ' => v = nI (saC av σ) ∧ σ' = saR av σ) := by
  refine zMi_of (own := RX2) (by decide) rfl (Nat.le_of_ble_eq_true rfl) ?_
  intro p e s m args below meth c A ls C hr hlk w hl
  have hl : lv_has ls 6 [(0, .ref h0), (1, .int (nI av))] := hl
  have hbd := w.2.2.2.2.2
  refine lv_iconst (v := nI 0) C.1 C.2.1 dX2_spreadReached_0 (by decide) ?_
  refine lv_istore_n (lv' := [(2, .int (nI 0)), (0, .ref h0), (1, .int (nI av))]) C.1 C.2.1 dX2_spreadReached_1 rfl hl (by decide) rfl (fun ls hl => ?_)
  refine lv_iconst (v := nI 0) C.1 C.2.1 dX2_spreadReached_2 (by decide) ?_
  refine lv_istore_n (lv' := [(3, .int (nI 0)), (2, .int (nI 0)), (0, .ref h0), (1, .int (nI av))]) C.1 C.2.1 dX2_spreadReached_3 rfl hl (by decide) rfl (fun ls hl => ?_)
  refine sa_out C hav 196 0 σ 0 _ _ w (by decide) (by omega) ls (lv_sub hl [0, 1, 2, 3] rfl) (fun H locs ls w hl => ?_)
  have w : mlW G h0 r d A s s.heap H locs (saR av σ) := w
  have hl : lv_has ls 6 [(2, .int (nI (saC av σ))), (0, .ref h0)] := hl
  refine lv_iload_n C.1 C.2.1 dX2_spreadReached_87 rfl (lv_at hl 0 rfl) ?_
  exact z_zret C hr hlk w (saC_lt av σ) ⟨rfl, rfl⟩ dX2_spreadReached_88
section
variable {p : Program} {l : Launch} {e : Env} {R : Room} {s : State} {m : MethodId} {args : Array Value} {below : List Frame} {meth : Method} {c : Code} {H : Heap} {locs : List Loc} {Q : State → Prop}
variable {G : va_G} {A : Nat → Prop} {H0 : Heap} {σ : Nat → Nat → Nat} {h0 : Nat} {r : Nat → Nat} {d : Nat → ClassId}
theorem fa_i {av : Nat} (C : zC p m c cX2_findReached 4 s args RX2) : ∀ n q σ H locs, mlW G h0 r d A s H0 H locs σ → q + n = 196 → ∀ ls, lv_has ls 4 [(2, .int (nI q)), (0, .ref h0), (1, .int (nI av))] → (∀ H locs ls, mlW G h0 r d A s H0 H locs (fwd (fun p s => up s 5 p (if p = 0 then 1 else 0)) n q σ) → lv_has ls 4 [(0, .ref h0), (1, .int (nI av))] → W p l e (rmF 2 49) s m args below meth c H locs 0 0 Q (F0 m 30 ls [])) → W p l e (rmF 2 49) s m args below meth c H locs 0 0 Q (F0 m 2 ls []) := by
  intro n
  induction n with
  | zero =>
    intro q σ H locs w hn ls hl K
    refine lv_iload_n C.1 C.2.1 dX2_findReached_2 rfl (lv_at hl 0 rfl) ?_
    refine lv_sipush (v := nI 196) C.1 C.2.1 dX2_findReached_3 (by decide) ?_
    refine z_cmp_ge (tgt := 30) C dX2_findReached_6 (by decide) (by omega) (by omega) (fun c_6 => ?_) (fun c_6 => ?_)
    · exact K H locs ls w (lv_sub hl [1, 2] rfl)
    · exact absurd c_6 (by omega)
  | succ n ih =>
    intro q σ H locs w hn ls hl K
    refine lv_iload_n C.1 C.2.1 dX2_findReached_2 rfl (lv_at hl 0 rfl) ?_
    refine lv_sipush (v := nI 196) C.1 C.2.1 dX2_findReached_3 (by decide) ?_
    refine z_cmp_ge (tgt := 30) C dX2_findReached_6 (by decide) (by omega) (by omega) (fun c_6 => ?_) (fun c_6 => ?_)
    · exact absurd c_6 (by omega)
    · refine lv_aload_n C.1 C.2.1 dX2_findReached_9 rfl (lv_at hl 1 rfl) ?_
      refine ml_g5 C w dX2_findReached_10 ?_
      refine lv_iload_n C.1 C.2.1 dX2_findReached_13 rfl (lv_at hl 0 rfl) ?_
      refine lv_iload_n C.1 C.2.1 dX2_findReached_14 rfl (lv_at hl 0 rfl) ?_
      refine z_if_ne (tgt := 22) C dX2_findReached_15 (by decide) (by omega) (fun c_15 => ?_) (fun c_15 => ?_)
      · refine lv_iconst (v := nI 0) C.1 C.2.1 dX2_findReached_22 (by decide) ?_
        refine ml_s5 C w (by omega) (by omega) dX2_findReached_23 (fun H locs w => ?_)
        refine lv_iinc (lv' := [(2, .int (nI (q + 1))), (0, .ref h0), (1, .int (nI av))]) C.1 C.2.1 dX2_findReached_24 hl (k := 0) rfl (nI_add _ _) (by decide) rfl (fun ls hl => ?_)
        refine lv_goto (tgt := 2) C.1 C.2.1 dX2_findReached_27 (by decide) ?_
        have e1 : up σ 5 q (if q = 0 then 1 else 0) = up σ 5 q 0 := by rw [if_neg c_15]
        exact ih (q + 1) (up σ 5 q (if q = 0 then 1 else 0)) H locs (by rw [e1]; exact w) (by omega) ls hl K
      · refine lv_iconst (v := nI 1) C.1 C.2.1 dX2_findReached_18 (by decide) ?_
        refine lv_goto (tgt := 23) C.1 C.2.1 dX2_findReached_19 (by decide) ?_
        refine ml_s5 C w (by omega) (by omega) dX2_findReached_23 (fun H locs w => ?_)
        refine lv_iinc (lv' := [(2, .int (nI (q + 1))), (0, .ref h0), (1, .int (nI av))]) C.1 C.2.1 dX2_findReached_24 hl (k := 0) rfl (nI_add _ _) (by decide) rfl (fun ls hl => ?_)
        refine lv_goto (tgt := 2) C.1 C.2.1 dX2_findReached_27 (by decide) ?_
        have e1 : up σ 5 q (if q = 0 then 1 else 0) = up σ 5 q 1 := by rw [if_pos c_15]
        exact ih (q + 1) (up σ 5 q (if q = 0 then 1 else 0)) H locs (by rw [e1]; exact w) (by omega) ls hl K
theorem fa_r {av : Nat} (C : zC p m c cX2_findReached 4 s args RX2) (hav : av < 196) : ∀ n rd σ ch H locs, mlW G h0 r d A s H0 H locs σ → ch < 2 → rd + n = 197 → ∀ ls, lv_has ls 4 [(3, .int (nI rd)), (2, .int (nI ch)), (0, .ref h0), (1, .int (nI av))] → (∀ H locs ls, mlW G h0 r d A s H0 H locs (rounds (sweep (saS av) 4) n (σ, ch)).1 → W p l e (rmF 2 49) s m args below meth c H locs 0 0 Q (F0 m 57 ls [])) → W p l e (rmF 2 49) s m args below meth c H locs 0 0 Q (F0 m 34 ls []) := by
  intro n
  induction n with
  | zero =>
    intro rd σ ch H locs w hch hn ls hl K
    refine lv_iload_n C.1 C.2.1 dX2_findReached_34 rfl (lv_at hl 0 rfl) ?_
    refine lv_sipush (v := nI 197) C.1 C.2.1 dX2_findReached_35 (by decide) ?_
    refine z_cmp_ge (tgt := 57) C dX2_findReached_38 (by decide) (by omega) (by omega) (fun c_38 => ?_) (fun c_38 => ?_)
    · exact K H locs ls w
    · exact absurd c_38 (by omega)
  | succ n ih =>
    intro rd σ ch H locs w hch hn ls hl K
    refine lv_iload_n C.1 C.2.1 dX2_findReached_34 rfl (lv_at hl 0 rfl) ?_
    refine lv_sipush (v := nI 197) C.1 C.2.1 dX2_findReached_35 (by decide) ?_
    refine z_cmp_ge (tgt := 57) C dX2_findReached_38 (by decide) (by omega) (by omega) (fun c_38 => ?_) (fun c_38 => ?_)
    · exact absurd c_38 (by omega)
    · refine lv_iload_n C.1 C.2.1 dX2_findReached_41 rfl (lv_at hl 1 rfl) ?_
      refine z_if_eq (tgt := 57) C dX2_findReached_42 (by decide) (by omega) (fun c_42 => ?_) (fun c_42 => ?_)
      · have e1 : rounds (sweep (saS av) 4) (n + 1) (σ, ch) = (σ, ch) := if_pos c_42
        rw [e1] at K
        exact K H locs ls w
      · refine lv_aload_n C.1 C.2.1 dX2_findReached_45 rfl (lv_at hl 2 rfl) ?_
        refine lv_iload_n C.1 C.2.1 dX2_findReached_46 rfl (lv_at hl 3 rfl) ?_
        refine z_calli (As := [.int (nI av)]) C (m_spreadReached l G h0 r d σ av hav) (cwV 1 C.2.2.2.2 (lw_V q307 q309 qs25 q28 q310) rfl rfl rfl (by decide +kernel) ⟨Nat.le_of_ble_eq_true rfl, Nat.le_of_ble_eq_true rfl⟩) w (ml_rc w) rfl hl.1 rfl (Nat.le_of_ble_eq_true rfl) dX2_findReached_47 ⟨Nat.le_refl _, Nat.le_refl _⟩ (fun v1 s1 H locs hp w => ?_)
        obtain ⟨hv, hσ⟩ := hp
        subst hv
        rw [hσ] at w
        refine lv_istore_n (lv' := [(2, .int (nI (saC av σ))), (3, .int (nI rd)), (0, .ref h0), (1, .int (nI av))]) C.1 C.2.1 dX2_findReached_50 rfl hl (by decide) rfl (fun ls hl => ?_)
        refine lv_iinc (lv' := [(3, .int (nI (rd + 1))), (2, .int (nI (saC av σ))), (0, .ref h0), (1, .int (nI av))]) C.1 C.2.1 dX2_findReached_51 hl (k := 1) rfl (nI_add _ _) (by decide) rfl (fun ls hl => ?_)
        refine lv_goto (tgt := 34) C.1 C.2.1 dX2_findReached_54 (by decide) ?_
        have e1 : rounds (sweep (saS av) 4) (n + 1) (σ, ch) = rounds (sweep (saS av) 4) n (sweep (saS av) 4 σ) := if_neg c_42
        rw [e1, saE] at K
        exact ih (rd + 1) (saR av σ) (saC av σ) H locs w (saC_lt av σ) (by omega) ls (lv_sub hl [0, 1, 2, 3] rfl) K
end
theorem m_findReached (l : Launch) (G : va_G) (h0 : Nat) (r : Nat → Nat) (d : Nat → ClassId) (σ : Nat → Nat → Nat) (av : Nat) (hav : av < 196) : zMv l yX2_findReached cX2_findReached 4 none (rmF 2 49) G (mlT d) (mlC h0 r d) [.ref h0, .int (nI av)] σ (fun σ' => σ' = faF av σ) := by
  refine zMv_of (own := RX2) (by decide) rfl (Nat.le_of_ble_eq_true rfl) ?_
  intro p e s m args below meth c A ls C hr hlk w hl
  have hl : lv_has ls 4 [(0, .ref h0), (1, .int (nI av))] := hl
  have hbd := w.2.2.2.2.2
  refine lv_iconst (v := nI 0) C.1 C.2.1 dX2_findReached_0 (by decide) ?_
  refine lv_istore_n (lv' := [(2, .int (nI 0)), (0, .ref h0), (1, .int (nI av))]) C.1 C.2.1 dX2_findReached_1 rfl hl (by decide) rfl (fun ls hl => ?_)
  refine fa_i C 196 0 σ _ _ w (by omega) ls (lv_sub hl [0, 1, 2] rfl) (fun H locs ls w hl => ?_)
  have w : mlW G h0 r d A s s.heap H locs (faI σ) := w
  refine lv_iconst (v := nI 1) C.1 C.2.1 dX2_findReached_30 (by decide) ?_
  refine lv_istore_n (lv' := [(2, .int (nI 1)), (0, .ref h0), (1, .int (nI av))]) C.1 C.2.1 dX2_findReached_31 rfl hl (by decide) rfl (fun ls hl => ?_)
  refine lv_iconst (v := nI 0) C.1 C.2.1 dX2_findReached_32 (by decide) ?_
  refine lv_istore_n (lv' := [(3, .int (nI 0)), (2, .int (nI 1)), (0, .ref h0), (1, .int (nI av))]) C.1 C.2.1 dX2_findReached_33 rfl hl (by decide) rfl (fun ls hl => ?_)
  refine fa_r C hav 197 0 (faI σ) 1 _ _ w (by decide) (by omega) ls (lv_sub hl [0, 1, 2, 3] rfl) (fun H locs ls w => ?_)
  have w : mlW G h0 r d A s s.heap H locs (faN av 197 (faI σ)) := w
  exact z_vret C hr hlk w rfl dX2_findReached_57
section
variable {p : Program} {l : Launch} {e : Env} {R : Room} {s : State} {m : MethodId} {args : Array Value} {below : List Frame} {meth : Method} {c : Code} {H : Heap} {locs : List Loc} {Q : State → Prop}
variable {G : va_G} {A : Nat → Prop} {H0 : Heap} {σ : Nat → Nat → Nat} {h0 : Nat} {r : Nat → Nat} {d : Nat → ClassId}
theorem ct_loop {co b : Nat} (C : zC p m c cX2_count 5 s args RX2) (hco : co < 2) (hb : b ≤ 196) : ∀ n q H locs, mlW G h0 r d A s H0 H locs σ → q + n = b → ∀ ls, lv_has ls 5 [(4, .int (nI q)), (3, .int (nI (ncnt (fun q => σ 2 q = co ∧ σ 3 q = q) q))), (0, .ref h0), (1, .int (nI co)), (2, .int (nI b))] → (∀ H locs ls, mlW G h0 r d A s H0 H locs σ → lv_has ls 5 [(3, .int (nI (ncnt (fun q => σ 2 q = co ∧ σ 3 q = q) b)))] → W p l e (rmF 1 22) s m args below meth c H locs 0 0 Q (F0 m 30 ls [])) → W p l e (rmF 1 22) s m args below meth c H locs 0 0 Q (F0 m 5 ls []) := by
  intro n
  induction n with
  | zero =>
    intro q H locs w hn ls hl K
    obtain rfl : q = b := by omega
    refine lv_iload C.1 C.2.1 dX2_count_5 (lv_at hl 0 rfl) ?_
    refine lv_iload_n C.1 C.2.1 dX2_count_7 rfl (lv_at hl 4 rfl) ?_
    refine z_cmp_ge (tgt := 30) C dX2_count_8 (by decide) (by omega) (by omega) (fun c_8 => ?_) (fun c_8 => ?_)
    · exact K H locs ls w (lv_sub hl [1] rfl)
    · exact absurd c_8 (by omega)
  | succ n ih =>
    intro q H locs w hn ls hl K
    refine lv_iload C.1 C.2.1 dX2_count_5 (lv_at hl 0 rfl) ?_
    refine lv_iload_n C.1 C.2.1 dX2_count_7 rfl (lv_at hl 4 rfl) ?_
    refine z_cmp_ge (tgt := 30) C dX2_count_8 (by decide) (by omega) (by omega) (fun c_8 => ?_) (fun c_8 => ?_)
    · exact absurd c_8 (by omega)
    · refine lv_aload_n C.1 C.2.1 dX2_count_11 rfl (lv_at hl 2 rfl) ?_
      refine lv_iload C.1 C.2.1 dX2_count_12 (lv_at hl 0 rfl) ?_
      refine lv_iload_n C.1 C.2.1 dX2_count_14 rfl (lv_at hl 3 rfl) ?_
      refine z_calli (As := [.int (nI q), .int (nI co)]) C (m_isFirst l G h0 r d σ q co (by omega) (by omega)) (cwV 2 C.2.2.2.2 (lw_V q263 q265 qs19 q28 q266) rfl rfl rfl (by decide +kernel) ⟨Nat.le_of_ble_eq_true rfl, Nat.le_of_ble_eq_true rfl⟩) w (ml_rc w) rfl hl.1 rfl (Nat.le_of_ble_eq_true rfl) dX2_count_15 ⟨Nat.le_refl _, Nat.le_refl _⟩ (fun v1 s1 H locs hp w => ?_)
      obtain ⟨hv, hσ⟩ := hp
      subst hv
      rw [hσ] at w
      refine z_if_eq (tgt := 24) C dX2_count_18 (by decide) z_ifB (fun c_18 => ?_) (fun c_18 => ?_)
      · refine lv_iinc (lv' := [(4, .int (nI (q + 1))), (3, .int (nI (ncnt (fun q => σ 2 q = co ∧ σ 3 q = q) q))), (0, .ref h0), (1, .int (nI co)), (2, .int (nI b))]) C.1 C.2.1 dX2_count_24 hl (k := 0) rfl (nI_add _ _) (by decide) rfl (fun ls hl => ?_)
        refine lv_goto (tgt := 5) C.1 C.2.1 dX2_count_27 (by decide) ?_
        rw [← ncnt_s0 (P := (fun q => σ 2 q = co ∧ σ 3 q = q)) (n := q) (z_ifN c_18)] at hl
        exact ih (q + 1) H locs w (by omega) ls (lv_sub hl [0, 1, 2, 3, 4] rfl) K
      · refine lv_iinc (lv' := [(3, .int (nI ((ncnt (fun q => σ 2 q = co ∧ σ 3 q = q) q) + 1))), (4, .int (nI q)), (0, .ref h0), (1, .int (nI co)), (2, .int (nI b))]) C.1 C.2.1 dX2_count_21 hl (k := 1) rfl (nI_add _ _) (by decide) rfl (fun ls hl => ?_)
        refine lv_iinc (lv' := [(4, .int (nI (q + 1))), (3, .int (nI ((ncnt (fun q => σ 2 q = co ∧ σ 3 q = q) q) + 1))), (0, .ref h0), (1, .int (nI co)), (2, .int (nI b))]) C.1 C.2.1 dX2_count_24 hl (k := 1) rfl (nI_add _ _) (by decide) rfl (fun ls hl => ?_)
        refine lv_goto (tgt := 5) C.1 C.2.1 dX2_count_27 (by decide) ?_
        rw [← ncnt_s1 (P := (fun q => σ 2 q = co ∧ σ 3 q = q)) (n := q) (z_ifP c_18)] at hl
        exact ih (q + 1) H locs w (by omega) ls (lv_sub hl [0, 1, 2, 3, 4] rfl) K
end
theorem m_count (l : Launch) (G : va_G) (h0 : Nat) (r : Nat → Nat) (d : Nat → ClassId) (σ : Nat → Nat → Nat) (co b : Nat) (hco : co < 2) (hb : b ≤ 196) : zMi l yX2_count cX2_count 5 (some .int) (rmF 1 22) G (mlT d) (mlC h0 r d) [.ref h0, .int (nI co), .int (nI b)] σ (fun v σ' => v = nI (ncnt (fun q => σ 2 q = co ∧ σ 3 q = q) b) ∧ σ' = σ) := by
  refine zMi_of (own := RX2) (by decide) rfl (Nat.le_of_ble_eq_true rfl) ?_
  intro p e s m args below meth c A ls C hr hlk w hl
  have hl : lv_has ls 5 [(0, .ref h0), (1, .int (nI co)), (2, .int (nI b))] := hl
  have hbd := w.2.2.2.2.2
  refine lv_iconst (v := nI 0) C.1 C.2.1 dX2_count_0 (by decide) ?_
  refine lv_istore_n (lv' := [(3, .int (nI 0)), (0, .ref h0), (1, .int (nI co)), (2, .int (nI b))]) C.1 C.2.1 dX2_count_1 rfl hl (by decide) rfl (fun ls hl => ?_)
  refine lv_iconst (v := nI 0) C.1 C.2.1 dX2_count_2 (by decide) ?_
  refine lv_istore (lv' := [(4, .int (nI 0)), (3, .int (nI 0)), (0, .ref h0), (1, .int (nI co)), (2, .int (nI b))]) C.1 C.2.1 dX2_count_3 hl (by decide) rfl (fun ls hl => ?_)
  refine ct_loop C hco hb b 0 _ _ w (by omega) ls (lv_sub hl [0, 1, 2, 3, 4] rfl) (fun H locs ls w hl => ?_)
  refine lv_iload_n C.1 C.2.1 dX2_count_30 rfl (lv_at hl 0 rfl) ?_
  exact z_iret C hr hlk w ⟨rfl, rfl⟩ dX2_count_31
theorem m_mcomponents (l : Launch) (G : va_G) (h0 : Nat) (r : Nat → Nat) (d : Nat → ClassId) (σ : Nat → Nat → Nat)   : zMi l yX2_components cX2_components 1 (some .int) (rmF 4 93) G (mlT d) (mlC h0 r d) [.ref h0] σ (fun v σ' => v = nI (ncnt (fun q => (frF σ) 2 q = 1 ∧ (frF σ) 3 q = q) 196) ∧ σ' = frF σ) := by
  refine zMi_of (own := RX2) (by decide) rfl (Nat.le_of_ble_eq_true rfl) ?_
  intro p e s m args below meth c A ls C hr hlk w hl
  have hl : lv_has ls 1 [(0, .ref h0)] := hl
  have hbd := w.2.2.2.2.2
  refine lv_aload_n C.1 C.2.1 dX2_components_0 rfl (lv_at hl 0 rfl) ?_
  refine z_callv (As := []) C (m_findRoots l G h0 r d σ) (cwV 0 C.2.2.2.2 (lw_V q239 q241 qs13 q28 q242) rfl rfl rfl (by decide +kernel) ⟨Nat.le_of_ble_eq_true rfl, Nat.le_of_ble_eq_true rfl⟩) w (ml_rc w) rfl hl.1 rfl (Nat.le_of_ble_eq_true rfl) dX2_components_1 ⟨Nat.le_refl _, Nat.le_refl _⟩ (fun s1 H locs hp w => ?_)
  have hσ := hp
  rw [hσ] at w
  refine lv_aload_n C.1 C.2.1 dX2_components_4 rfl (lv_at hl 0 rfl) ?_
  refine lv_iconst (v := nI 1) C.1 C.2.1 dX2_components_5 (by decide) ?_
  refine lv_sipush (v := nI 196) C.1 C.2.1 dX2_components_6 (by decide) ?_
  refine z_calli (As := [.int (nI 1), .int (nI 196)]) C (m_count l G h0 r d (frF σ) 1 196 (by decide) (by omega)) (cwV 2 C.2.2.2.2 (lw_V q259 q261 qs18 q28 q262) rfl rfl rfl (by decide +kernel) ⟨Nat.le_of_ble_eq_true rfl, Nat.le_of_ble_eq_true rfl⟩) w (ml_rc w) rfl hl.1 rfl (Nat.le_of_ble_eq_true rfl) dX2_components_9 ⟨Nat.le_refl _, Nat.le_refl _⟩ (fun v2 s2 H locs hp w => ?_)
  obtain ⟨hv, hσ⟩ := hp
  subst hv
  rw [hσ] at w
  exact z_iret C hr hlk w ⟨rfl, rfl⟩ dX2_components_12
theorem m_meuler (l : Launch) (G : va_G) (h0 : Nat) (r : Nat → Nat) (d : Nat → ClassId) (σ : Nat → Nat → Nat)   : zMi l yX2_euler cX2_euler 1 (some .int) (rmF 4 93) G (mlT d) (mlC h0 r d) [.ref h0] σ (fun v σ' => v = nI (ncnt (fun q => (frF σ) 2 q = 1 ∧ (frF σ) 3 q = q) 196) - (nI (ncnt (fun q => (frF σ) 2 q = 0 ∧ (frF σ) 3 q = q) 196) - nI 1) ∧ σ' = frF σ) := by
  refine zMi_of (own := RX2) (by decide) rfl (Nat.le_of_ble_eq_true rfl) ?_
  intro p e s m args below meth c A ls C hr hlk w hl
  have hl : lv_has ls 1 [(0, .ref h0)] := hl
  have hbd := w.2.2.2.2.2
  refine lv_aload_n C.1 C.2.1 dX2_euler_0 rfl (lv_at hl 0 rfl) ?_
  refine z_callv (As := []) C (m_findRoots l G h0 r d σ) (cwV 0 C.2.2.2.2 (lw_V q239 q241 qs13 q28 q242) rfl rfl rfl (by decide +kernel) ⟨Nat.le_of_ble_eq_true rfl, Nat.le_of_ble_eq_true rfl⟩) w (ml_rc w) rfl hl.1 rfl (Nat.le_of_ble_eq_true rfl) dX2_euler_1 ⟨Nat.le_refl _, Nat.le_refl _⟩ (fun s1 H locs hp w => ?_)
  have hσ := hp
  rw [hσ] at w
  refine lv_aload_n C.1 C.2.1 dX2_euler_4 rfl (lv_at hl 0 rfl) ?_
  refine lv_iconst (v := nI 1) C.1 C.2.1 dX2_euler_5 (by decide) ?_
  refine lv_sipush (v := nI 196) C.1 C.2.1 dX2_euler_6 (by decide) ?_
  refine z_calli (As := [.int (nI 1), .int (nI 196)]) C (m_count l G h0 r d (frF σ) 1 196 (by decide) (by omega)) (cwV 2 C.2.2.2.2 (lw_V q259 q261 qs18 q28 q262) rfl rfl rfl (by decide +kernel) ⟨Nat.le_of_ble_eq_true rfl, Nat.le_of_ble_eq_true rfl⟩) w (ml_rc w) rfl hl.1 rfl (Nat.le_of_ble_eq_true rfl) dX2_euler_9 ⟨Nat.le_refl _, Nat.le_refl _⟩ (fun v2 s2 H locs hp w => ?_)
  obtain ⟨hv, hσ⟩ := hp
  subst hv
  rw [hσ] at w
  refine lv_aload_n C.1 C.2.1 dX2_euler_12 rfl (lv_at hl 0 rfl) ?_
  refine lv_iconst (v := nI 0) C.1 C.2.1 dX2_euler_13 (by decide) ?_
  refine lv_sipush (v := nI 196) C.1 C.2.1 dX2_euler_14 (by decide) ?_
  refine z_calli (As := [.int (nI 0), .int (nI 196)]) C (m_count l G h0 r d (frF σ) 0 196 (by decide) (by omega)) (cwV 2 C.2.2.2.2 (lw_V q259 q261 qs18 q28 q262) rfl rfl rfl (by decide +kernel) ⟨Nat.le_of_ble_eq_true rfl, Nat.le_of_ble_eq_true rfl⟩) w (ml_rc w) rfl hl.1 rfl (Nat.le_of_ble_eq_true rfl) dX2_euler_17 ⟨Nat.le_refl _, Nat.le_refl _⟩ (fun v3 s3 H locs hp w => ?_)
  obtain ⟨hv, hσ⟩ := hp
  subst hv
  rw [hσ] at w
  refine lv_iconst (v := nI 1) C.1 C.2.1 dX2_euler_20 (by decide) ?_
  refine lv_isub C.1 C.2.1 dX2_euler_21 ?_
  refine lv_isub C.1 C.2.1 dX2_euler_22 ?_
  exact z_iret C hr hlk w ⟨rfl, rfl⟩ dX2_euler_23
theorem m_mlabel (l : Launch) (G : va_G) (h0 : Nat) (r : Nat → Nat) (d : Nat → ClassId) (σ : Nat → Nat → Nat) (X Y : Int32) (k2 : σ 0 0 ≤ 12) (k4 : σ 1 0 ≤ 12) : zMi l yX2_label cX2_label 4 (some .int) (rmF 4 93) G (mlT d) (mlC h0 r d) [.ref h0, .int X, .int Y] σ (fun v σ' => (¬ inP (σ 0 0) (σ 1 0) X Y ∧ v = -1 ∧ σ' = σ) ∨ (∃ x y, X = nI x ∧ Y = nI y ∧ x < σ 0 0 ∧ y < σ 1 0 ∧ ((σ 2 (14 * (y + 1) + x + 1) = 0 ∧ v = -2 ∧ σ' = σ) ∨ (σ 2 (14 * (y + 1) + x + 1) ≠ 0 ∧ v = nI (ncnt (fun q => (frF σ) 2 q = 1 ∧ (frF σ) 3 q = q) (frF σ 3 (14 * (y + 1) + x + 1))) ∧ σ' = frF σ)))) := by
  refine zMi_of (own := RX2) (by decide) rfl (Nat.le_of_ble_eq_true rfl) ?_
  intro p e s m args below meth c A ls C hr hlk w hl
  have hl : lv_has ls 4 [(0, .ref h0), (1, .int X), (2, .int Y)] := hl
  have hbd := w.2.2.2.2.2
  refine lv_aload_n C.1 C.2.1 dX2_label_0 rfl (lv_at hl 0 rfl) ?_
  refine lv_iload_n C.1 C.2.1 dX2_label_1 rfl (lv_at hl 1 rfl) ?_
  refine lv_iload_n C.1 C.2.1 dX2_label_2 rfl (lv_at hl 2 rfl) ?_
  refine z_calli (As := [.int X, .int Y]) C (m_inside l G h0 r d σ X Y) (cwV 2 C.2.2.2.2 (lw_V q219 q221 qs11 q28 q222) rfl rfl rfl (by decide +kernel) ⟨Nat.le_of_ble_eq_true rfl, Nat.le_of_ble_eq_true rfl⟩) w (ml_rc w) rfl hl.1 rfl (Nat.le_of_ble_eq_true rfl) dX2_label_3 ⟨Nat.le_refl _, Nat.le_refl _⟩ (fun v1 s1 H locs hp w => ?_)
  obtain ⟨hv, hσ⟩ := hp
  subst hv
  rw [hσ] at w
  refine z_if_ne (tgt := 11) C dX2_label_6 (by decide) z_ifB (fun c_6 => ?_) (fun c_6 => ?_)
  · obtain ⟨x, y, rfl, rfl, hx, hy⟩ := inP_nat (by omega) (by omega) (z_ifP c_6)
    have b2 := hbd 2 (14 * (y + 1) + x + 1)
    refine lv_aload_n C.1 C.2.1 dX2_label_11 rfl (lv_at hl 0 rfl) ?_
    refine lv_iload_n C.1 C.2.1 dX2_label_12 rfl (lv_at hl 1 rfl) ?_
    refine lv_iload_n C.1 C.2.1 dX2_label_13 rfl (lv_at hl 2 rfl) ?_
    refine z_calli (As := [.int (nI x), .int (nI y)]) C (m_place l G h0 r d σ x y) (cwV 2 C.2.2.2.2 (lw_V q223 q225 qs12 q28 q226) rfl rfl rfl (by decide +kernel) ⟨Nat.le_of_ble_eq_true rfl, Nat.le_of_ble_eq_true rfl⟩) w (ml_rc w) rfl hl.1 rfl (Nat.le_of_ble_eq_true rfl) dX2_label_14 ⟨Nat.le_refl _, Nat.le_refl _⟩ (fun v2 s2 H locs hp w => ?_)
    obtain ⟨hv, hσ⟩ := hp
    subst hv
    rw [hσ] at w
    refine lv_istore_n (lv' := [(3, .int (nI (14 * (y + 1) + x + 1))), (0, .ref h0), (1, .int (nI x)), (2, .int (nI y))]) C.1 C.2.1 dX2_label_17 rfl hl (by decide) rfl (fun ls hl => ?_)
    refine lv_aload_n C.1 C.2.1 dX2_label_18 rfl (lv_at hl 1 rfl) ?_
    refine ml_g2 C w dX2_label_19 ?_
    refine lv_iload_n C.1 C.2.1 dX2_label_22 rfl (lv_at hl 0 rfl) ?_
    refine ml_l2 C w (by omega) dX2_label_23 ?_
    refine z_if_ne (tgt := 30) C dX2_label_24 (by decide) (by omega) (fun c_24 => ?_) (fun c_24 => ?_)
    · refine lv_aload_n C.1 C.2.1 dX2_label_30 rfl (lv_at hl 1 rfl) ?_
      refine z_callv (As := []) C (m_findRoots l G h0 r d σ) (cwV 0 C.2.2.2.2 (lw_V q239 q241 qs13 q28 q242) rfl rfl rfl (by decide +kernel) ⟨Nat.le_of_ble_eq_true rfl, Nat.le_of_ble_eq_true rfl⟩) w (ml_rc w) rfl hl.1 rfl (Nat.le_of_ble_eq_true rfl) dX2_label_31 ⟨Nat.le_refl _, Nat.le_refl _⟩ (fun s3 H locs hp w => ?_)
      have hσ := hp
      rw [hσ] at w
      have hρ := (frF_ok σ).2 (14 * (y + 1) + x + 1) (by omega)
      have hρ2 := rt_le (σ 2) (14 * (y + 1) + x + 1)
      refine lv_aload_n C.1 C.2.1 dX2_label_34 rfl (lv_at hl 1 rfl) ?_
      refine lv_iconst (v := nI 1) C.1 C.2.1 dX2_label_35 (by decide) ?_
      refine lv_aload_n C.1 C.2.1 dX2_label_36 rfl (lv_at hl 1 rfl) ?_
      refine ml_g3 C w dX2_label_37 ?_
      refine lv_iload_n C.1 C.2.1 dX2_label_40 rfl (lv_at hl 0 rfl) ?_
      refine ml_l3 C w (by omega) dX2_label_41 ?_
      refine z_calli (As := [.int (nI 1), .int (nI (frF σ 3 (14 * (y + 1) + x + 1)))]) C (m_count l G h0 r d (frF σ) 1 (frF σ 3 (14 * (y + 1) + x + 1)) (by decide) (by omega)) (cwV 2 C.2.2.2.2 (lw_V q259 q261 qs18 q28 q262) rfl rfl rfl (by decide +kernel) ⟨Nat.le_of_ble_eq_true rfl, Nat.le_of_ble_eq_true rfl⟩) w (ml_rc w) rfl hl.1 rfl (Nat.le_of_ble_eq_true rfl) dX2_label_42 ⟨Nat.le_refl _, Nat.le_refl _⟩ (fun v4 s4 H locs hp w => ?_)
      obtain ⟨hv, hσ⟩ := hp
      subst hv
      rw [hσ] at w
      exact z_iret C hr hlk w (Or.inr ⟨x, y, rfl, rfl, hx, hy, Or.inr ⟨c_24, rfl, rfl⟩⟩) dX2_label_45
    · refine lv_bipush (v := (-2)) C.1 C.2.1 dX2_label_27 (by decide) ?_
      exact z_iret C hr hlk w (Or.inr ⟨x, y, rfl, rfl, hx, hy, Or.inl ⟨c_24, rfl, rfl⟩⟩) dX2_label_29
  · refine lv_iconst (v := (-1)) C.1 C.2.1 dX2_label_9 (by decide) ?_
    exact z_iret C hr hlk w (Or.inl ⟨z_ifN c_6, rfl, rfl⟩) dX2_label_10
theorem m_mdepth (l : Launch) (G : va_G) (h0 : Nat) (r : Nat → Nat) (d : Nat → ClassId) (σ : Nat → Nat → Nat) (X Y : Int32) (k2 : σ 0 0 ≤ 12) (k4 : σ 1 0 ≤ 12) : zMi l yX2_depth cX2_depth 3 (some .int) (rmF 4 93) G (mlT d) (mlC h0 r d) [.ref h0, .int X, .int Y] σ (fun v σ' => (¬ inP (σ 0 0) (σ 1 0) X Y ∧ v = -1 ∧ σ' = σ) ∨ (∃ x y, X = nI x ∧ Y = nI y ∧ x < σ 0 0 ∧ y < σ 1 0 ∧ v = nI (fcF σ 4 (14 * (y + 1) + x + 1)) ∧ σ' = fcF σ)) := by
  refine zMi_of (own := RX2) (by decide) rfl (Nat.le_of_ble_eq_true rfl) ?_
  intro p e s m args below meth c A ls C hr hlk w hl
  have hl : lv_has ls 3 [(0, .ref h0), (1, .int X), (2, .int Y)] := hl
  have hbd := w.2.2.2.2.2
  refine lv_aload_n C.1 C.2.1 dX2_depth_0 rfl (lv_at hl 0 rfl) ?_
  refine lv_iload_n C.1 C.2.1 dX2_depth_1 rfl (lv_at hl 1 rfl) ?_
  refine lv_iload_n C.1 C.2.1 dX2_depth_2 rfl (lv_at hl 2 rfl) ?_
  refine z_calli (As := [.int X, .int Y]) C (m_inside l G h0 r d σ X Y) (cwV 2 C.2.2.2.2 (lw_V q219 q221 qs11 q28 q222) rfl rfl rfl (by decide +kernel) ⟨Nat.le_of_ble_eq_true rfl, Nat.le_of_ble_eq_true rfl⟩) w (ml_rc w) rfl hl.1 rfl (Nat.le_of_ble_eq_true rfl) dX2_depth_3 ⟨Nat.le_refl _, Nat.le_refl _⟩ (fun v1 s1 H locs hp w => ?_)
  obtain ⟨hv, hσ⟩ := hp
  subst hv
  rw [hσ] at w
  refine z_if_ne (tgt := 11) C dX2_depth_6 (by decide) z_ifB (fun c_6 => ?_) (fun c_6 => ?_)
  · obtain ⟨x, y, rfl, rfl, hx, hy⟩ := inP_nat (by omega) (by omega) (z_ifP c_6)
    refine lv_aload_n C.1 C.2.1 dX2_depth_11 rfl (lv_at hl 0 rfl) ?_
    refine z_callv (As := []) C (m_findChanges l G h0 r d σ) (cwV 0 C.2.2.2.2 (lw_V q287 q289 qs21 q28 q290) rfl rfl rfl (by decide +kernel) ⟨Nat.le_of_ble_eq_true rfl, Nat.le_of_ble_eq_true rfl⟩) w (ml_rc w) rfl hl.1 rfl (Nat.le_of_ble_eq_true rfl) dX2_depth_12 ⟨Nat.le_refl _, Nat.le_refl _⟩ (fun s2 H locs hp w => ?_)
    have hσ := hp
    rw [hσ] at w
    refine lv_aload_n C.1 C.2.1 dX2_depth_15 rfl (lv_at hl 0 rfl) ?_
    refine ml_g4 C w dX2_depth_16 ?_
    refine lv_aload_n C.1 C.2.1 dX2_depth_19 rfl (lv_at hl 0 rfl) ?_
    refine lv_iload_n C.1 C.2.1 dX2_depth_20 rfl (lv_at hl 1 rfl) ?_
    refine lv_iload_n C.1 C.2.1 dX2_depth_21 rfl (lv_at hl 2 rfl) ?_
    refine z_calli (As := [.int (nI x), .int (nI y)]) C (m_place l G h0 r d (fcF σ) x y) (cwV 2 C.2.2.2.2 (lw_V q223 q225 qs12 q28 q226) rfl rfl rfl (by decide +kernel) ⟨Nat.le_of_ble_eq_true rfl, Nat.le_of_ble_eq_true rfl⟩) w (ml_rc w) rfl hl.1 rfl (Nat.le_of_ble_eq_true rfl) dX2_depth_22 ⟨Nat.le_refl _, Nat.le_refl _⟩ (fun v3 s3 H locs hp w => ?_)
    obtain ⟨hv, hσ⟩ := hp
    subst hv
    rw [hσ] at w
    refine ml_l4 C w (by omega) dX2_depth_25 ?_
    exact z_iret C hr hlk w (Or.inr ⟨x, y, rfl, rfl, hx, hy, rfl, rfl⟩) dX2_depth_26
  · refine lv_iconst (v := (-1)) C.1 C.2.1 dX2_depth_9 (by decide) ?_
    exact z_iret C hr hlk w (Or.inl ⟨z_ifN c_6, rfl, rfl⟩) dX2_depth_10
section
variable {p : Program} {l : Launch} {e : Env} {R : Room} {s : State} {m : MethodId} {args : Array Value} {below : List Frame} {meth : Method} {c : Code} {H : Heap} {locs : List Loc} {Q : State → Prop}
variable {G : va_G} {A : Nat → Prop} {H0 : Heap} {σ : Nat → Nat → Nat} {h0 : Nat} {r : Nat → Nat} {d : Nat → ClassId}
theorem fo_loop {K : Int32} (C : zC p m c cX2_firstOf 4 s args RX2) (KR : ∀ q H locs ls, q < 196 → σ 2 q = 1 ∧ σ 3 q = q → nI (ncnt (fun q => σ 2 q = 1 ∧ σ 3 q = q) q) = K → mlW G h0 r d A s H0 H locs σ → lv_has ls 4 [(3, .int (nI q))] → W p l e (rmF 4 93) s m args below meth c H locs 0 0 Q (F0 m 29 ls [])) (KX : ∀ H locs ls, (∀ q, q < 196 → σ 2 q = 1 ∧ σ 3 q = q → nI (ncnt (fun q => σ 2 q = 1 ∧ σ 3 q = q) q) ≠ K) → mlW G h0 r d A s H0 H locs σ → W p l e (rmF 4 93) s m args below meth c H locs 0 0 Q (F0 m 40 ls [])) :
    ∀ n q H locs, mlW G h0 r d A s H0 H locs σ → q + n = 196 → (∀ q', q' < q → σ 2 q' = 1 ∧ σ 3 q' = q' → nI (ncnt (fun q => σ 2 q = 1 ∧ σ 3 q = q) q') ≠ K) → ∀ ls, lv_has ls 4 [(3, .int (nI q)), (2, .int (nI (ncnt (fun q => σ 2 q = 1 ∧ σ 3 q = q) q))), (0, .ref h0), (1, .int K)] → W p l e (rmF 4 93) s m args below meth c H locs 0 0 Q (F0 m 8 ls []) := by
  intro n
  induction n with
  | zero =>
    intro q H locs w hn hno ls hl
    obtain rfl : q = 196 := by omega
    refine lv_iload_n C.1 C.2.1 dX2_firstOf_8 rfl (lv_at hl 0 rfl) ?_
    refine lv_sipush (v := nI 196) C.1 C.2.1 dX2_firstOf_9 (by decide) ?_
    refine z_cmp_ge (tgt := 40) C dX2_firstOf_12 (by decide) (by decide) (by omega) (fun c_12 => ?_) (fun c_12 => ?_)
    · exact KX H locs ls hno w
    · exact absurd c_12 (by decide)
  | succ n ih =>
    intro q H locs w hn hno ls hl
    refine lv_iload_n C.1 C.2.1 dX2_firstOf_8 rfl (lv_at hl 0 rfl) ?_
    refine lv_sipush (v := nI 196) C.1 C.2.1 dX2_firstOf_9 (by decide) ?_
    refine z_cmp_ge (tgt := 40) C dX2_firstOf_12 (by decide) (by omega) (by omega) (fun c_12 => ?_) (fun c_12 => ?_)
    · exact absurd c_12 (by omega)
    · refine lv_aload_n C.1 C.2.1 dX2_firstOf_15 rfl (lv_at hl 2 rfl) ?_
      refine lv_iload_n C.1 C.2.1 dX2_firstOf_16 rfl (lv_at hl 0 rfl) ?_
      refine lv_iconst (v := nI 1) C.1 C.2.1 dX2_firstOf_17 (by decide) ?_
      refine z_calli (As := [.int (nI q), .int (nI 1)]) C (m_isFirst l G h0 r d σ q 1 (by omega) (by omega)) (cwV 2 C.2.2.2.2 (lw_V q263 q265 qs19 q28 q266) rfl rfl rfl (by decide +kernel) ⟨Nat.le_of_ble_eq_true rfl, Nat.le_of_ble_eq_true rfl⟩) w (ml_rc w) rfl hl.1 rfl (Nat.le_of_ble_eq_true rfl) dX2_firstOf_18 ⟨Nat.le_refl _, Nat.le_refl _⟩ (fun v1 s1 H locs hp w => ?_)
      obtain ⟨hv, hσ⟩ := hp
      subst hv
      rw [hσ] at w
      refine z_if_eq (tgt := 34) C dX2_firstOf_21 (by decide) z_ifB (fun c_21 => ?_) (fun c_21 => ?_)
      · refine lv_iinc (lv' := [(3, .int (nI (q + 1))), (2, .int (nI (ncnt (fun q => σ 2 q = 1 ∧ σ 3 q = q) q))), (0, .ref h0), (1, .int K)]) C.1 C.2.1 dX2_firstOf_34 hl (k := 0) rfl (nI_add _ _) (by decide) rfl (fun ls hl => ?_)
        refine lv_goto (tgt := 8) C.1 C.2.1 dX2_firstOf_37 (by decide) ?_
        rw [← ncnt_s0 (P := (fun q => σ 2 q = 1 ∧ σ 3 q = q)) (n := q) (z_ifN c_21)] at hl
        refine ih (q + 1) H locs w (by omega) (fun q' hq' hf => ?_) ls (lv_sub hl [0, 1, 2, 3] rfl)
        rcases Nat.lt_or_eq_of_le (Nat.le_of_lt_succ hq') with z | z
        · exact hno q' z hf
        · rw [z] at hf; exact absurd hf (z_ifN c_21)
      · refine lv_iload_n C.1 C.2.1 dX2_firstOf_24 rfl (lv_at hl 1 rfl) ?_
        refine lv_iload_n C.1 C.2.1 dX2_firstOf_25 rfl (lv_at hl 3 rfl) ?_
        refine lv_icmp_ne (tgt := 31) C.1 C.2.1 dX2_firstOf_26 (by decide) (fun c_26 => ?_) (fun c_26 => ?_)
        · refine lv_iinc (lv' := [(2, .int (nI ((ncnt (fun q => σ 2 q = 1 ∧ σ 3 q = q) q) + 1))), (3, .int (nI q)), (0, .ref h0), (1, .int K)]) C.1 C.2.1 dX2_firstOf_31 hl (k := 1) rfl (nI_add _ _) (by decide) rfl (fun ls hl => ?_)
          refine lv_iinc (lv' := [(3, .int (nI (q + 1))), (2, .int (nI ((ncnt (fun q => σ 2 q = 1 ∧ σ 3 q = q) q) + 1))), (0, .ref h0), (1, .int K)]) C.1 C.2.1 dX2_firstOf_34 hl (k := 1) rfl (nI_add _ _) (by decide) rfl (fun ls hl => ?_)
          refine lv_goto (tgt := 8) C.1 C.2.1 dX2_firstOf_37 (by decide) ?_
          rw [← ncnt_s1 (P := (fun q => σ 2 q = 1 ∧ σ 3 q = q)) (n := q) (z_ifP c_21)] at hl
          refine ih (q + 1) H locs w (by omega) (fun q' hq' hf => ?_) ls (lv_sub hl [0, 1, 2, 3] rfl)
          rcases Nat.lt_or_eq_of_le (Nat.le_of_lt_succ hq') with z | z
          · exact hno q' z hf
          · rw [z]; exact c_26
        · exact KR q H locs ls (by omega) (z_ifP c_21) c_26 w (lv_sub hl [0] rfl)
end
theorem m_firstOf (l : Launch) (G : va_G) (h0 : Nat) (r : Nat → Nat) (d : Nat → ClassId) (σ : Nat → Nat → Nat) (K : Int32)  : zMi l yX2_firstOf cX2_firstOf 4 (some .int) (rmF 4 93) G (mlT d) (mlC h0 r d) [.ref h0, .int K] σ (fun v σ' => ((∃ f, (f < 196 ∧ (frF σ 2 f = 1 ∧ frF σ 3 f = f) ∧ nI (ncnt (fun q => (frF σ) 2 q = 1 ∧ (frF σ) 3 q = q) f) = K) ∧ v = nI f) ∨ (v = -1 ∧ (∀ q, q < 196 → frF σ 2 q = 1 ∧ frF σ 3 q = q → nI (ncnt (fun q => (frF σ) 2 q = 1 ∧ (frF σ) 3 q = q) q) ≠ K))) ∧ σ' = frF σ) := by
  refine zMi_of (own := RX2) (by decide) rfl (Nat.le_of_ble_eq_true rfl) ?_
  intro p e s m args below meth c A ls C hr hlk w hl
  have hl : lv_has ls 4 [(0, .ref h0), (1, .int K)] := hl
  have hbd := w.2.2.2.2.2
  refine lv_aload_n C.1 C.2.1 dX2_firstOf_0 rfl (lv_at hl 0 rfl) ?_
  refine z_callv (As := []) C (m_findRoots l G h0 r d σ) (cwV 0 C.2.2.2.2 (lw_V q239 q241 qs13 q28 q242) rfl rfl rfl (by decide +kernel) ⟨Nat.le_of_ble_eq_true rfl, Nat.le_of_ble_eq_true rfl⟩) w (ml_rc w) rfl hl.1 rfl (Nat.le_of_ble_eq_true rfl) dX2_firstOf_1 ⟨Nat.le_refl _, Nat.le_refl _⟩ (fun s1 H locs hp w => ?_)
  have hσ := hp
  rw [hσ] at w
  refine lv_iconst (v := nI 0) C.1 C.2.1 dX2_firstOf_4 (by decide) ?_
  refine lv_istore_n (lv' := [(2, .int (nI 0)), (0, .ref h0), (1, .int K)]) C.1 C.2.1 dX2_firstOf_5 rfl hl (by decide) rfl (fun ls hl => ?_)
  refine lv_iconst (v := nI 0) C.1 C.2.1 dX2_firstOf_6 (by decide) ?_
  refine lv_istore_n (lv' := [(3, .int (nI 0)), (2, .int (nI 0)), (0, .ref h0), (1, .int K)]) C.1 C.2.1 dX2_firstOf_7 rfl hl (by decide) rfl (fun ls hl => ?_)
  refine fo_loop C (fun q H locs ls h1 h2 h3 w hl => ?_) (fun H locs ls h1 w => ?_) 196 0 _ _ w (by omega) (fun q' hq' => absurd hq' (Nat.not_lt_zero _)) ls (lv_sub hl [0, 1, 2, 3] rfl)
  · refine lv_iload_n C.1 C.2.1 dX2_firstOf_29 rfl (lv_at hl 0 rfl) ?_
    exact z_iret C hr hlk w ⟨Or.inl ⟨q, ⟨h1, h2, h3⟩, rfl⟩, rfl⟩ dX2_firstOf_30
  · refine lv_iconst (v := (-1)) C.1 C.2.1 dX2_firstOf_40 (by decide) ?_
    exact z_iret C hr hlk w ⟨Or.inr ⟨rfl, h1⟩, rfl⟩ dX2_firstOf_41
section
variable {p : Program} {l : Launch} {e : Env} {R : Room} {s : State} {m : MethodId} {args : Array Value} {below : List Frame} {meth : Method} {c : Code} {H : Heap} {locs : List Loc} {Q : State → Prop}
variable {G : va_G} {A : Nat → Prop} {H0 : Heap} {σ : Nat → Nat → Nat} {h0 : Nat} {r : Nat → Nat} {d : Nat → ClassId}
theorem ar_loop {f : Nat} (C : zC p m c cX2_area 5 s args RX2) (hf : f < 196) : ∀ n q H locs, mlW G h0 r d A s H0 H locs σ → q + n = 196 → ∀ ls, lv_has ls 5 [(4, .int (nI q)), (3, .int (nI (ncnt (fun q => σ 3 q = f) q))), (0, .ref h0), (2, .int (nI f))] → (∀ H locs ls, mlW G h0 r d A s H0 H locs σ → lv_has ls 5 [(3, .int (nI (ncnt (fun q => σ 3 q = f) 196)))] → W p l e (rmF 5 116) s m args below meth c H locs 0 0 Q (F0 m 45 ls [])) → W p l e (rmF 5 116) s m args below meth c H locs 0 0 Q (F0 m 17 ls []) := by
  intro n
  induction n with
  | zero =>
    intro q H locs w hn ls hl K
    obtain rfl : q = 196 := by omega
    refine lv_iload C.1 C.2.1 dX2_area_17 (lv_at hl 0 rfl) ?_
    refine lv_sipush (v := nI 196) C.1 C.2.1 dX2_area_19 (by decide) ?_
    refine z_cmp_ge (tgt := 45) C dX2_area_22 (by decide) (by decide) (by omega) (fun c_22 => ?_) (fun c_22 => ?_)
    · exact K H locs ls w (lv_sub hl [1] rfl)
    · exact absurd c_22 (by decide)
  | succ n ih =>
    intro q H locs w hn ls hl K
    have b3 := w.2.2.2.2.2 3 q
    refine lv_iload C.1 C.2.1 dX2_area_17 (lv_at hl 0 rfl) ?_
    refine lv_sipush (v := nI 196) C.1 C.2.1 dX2_area_19 (by decide) ?_
    refine z_cmp_ge (tgt := 45) C dX2_area_22 (by decide) (by omega) (by omega) (fun c_22 => ?_) (fun c_22 => ?_)
    · exact absurd c_22 (by omega)
    · refine lv_aload_n C.1 C.2.1 dX2_area_25 rfl (lv_at hl 2 rfl) ?_
      refine ml_g3 C w dX2_area_26 ?_
      refine lv_iload C.1 C.2.1 dX2_area_29 (lv_at hl 0 rfl) ?_
      refine ml_l3 C w (by omega) dX2_area_31 ?_
      refine lv_iload_n C.1 C.2.1 dX2_area_32 rfl (lv_at hl 3 rfl) ?_
      refine z_cmp_ne (tgt := 39) C dX2_area_33 (by decide) (by omega) (by omega) (fun c_33 => ?_) (fun c_33 => ?_)
      · refine lv_iinc (lv' := [(4, .int (nI (q + 1))), (3, .int (nI (ncnt (fun q => σ 3 q = f) q))), (0, .ref h0), (2, .int (nI f))]) C.1 C.2.1 dX2_area_39 hl (k := 0) rfl (nI_add _ _) (by decide) rfl (fun ls hl => ?_)
        refine lv_goto (tgt := 17) C.1 C.2.1 dX2_area_42 (by decide) ?_
        rw [← ncnt_s0 (P := (fun q => σ 3 q = f)) (n := q) (c_33)] at hl
        exact ih (q + 1) H locs w (by omega) ls (lv_sub hl [0, 1, 2, 3] rfl) K
      · refine lv_iinc (lv' := [(3, .int (nI ((ncnt (fun q => σ 3 q = f) q) + 1))), (4, .int (nI q)), (0, .ref h0), (2, .int (nI f))]) C.1 C.2.1 dX2_area_36 hl (k := 1) rfl (nI_add _ _) (by decide) rfl (fun ls hl => ?_)
        refine lv_iinc (lv' := [(4, .int (nI (q + 1))), (3, .int (nI ((ncnt (fun q => σ 3 q = f) q) + 1))), (0, .ref h0), (2, .int (nI f))]) C.1 C.2.1 dX2_area_39 hl (k := 1) rfl (nI_add _ _) (by decide) rfl (fun ls hl => ?_)
        refine lv_goto (tgt := 17) C.1 C.2.1 dX2_area_42 (by decide) ?_
        rw [← ncnt_s1 (P := (fun q => σ 3 q = f)) (n := q) (c_33)] at hl
        exact ih (q + 1) H locs w (by omega) ls (lv_sub hl [0, 1, 2, 3] rfl) K
end
theorem m_marea (l : Launch) (G : va_G) (h0 : Nat) (r : Nat → Nat) (d : Nat → ClassId) (σ : Nat → Nat → Nat) (K : Int32)  : zMi l yX2_area cX2_area 5 (some .int) (rmF 5 116) G (mlT d) (mlC h0 r d) [.ref h0, .int K] σ (fun v σ' => ((∃ f, (f < 196 ∧ (frF σ 2 f = 1 ∧ frF σ 3 f = f) ∧ nI (ncnt (fun q => (frF σ) 2 q = 1 ∧ (frF σ) 3 q = q) f) = K) ∧ v = nI (ncnt (fun q => frF σ 3 q = f) 196)) ∨ (v = -1 ∧ (∀ q, q < 196 → frF σ 2 q = 1 ∧ frF σ 3 q = q → nI (ncnt (fun q => (frF σ) 2 q = 1 ∧ (frF σ) 3 q = q) q) ≠ K))) ∧ σ' = frF σ) := by
  refine zMi_of (own := RX2) (by decide) rfl (Nat.le_of_ble_eq_true rfl) ?_
  intro p e s m args below meth c A ls C hr hlk w hl
  have hl : lv_has ls 5 [(0, .ref h0), (1, .int K)] := hl
  have hbd := w.2.2.2.2.2
  refine lv_aload_n C.1 C.2.1 dX2_area_0 rfl (lv_at hl 0 rfl) ?_
  refine lv_iload_n C.1 C.2.1 dX2_area_1 rfl (lv_at hl 1 rfl) ?_
  refine z_calli (As := [.int K]) C (m_firstOf l G h0 r d σ K) (cwV 1 C.2.2.2.2 (lw_V q279 q281 qs20 q28 q282) rfl rfl rfl (by decide +kernel) ⟨Nat.le_of_ble_eq_true rfl, Nat.le_of_ble_eq_true rfl⟩) w (ml_rc w) rfl hl.1 rfl (Nat.le_of_ble_eq_true rfl) dX2_area_2 ⟨Nat.le_refl _, Nat.le_refl _⟩ (fun v1 s1 H locs hp w => ?_)
  obtain ⟨hv, hσ⟩ := hp
  rw [hσ] at w
  have hbd := w.2.2.2.2.2
  rcases hv with ⟨f, ⟨f1, f2, f3⟩, rfl⟩ | ⟨rfl, hno⟩
  · refine lv_istore_n (lv' := [(2, .int (nI f)), (0, .ref h0), (1, .int K)]) C.1 C.2.1 dX2_area_5 rfl hl (by decide) rfl (fun ls hl => ?_)
    refine lv_iload_n C.1 C.2.1 dX2_area_6 rfl (lv_at hl 0 rfl) ?_
    refine z_if_ge (tgt := 12) C dX2_area_7 (by decide) (by omega) ?_
    refine lv_iconst (v := nI 0) C.1 C.2.1 dX2_area_12 (by decide) ?_
    refine lv_istore_n (lv' := [(3, .int (nI 0)), (2, .int (nI f)), (0, .ref h0), (1, .int K)]) C.1 C.2.1 dX2_area_13 rfl hl (by decide) rfl (fun ls hl => ?_)
    refine lv_iconst (v := nI 0) C.1 C.2.1 dX2_area_14 (by decide) ?_
    refine lv_istore (lv' := [(4, .int (nI 0)), (3, .int (nI 0)), (2, .int (nI f)), (0, .ref h0), (1, .int K)]) C.1 C.2.1 dX2_area_15 hl (by decide) rfl (fun ls hl => ?_)
    refine ar_loop C f1 196 0 _ _ w (by omega) ls (lv_sub hl [0, 1, 3, 2] rfl) (fun H locs ls w hl => ?_)
    refine lv_iload_n C.1 C.2.1 dX2_area_45 rfl (lv_at hl 0 rfl) ?_
    exact z_iret C hr hlk w ⟨Or.inl ⟨f, ⟨f1, f2, f3⟩, rfl⟩, rfl⟩ dX2_area_46
  · refine lv_istore_n (lv' := [(2, .int (-1)), (0, .ref h0), (1, .int K)]) C.1 C.2.1 dX2_area_5 rfl hl (by decide) rfl (fun ls hl => ?_)
    refine lv_iload_n C.1 C.2.1 dX2_area_6 rfl (lv_at hl 0 rfl) ?_
    refine lv_if_ge (tgt := 12) C.1 C.2.1 dX2_area_7 (by decide) (fun c_7 => ?_) (fun c_7 => ?_)
    · exact absurd c_7 (by decide)
    · refine lv_iconst (v := (-1)) C.1 C.2.1 dX2_area_10 (by decide) ?_
      exact z_iret C hr hlk w ⟨Or.inr ⟨rfl, hno⟩, rfl⟩ dX2_area_11
