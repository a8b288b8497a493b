set_option maxRecDepth 100000
/-! ===== CompLabelModel: spreading ===== -/
theorem z_eta {α β : Type} (p : α × β) : (p.1, p.2) = p := by cases p; rfl
def srR (s : Nat → Nat → Nat) : Nat → Nat → Nat := (sweep srS 9 s).1
def srC (s : Nat → Nat → Nat) : Nat := (sweep srS 9 s).2
def scR (s : Nat → Nat → Nat) : Nat → Nat → Nat := (sweep scS 9 s).1
def scC (s : Nat → Nat → Nat) : Nat := (sweep scS 9 s).2
def saR (av : Nat) (s : Nat → Nat → Nat) : Nat → Nat → Nat := (sweep (saS av) 4 s).1
def saC (av : Nat) (s : Nat → Nat → Nat) : Nat := (sweep (saS av) 4 s).2
theorem srE (s : Nat → Nat → Nat) : sweep srS 9 s = (srR s, srC s) := (z_eta (sweep srS 9 s)).symm
theorem scE (s : Nat → Nat → Nat) : sweep scS 9 s = (scR s, scC s) := (z_eta (sweep scS 9 s)).symm
theorem saE (av : Nat) (s : Nat → Nat → Nat) : sweep (saS av) 4 s = (saR av s, saC av s) := (z_eta (sweep (saS av) 4 s)).symm
theorem srC_lt (s : Nat → Nat → Nat) : srC s < 2 := by
  refine sweep_inv (fun t => t.2 < 2) (fun p d t _ _ ht => ?_) s (show 0 < 2 by decide)
  unfold srS
  split
  · exact Nat.lt_succ_self 1
  · exact ht
theorem scC_lt (s : Nat → Nat → Nat) : scC s < 2 := by
  refine sweep_inv (fun t => t.2 < 2) (fun p d t _ _ ht => ?_) s (show 0 < 2 by decide)
  unfold scS
  split
  · exact Nat.lt_succ_self 1
  · exact ht
theorem saC_lt (av : Nat) (s : Nat → Nat → Nat) : saC av s < 2 := by
  refine sweep_inv (fun t => t.2 < 2) (fun p d t _ _ ht => ?_) s (show 0 < 2 by decide)
  unfold saS
  split
  · exact Nat.lt_succ_self 1
  · exact ht
section
variable {p : Program} {l : Launch} {e : Env} {R : Room} {s : State} {m : MethodId} {args : Array Value} {below : List Frame} {meth : Method} {c : Code} {H : Heap} {locs : List Loc} {Q : State → Prop}
variable {G : va_G} {A : Nat → Prop} {H0 : Heap} {σ : Nat → Nat → Nat} {h0 : Nat} {r : Nat → Nat} {d : Nat → ClassId}
theorem sr_in {q : Nat} (C : zC p m c cX2_spreadRoots 5 s args RX2) (hq : q < 196) : ∀ n k σ ch H locs, mlW G h0 r d A s H0 H locs σ → ch < 2 → k + n = 9 → ∀ ls, lv_has ls 5 [(3, .int (nI k)), (2, .int (nI q)), (1, .int (nI ch)), (0, .ref h0)] → (∀ H locs ls, mlW G h0 r d A s H0 H locs (fwd (srS q) n k (σ, ch)).1 → (fwd (srS q) n k (σ, ch)).2 < 2 → lv_has ls 5 [(2, .int (nI q)), (1, .int (nI ((fwd (srS q) n k (σ, ch)).2))), (0, .ref h0)] → W p l e (rmF 2 46) s m args below meth c H locs 0 0 Q (F0 m 80 ls [])) → W p l e (rmF 2 46) s m args below meth c H locs 0 0 Q (F0 m 13 ls []) := by
  intro n
  induction n with
  | zero =>
    intro k σ ch H locs w hch hn ls hl K
    refine lv_iload_n C.1 C.2.1 dX2_spreadRoots_13 rfl (lv_at hl 0 rfl) ?_
    refine lv_bipush (v := nI 9) C.1 C.2.1 dX2_spreadRoots_14 (by decide) ?_
    refine z_cmp_ge (tgt := 80) C dX2_spreadRoots_16 (by decide) (by omega) (by omega) (fun c_16 => ?_) (fun c_16 => ?_)
    · exact K H locs ls w hch (lv_sub hl [1, 2, 3] rfl)
    · exact absurd c_16 (by omega)
  | succ n ih =>
    intro k σ ch H locs w hch hn ls hl K
    have r1 := w.2.2.2.2.2 3 q
    have r2 := w.2.2.2.2.2 3 (nr q k)
    refine lv_iload_n C.1 C.2.1 dX2_spreadRoots_13 rfl (lv_at hl 0 rfl) ?_
    refine lv_bipush (v := nI 9) C.1 C.2.1 dX2_spreadRoots_14 (by decide) ?_
    refine z_cmp_ge (tgt := 80) C dX2_spreadRoots_16 (by decide) (by omega) (by omega) (fun c_16 => ?_) (fun c_16 => ?_)
    · exact absurd c_16 (by omega)
    · refine lv_aload_n C.1 C.2.1 dX2_spreadRoots_19 rfl (lv_at hl 3 rfl) ?_
      refine lv_iload_n C.1 C.2.1 dX2_spreadRoots_20 rfl (lv_at hl 1 rfl) ?_
      refine lv_iload_n C.1 C.2.1 dX2_spreadRoots_21 rfl (lv_at hl 0 rfl) ?_
      refine z_calli (As := [.int (nI q), .int (nI k)]) C (m_near l G h0 r d σ q k (by omega) (by omega)) (cwV 2 C.2.2.2.2 (lw_V q247 q249 qs15 q28 q250) rfl rfl rfl (by decide +kernel) ⟨Nat.le_of_ble_eq_true rfl, Nat.le_of_ble_eq_true rfl⟩) w (ml_rc w) rfl hl.1 rfl (Nat.le_of_ble_eq_true rfl) dX2_spreadRoots_22 ⟨Nat.le_refl _, Nat.le_refl _⟩ (fun v1 s1 H locs hp w => ?_)
      obtain ⟨hv, hσ⟩ := hp
      subst hv
      rw [hσ] at w
      by_cases hn : nr q k < 196
      · rw [if_pos hn]
        refine lv_istore (lv' := [(4, .int (nI (nr q k))), (3, .int (nI k)), (2, .int (nI q)), (1, .int (nI ch)), (0, .ref h0)]) C.1 C.2.1 dX2_spreadRoots_25 hl (by decide) rfl (fun ls hl => ?_)
        refine lv_iload C.1 C.2.1 dX2_spreadRoots_27 (lv_at hl 0 rfl) ?_
        refine z_if_lt (tgt := 74) C dX2_spreadRoots_29 (by decide) (by omega) ?_
        refine lv_aload_n C.1 C.2.1 dX2_spreadRoots_32 rfl (lv_at hl 4 rfl) ?_
        refine lv_iload_n C.1 C.2.1 dX2_spreadRoots_33 rfl (lv_at hl 2 rfl) ?_
        refine lv_iload C.1 C.2.1 dX2_spreadRoots_34 (lv_at hl 0 rfl) ?_
        refine lv_iload_n C.1 C.2.1 dX2_spreadRoots_36 rfl (lv_at hl 1 rfl) ?_
        refine z_calli (As := [.int (nI q), .int (nI (nr q k)), .int (nI k)]) C (m_step l G h0 r d σ q (nr q k) k (by omega) (by omega) (by omega)) (cwV 3 C.2.2.2.2 (lw_V q251 q253 qs16 q28 q254) rfl rfl rfl (by decide +kernel) ⟨Nat.le_of_ble_eq_true rfl, Nat.le_of_ble_eq_true rfl⟩) w (ml_rc w) rfl hl.1 rfl (Nat.le_of_ble_eq_true rfl) dX2_spreadRoots_37 ⟨Nat.le_refl _, Nat.le_refl _⟩ (fun v2 s2 H locs hp w => ?_)
        obtain ⟨hv, hσ⟩ := hp
        subst hv
        rw [hσ] at w
        refine z_if_eq (tgt := 74) C dX2_spreadRoots_40 (by decide) z_ifB (fun c_40 => ?_) (fun c_40 => ?_)
        · refine lv_iinc (lv' := [(3, .int (nI (k + 1))), (4, .int (nI (nr q k))), (2, .int (nI q)), (1, .int (nI ch)), (0, .ref h0)]) C.1 C.2.1 dX2_spreadRoots_74 hl (k := 1) rfl (nI_add _ _) (by decide) rfl (fun ls hl => ?_)
          refine lv_goto (tgt := 13) C.1 C.2.1 dX2_spreadRoots_77 (by decide) ?_
          have e1 : srS q k (σ, ch) = (σ, ch) := if_neg (fun z => z_ifN c_40 z.2.1)
          rw [show fwd (srS q) (n + 1) k (σ, ch) = fwd (srS q) n (k + 1) (srS q k (σ, ch)) from rfl, e1] at K
          exact ih (k + 1) σ ch H locs w hch (by omega) ls (lv_sub hl [0, 2, 3, 4] rfl) K
        · refine lv_aload_n C.1 C.2.1 dX2_spreadRoots_43 rfl (lv_at hl 4 rfl) ?_
          refine ml_g3 C w dX2_spreadRoots_44 ?_
          refine lv_iload C.1 C.2.1 dX2_spreadRoots_47 (lv_at hl 0 rfl) ?_
          refine ml_l3 C w (by omega) dX2_spreadRoots_49 ?_
          refine lv_aload_n C.1 C.2.1 dX2_spreadRoots_50 rfl (lv_at hl 4 rfl) ?_
          refine ml_g3 C w dX2_spreadRoots_51 ?_
          refine lv_iload_n C.1 C.2.1 dX2_spreadRoots_54 rfl (lv_at hl 2 rfl) ?_
          refine ml_l3 C w (by omega) dX2_spreadRoots_55 ?_
          refine z_cmp_ge (tgt := 74) C dX2_spreadRoots_56 (by decide) (by omega) (by omega) (fun c_56 => ?_) (fun c_56 => ?_)
          · refine lv_iinc (lv' := [(3, .int (nI (k + 1))), (4, .int (nI (nr q k))), (2, .int (nI q)), (1, .int (nI ch)), (0, .ref h0)]) C.1 C.2.1 dX2_spreadRoots_74 hl (k := 1) rfl (nI_add _ _) (by decide) rfl (fun ls hl => ?_)
            refine lv_goto (tgt := 13) C.1 C.2.1 dX2_spreadRoots_77 (by decide) ?_
            have e1 : srS q k (σ, ch) = (σ, ch) := if_neg (fun z => absurd (show σ 3 (nr q k) < σ 3 q from z.2.2) (by omega))
            rw [show fwd (srS q) (n + 1) k (σ, ch) = fwd (srS q) n (k + 1) (srS q k (σ, ch)) from rfl, e1] at K
            exact ih (k + 1) σ ch H locs w hch (by omega) ls (lv_sub hl [0, 2, 3, 4] rfl) K
          · refine lv_aload_n C.1 C.2.1 dX2_spreadRoots_59 rfl (lv_at hl 4 rfl) ?_
            refine ml_g3 C w dX2_spreadRoots_60 ?_
            refine lv_iload_n C.1 C.2.1 dX2_spreadRoots_63 rfl (lv_at hl 2 rfl) ?_
            refine lv_aload_n C.1 C.2.1 dX2_spreadRoots_64 rfl (lv_at hl 4 rfl) ?_
            refine ml_g3 C w dX2_spreadRoots_65 ?_
            refine lv_iload C.1 C.2.1 dX2_spreadRoots_68 (lv_at hl 0 rfl) ?_
            refine ml_l3 C w (by omega) dX2_spreadRoots_70 ?_
            refine ml_s3 C w (by omega) (by omega) dX2_spreadRoots_71 (fun H locs w => ?_)
            refine lv_iconst (v := nI 1) C.1 C.2.1 dX2_spreadRoots_72 (by decide) ?_
            refine lv_istore_n (lv' := [(1, .int (nI 1)), (4, .int (nI (nr q k))), (3, .int (nI k)), (2, .int (nI q)), (0, .ref h0)]) C.1 C.2.1 dX2_spreadRoots_73 rfl hl (by decide) rfl (fun ls hl => ?_)
            refine lv_iinc (lv' := [(3, .int (nI (k + 1))), (1, .int (nI 1)), (4, .int (nI (nr q k))), (2, .int (nI q)), (0, .ref h0)]) C.1 C.2.1 dX2_spreadRoots_74 hl (k := 2) rfl (nI_add _ _) (by decide) rfl (fun ls hl => ?_)
            refine lv_goto (tgt := 13) C.1 C.2.1 dX2_spreadRoots_77 (by decide) ?_
            have e1 : srS q k (σ, ch) = (up σ 3 q (σ 3 (nr q k)), 1) := if_pos ⟨hn, z_ifP c_40, c_56⟩
            rw [show fwd (srS q) (n + 1) k (σ, ch) = fwd (srS q) n (k + 1) (srS q k (σ, ch)) from rfl, e1] at K
            exact ih (k + 1) (up σ 3 q (σ 3 (nr q k))) 1 H locs w (by decide) (by omega) ls (lv_sub hl [0, 3, 1, 4] rfl) K
      · rw [if_neg hn]
        refine lv_istore (lv' := [(4, .int (-1)), (3, .int (nI k)), (2, .int (nI q)), (1, .int (nI ch)), (0, .ref h0)]) C.1 C.2.1 dX2_spreadRoots_25 hl (by decide) rfl (fun ls hl => ?_)
        refine lv_iload C.1 C.2.1 dX2_spreadRoots_27 (lv_at hl 0 rfl) ?_
        refine lv_if_lt (tgt := 74) C.1 C.2.1 dX2_spreadRoots_29 (by decide) (fun c_29 => ?_) (fun c_29 => ?_)
        · refine lv_iinc (lv' := [(3, .int (nI (k + 1))), (4, .int (-1)), (2, .int (nI q)), (1, .int (nI ch)), (0, .ref h0)]) C.1 C.2.1 dX2_spreadRoots_74 hl (k := 1) rfl (nI_add _ _) (by decide) rfl (fun ls hl => ?_)
          refine lv_goto (tgt := 13) C.1 C.2.1 dX2_spreadRoots_77 (by decide) ?_
          have e1 : srS q k (σ, ch) = (σ, ch) := if_neg (fun z => hn z.1)
          rw [show fwd (srS q) (n + 1) k (σ, ch) = fwd (srS q) n (k + 1) (srS q k (σ, ch)) from rfl, e1] at K
          exact ih (k + 1) σ ch H locs w hch (by omega) ls (lv_sub hl [0, 2, 3, 4] rfl) K
        · exact absurd (by decide) c_29
theorem sr_out (C : zC p m c cX2_spreadRoots 5 s args RX2) : ∀ n q σ ch H locs, mlW G h0 r d A s H0 H locs σ → ch < 2 → q + n = 196 → ∀ ls, lv_has ls 5 [(2, .int (nI q)), (1, .int (nI ch)), (0, .ref h0)] → (∀ H locs ls, mlW G h0 r d A s H0 H locs (fwd (fun p t => fwd (srS p) 9 0 t) n q (σ, ch)).1 → lv_has ls 5 [(1, .int (nI ((fwd (fun p t => fwd (srS p) 9 0 t) n q (σ, ch)).2))), (0, .ref h0)] → W p l e (rmF 2 46) s m args below meth c H locs 0 0 Q (F0 m 86 ls [])) → W p l e (rmF 2 46) s m args below meth c H locs 0 0 Q (F0 m 4 ls []) := by
  intro n
  induction n with
  | zero =>
    intro q σ ch H locs w hch hn ls hl K
    refine lv_iload_n C.1 C.2.1 dX2_spreadRoots_4 rfl (lv_at hl 0 rfl) ?_
    refine lv_sipush (v := nI 196) C.1 C.2.1 dX2_spreadRoots_5 (by decide) ?_
    refine z_cmp_ge (tgt := 86) C dX2_spreadRoots_8 (by decide) (by omega) (by omega) (fun c_8 => ?_) (fun c_8 => ?_)
    · exact K H locs ls w (lv_sub hl [1, 2] rfl)
    · exact absurd c_8 (by omega)
  | succ n ih =>
    intro q σ ch H locs w hch hn ls hl K
    refine lv_iload_n C.1 C.2.1 dX2_spreadRoots_4 rfl (lv_at hl 0 rfl) ?_
    refine lv_sipush (v := nI 196) C.1 C.2.1 dX2_spreadRoots_5 (by decide) ?_
    refine z_cmp_ge (tgt := 86) C dX2_spreadRoots_8 (by decide) (by omega) (by omega) (fun c_8 => ?_) (fun c_8 => ?_)
    · exact absurd c_8 (by omega)
    · refine lv_iconst (v := nI 0) C.1 C.2.1 dX2_spreadRoots_11 (by decide) ?_
      refine lv_istore_n (lv' := [(3, .int (nI 0)), (2, .int (nI q)), (1, .int (nI ch)), (0, .ref h0)]) C.1 C.2.1 dX2_spreadRoots_12 rfl hl (by decide) rfl (fun ls hl => ?_)
      refine sr_in C (by omega) 9 0 σ ch _ _ w hch (by omega) ls (lv_sub hl [0, 1, 2, 3] rfl) (fun H locs ls w hch hl => ?_)
      rw [show fwd (fun p t => fwd (srS p) 9 0 t) (n + 1) q (σ, ch) = fwd (fun p t => fwd (srS p) 9 0 t) n (q + 1) (fwd (srS q) 9 0 (σ, ch)) from rfl] at K
      generalize fwd (srS q) 9 0 (σ, ch) = t at w hch hl K
      obtain ⟨τ, ch2⟩ := t
      have hl : lv_has ls 5 [(2, .int (nI q)), (1, .int (nI ch2)), (0, .ref h0)] := hl
      have w : mlW G h0 r d A s H0 H locs τ := w
      refine lv_iinc (lv' := [(2, .int (nI (q + 1))), (1, .int (nI ch2)), (0, .ref h0)]) C.1 C.2.1 dX2_spreadRoots_80 hl (k := 0) rfl (nI_add _ _) (by decide) rfl (fun ls hl => ?_)
      refine lv_goto (tgt := 4) C.1 C.2.1 dX2_spreadRoots_83 (by decide) ?_
      exact ih (q + 1) τ ch2 H locs w hch (by omega) ls (lv_sub hl [0, 1, 2] rfl) K
end
theorem m_spreadRoots (l : Launch) (G : va_G) (h0 : Nat) (r : Nat → Nat) (d : Nat → ClassId) (σ : Nat → Nat → Nat)   : zMi l yX2_spreadRoots cX2_spreadRoots 5 (some .boolean) (rmF 2 46) G (mlT d) (mlC h0 r d) [.ref h0] σ (fun v σ' => v = nI (srC σ) ∧ σ' = srR σ) := by
  refine zMi_of (own := RX2) (by decide) rfl (Nat.le_of_ble_eq_true rfl) ?_
  intro p e s m args below meth c A ls C hr hlk w hl
  have hl : lv_has ls 5 [(0, .ref h0)] := hl
  have hbd := w.2.2.2.2.2
  refine lv_iconst (v := nI 0) C.1 C.2.1 dX2_spreadRoots_0 (by decide) ?_
  refine lv_istore_n (lv' := [(1, .int (nI 0)), (0, .ref h0)]) C.1 C.2.1 dX2_spreadRoots_1 rfl hl (by decide) rfl (fun ls hl => ?_)
  refine lv_iconst (v := nI 0) C.1 C.2.1 dX2_spreadRoots_2 (by decide) ?_
  refine lv_istore_n (lv' := [(2, .int (nI 0)), (1, .int (nI 0)), (0, .ref h0)]) C.1 C.2.1 dX2_spreadRoots_3 rfl hl (by decide) rfl (fun ls hl => ?_)
  refine sr_out C 196 0 σ 0 _ _ w (by decide) (by omega) ls (lv_sub hl [0, 1, 2] rfl) (fun H locs ls w hl => ?_)
  have w : mlW G h0 r d A s s.heap H locs (srR σ) := w
  have hl : lv_has ls 5 [(1, .int (nI (srC σ))), (0, .ref h0)] := hl
  refine lv_iload_n C.1 C.2.1 dX2_spreadRoots_86 rfl (lv_at hl 0 rfl) ?_
  exact z_zret C hr hlk w (srC_lt σ) ⟨rfl, rfl⟩ dX2_spreadRoots_87
section
variable {p : Program} {l : Launch} {e : Env} {R : Room} {s : State} {m : MethodId} {args : Array Value} {below : List Frame} {meth : Method} {c : Code} {H : Heap} {locs : List Loc} {Q : State → Prop}
variable {G : va_G} {A : Nat → Prop} {H0 : Heap} {σ : Nat → Nat → Nat} {h0 : Nat} {r : Nat → Nat} {d : Nat → ClassId}
theorem fr_i (C : zC p m c cX2_findRoots 3 s args RX2) : ∀ n q σ H locs, mlW G h0 r d A s H0 H locs σ → q + n = 196 → ∀ ls, lv_has ls 3 [(1, .int (nI q)), (0, .ref h0)] → (∀ H locs ls, mlW G h0 r d A s H0 H locs (fwd (fun p s => up s 3 p p) n q σ) → lv_has ls 3 [(0, .ref h0)] → W p l e (rmF 3 71) s m args below meth c H locs 0 0 Q (F0 m 22 ls [])) → W p l e (rmF 3 71) s m args below meth c H locs 0 0 Q (F0 m 2 ls []) := by
  intro n
  induction n with
  | zero =>
    intro q σ H locs w hn ls hl K
    refine lv_iload_n C.1 C.2.1 dX2_findRoots_2 rfl (lv_at hl 0 rfl) ?_
    refine lv_sipush (v := nI 196) C.1 C.2.1 dX2_findRoots_3 (by decide) ?_
    refine z_cmp_ge (tgt := 22) C dX2_findRoots_6 (by decide) (by omega) (by omega) (fun c_6 => ?_) (fun c_6 => ?_)
    · exact K H locs ls w (lv_sub hl [1] rfl)
    · exact absurd c_6 (by omega)
  | succ n ih =>
    intro q σ H locs w hn ls hl K
    refine lv_iload_n C.1 C.2.1 dX2_findRoots_2 rfl (lv_at hl 0 rfl) ?_
    refine lv_sipush (v := nI 196) C.1 C.2.1 dX2_findRoots_3 (by decide) ?_
    refine z_cmp_ge (tgt := 22) C dX2_findRoots_6 (by decide) (by omega) (by omega) (fun c_6 => ?_) (fun c_6 => ?_)
    · exact absurd c_6 (by omega)
    · refine lv_aload_n C.1 C.2.1 dX2_findRoots_9 rfl (lv_at hl 1 rfl) ?_
      refine ml_g3 C w dX2_findRoots_10 ?_
      refine lv_iload_n C.1 C.2.1 dX2_findRoots_13 rfl (lv_at hl 0 rfl) ?_
      refine lv_iload_n C.1 C.2.1 dX2_findRoots_14 rfl (lv_at hl 0 rfl) ?_
      refine ml_s3 C w (by omega) (by omega) dX2_findRoots_15 (fun H locs w => ?_)
      refine lv_iinc (lv' := [(1, .int (nI (q + 1))), (0, .ref h0)]) C.1 C.2.1 dX2_findRoots_16 hl (k := 0) rfl (nI_add _ _) (by decide) rfl (fun ls hl => ?_)
      refine lv_goto (tgt := 2) C.1 C.2.1 dX2_findRoots_19 (by decide) ?_
      exact ih (q + 1) _ H locs w (by omega) ls hl K
theorem fr_r (C : zC p m c cX2_findRoots 3 s args RX2) : ∀ n rd σ ch H locs, mlW G h0 r d A s H0 H locs σ → ch < 2 → rd + n = 197 → ∀ ls, lv_has ls 3 [(2, .int (nI rd)), (1, .int (nI ch)), (0, .ref h0)] → (∀ H locs ls, mlW G h0 r d A s H0 H locs (rounds (sweep srS 9) n (σ, ch)).1 → W p l e (rmF 3 71) s m args below meth c H locs 0 0 Q (F0 m 48 ls [])) → W p l e (rmF 3 71) s m args below meth c H locs 0 0 Q (F0 m 26 ls []) := by
  intro n
  induction n with
  | zero =>
    intro rd σ ch H locs w hch hn ls hl K
    refine lv_iload_n C.1 C.2.1 dX2_findRoots_26 rfl (lv_at hl 0 rfl) ?_
    refine lv_sipush (v := nI 197) C.1 C.2.1 dX2_findRoots_27 (by decide) ?_
    refine z_cmp_ge (tgt := 48) C dX2_findRoots_30 (by decide) (by omega) (by omega) (fun c_30 => ?_) (fun c_30 => ?_)
    · exact K H locs ls w
    · exact absurd c_30 (by omega)
  | succ n ih =>
    intro rd σ ch H locs w hch hn ls hl K
    refine lv_iload_n C.1 C.2.1 dX2_findRoots_26 rfl (lv_at hl 0 rfl) ?_
    refine lv_sipush (v := nI 197) C.1 C.2.1 dX2_findRoots_27 (by decide) ?_
    refine z_cmp_ge (tgt := 48) C dX2_findRoots_30 (by decide) (by omega) (by omega) (fun c_30 => ?_) (fun c_30 => ?_)
    · exact absurd c_30 (by omega)
    · refine lv_iload_n C.1 C.2.1 dX2_findRoots_33 rfl (lv_at hl 1 rfl) ?_
      refine z_if_eq (tgt := 48) C dX2_findRoots_34 (by decide) (by omega) (fun c_34 => ?_) (fun c_34 => ?_)
      · have e1 : rounds (sweep srS 9) (n + 1) (σ, ch) = (σ, ch) := if_pos c_34
        rw [e1] at K
        exact K H locs ls w
      · refine lv_aload_n C.1 C.2.1 dX2_findRoots_37 rfl (lv_at hl 2 rfl) ?_
        refine z_calli (As := []) C (m_spreadRoots l G h0 r d σ) (cwV 0 C.2.2.2.2 (lw_V q243 q245 qs14 q28 q246) rfl rfl rfl (by decide +kernel) ⟨Nat.le_of_ble_eq_true rfl, Nat.le_of_ble_eq_true rfl⟩) w (ml_rc w) rfl hl.1 rfl (Nat.le_of_ble_eq_true rfl) dX2_findRoots_38 ⟨Nat.le_refl _, Nat.le_refl _⟩ (fun v1 s1 H locs hp w => ?_)
        obtain ⟨hv, hσ⟩ := hp
        subst hv
        rw [hσ] at w
        refine lv_istore_n (lv' := [(1, .int (nI (srC σ))), (2, .int (nI rd)), (0, .ref h0)]) C.1 C.2.1 dX2_findRoots_41 rfl hl (by decide) rfl (fun ls hl => ?_)
        refine lv_iinc (lv' := [(2, .int (nI (rd + 1))), (1, .int (nI (srC σ))), (0, .ref h0)]) C.1 C.2.1 dX2_findRoots_42 hl (k := 1) rfl (nI_add _ _) (by decide) rfl (fun ls hl => ?_)
        refine lv_goto (tgt := 26) C.1 C.2.1 dX2_findRoots_45 (by decide) ?_
        have e1 : rounds (sweep srS 9) (n + 1) (σ, ch) = rounds (sweep srS 9) n (sweep srS 9 σ) := if_neg c_34
        rw [e1, srE] at K
        exact ih (rd + 1) (srR σ) (srC σ) H locs w (srC_lt σ) (by omega) ls (lv_sub hl [0, 1, 2] rfl) K
end
theorem m_findRoots (l : Launch) (G : va_G) (h0 : Nat) (r : Nat → Nat) (d : Nat → ClassId) (σ : Nat → Nat → Nat)   : zMv l yX2_findRoots cX2_findRoots 3 none (rmF 3 71) G (mlT d) (mlC h0 r d) [.ref h0] σ (fun σ' => σ' = frF σ) := by
  refine zMv_of (own := RX2) (by decide) rfl (Nat.le_of_ble_eq_true rfl) ?_
  intro p e s m args below meth c A ls C hr hlk w hl
  have hl : lv_has ls 3 [(0, .ref h0)] := hl
  have hbd := w.2.2.2.2.2
  refine lv_iconst (v := nI 0) C.1 C.2.1 dX2_findRoots_0 (by decide) ?_
  refine lv_istore_n (lv' := [(1, .int (nI 0)), (0, .ref h0)]) C.1 C.2.1 dX2_findRoots_1 rfl hl (by decide) rfl (fun ls hl => ?_)
  refine fr_i C 196 0 σ _ _ w (by omega) ls (lv_sub hl [0, 1] rfl) (fun H locs ls w hl => ?_)
  have w : mlW G h0 r d A s s.heap H locs (frI σ) := w
  refine lv_iconst (v := nI 1) C.1 C.2.1 dX2_findRoots_22 (by decide) ?_
  refine lv_istore_n (lv' := [(1, .int (nI 1)), (0, .ref h0)]) C.1 C.2.1 dX2_findRoots_23 rfl hl (by decide) rfl (fun ls hl => ?_)
  refine lv_iconst (v := nI 0) C.1 C.2.1 dX2_findRoots_24 (by decide) ?_
  refine lv_istore_n (lv' := [(2, .int (nI 0)), (1, .int (nI 1)), (0, .ref h0)]) C.1 C.2.1 dX2_findRoots_25 rfl hl (by decide) rfl (fun ls hl => ?_)
  refine fr_r C 197 0 (frI σ) 1 _ _ w (by decide) (by omega) ls (lv_sub hl [0, 1, 2] rfl) (fun H locs ls w => ?_)
  have w : mlW G h0 r d A s s.heap H locs (frN 197 (frI σ)) := w
  exact z_vret C hr hlk w rfl dX2_findRoots_48
section
variable {p : Program} {l : Launch} {e : Env} {R : Room} {s : State} {m : MethodId} {args : Array Value} {below : List Frame} {meth : Method} {c : Code} {H : Heap} {locs : List Loc} {Q : State → Prop}
variable {G : va_G} {A : Nat → Prop} {H0 : Heap} {σ : Nat → Nat → Nat} {h0 : Nat} {r : Nat → Nat} {d : Nat → ClassId}
theorem sc_in {q : Nat} (C : zC p m c cX2_spreadChanges 6 s args RX2) (hq : q < 196) : ∀ n k σ ch H locs, mlW G h0 r d A s H0 H locs σ → ch < 2 → k + n = 9 → ∀ ls, lv_has ls 6 [(3, .int (nI k)), (2, .int (nI q)), (1, .int (nI ch)), (0, .ref h0)] → (∀ H locs ls, mlW G h0 r d A s H0 H locs (fwd (scS q) n k (σ, ch)).1 → (fwd (scS q) n k (σ, ch)).2 < 2 → lv_has ls 6 [(2, .int (nI q)), (1, .int (nI ((fwd (scS q) n k (σ, ch)).2))), (0, .ref h0)] → W p l e (rmF 2 46) s m args below meth c H locs 0 0 Q (F0 m 134 ls [])) → W p l e (rmF 2 46) s m args below meth c H locs 0 0 Q (F0 m 13 ls []) := by
  intro n
  induction n with
  | zero =>
    intro k σ ch H locs w hch hn ls hl K
    refine lv_iload_n C.1 C.2.1 dX2_spreadChanges_13 rfl (lv_at hl 0 rfl) ?_
    refine lv_bipush (v := nI 9) C.1 C.2.1 dX2_spreadChanges_14 (by decide) ?_
    refine z_cmp_ge (tgt := 134) C dX2_spreadChanges_16 (by decide) (by omega) (by omega) (fun c_16 => ?_) (fun c_16 => ?_)
    · exact K H locs ls w hch (lv_sub hl [1, 2, 3] rfl)
    · exact absurd c_16 (by omega)
  | succ n ih =>
    intro k σ ch H locs w hch hn ls hl K
    have r1 := w.2.2.2.2.2 4 q
    have r2 := w.2.2.2.2.2 4 (nr q k)
    have r3 := w.2.2.2.2.2 2 q
    have r4 := w.2.2.2.2.2 2 (nr q k)
    have K2 : ∀ cs H locs ls, mlW G h0 r d A s H0 H locs σ → nr q k < 196 → cs = cst (σ 2) q (nr q k) k → lv_has ls 6 [(5, .int (nI cs)), (4, .int (nI (nr q k))), (3, .int (nI k)), (2, .int (nI q)), (1, .int (nI ch)), (0, .ref h0)] → W p l e (rmF 2 46) s m args below meth c H locs 0 0 Q (F0 m 86 ls []) := by
      intro cs H locs ls w hn hcs hl
      have hc2 : cs ≤ 1000 := by rw [hcs]; unfold cst; split <;> (try split) <;> decide
      refine lv_iload C.1 C.2.1 dX2_spreadChanges_86 (lv_at hl 1 rfl) ?_
      refine z_if_lt (tgt := 128) C dX2_spreadChanges_88 (by decide) (by omega) ?_
      refine lv_aload_n C.1 C.2.1 dX2_spreadChanges_91 rfl (lv_at hl 5 rfl) ?_
      refine ml_g4 C w dX2_spreadChanges_92 ?_
      refine lv_iload C.1 C.2.1 dX2_spreadChanges_95 (lv_at hl 1 rfl) ?_
      refine ml_l4 C w (by omega) dX2_spreadChanges_97 ?_
      refine lv_iload C.1 C.2.1 dX2_spreadChanges_98 (lv_at hl 0 rfl) ?_
      refine z_iadd C dX2_spreadChanges_100 ?_
      refine lv_aload_n C.1 C.2.1 dX2_spreadChanges_101 rfl (lv_at hl 5 rfl) ?_
      refine ml_g4 C w dX2_spreadChanges_102 ?_
      refine lv_iload_n C.1 C.2.1 dX2_spreadChanges_105 rfl (lv_at hl 3 rfl) ?_
      refine ml_l4 C w (by omega) dX2_spreadChanges_106 ?_
      refine z_cmp_ge (tgt := 128) C dX2_spreadChanges_107 (by decide) (by omega) (by omega) (fun c_107 => ?_) (fun c_107 => ?_)
      · refine lv_iinc (lv' := [(3, .int (nI (k + 1))), (5, .int (nI cs)), (4, .int (nI (nr q k))), (2, .int (nI q)), (1, .int (nI ch)), (0, .ref h0)]) C.1 C.2.1 dX2_spreadChanges_128 hl (k := 2) rfl (nI_add _ _) (by decide) rfl (fun ls hl => ?_)
        refine lv_goto (tgt := 13) C.1 C.2.1 dX2_spreadChanges_131 (by decide) ?_
        have e1 : scS q k (σ, ch) = (σ, ch) := by subst hcs; exact if_neg (fun z => absurd (show σ 4 (nr q k) + cst (σ 2) q (nr q k) k < σ 4 q from z.2) (by omega))
        rw [show fwd (scS q) (n + 1) k (σ, ch) = fwd (scS q) n (k + 1) (scS q k (σ, ch)) from rfl, e1] at K
        exact ih (k + 1) σ ch H locs w hch (by omega) ls (lv_sub hl [0, 3, 4, 5] rfl) K
      · refine lv_aload_n C.1 C.2.1 dX2_spreadChanges_110 rfl (lv_at hl 5 rfl) ?_
        refine ml_g4 C w dX2_spreadChanges_111 ?_
        refine lv_iload_n C.1 C.2.1 dX2_spreadChanges_114 rfl (lv_at hl 3 rfl) ?_
        refine lv_aload_n C.1 C.2.1 dX2_spreadChanges_115 rfl (lv_at hl 5 rfl) ?_
        refine ml_g4 C w dX2_spreadChanges_116 ?_
        refine lv_iload C.1 C.2.1 dX2_spreadChanges_119 (lv_at hl 1 rfl) ?_
        refine ml_l4 C w (by omega) dX2_spreadChanges_121 ?_
        refine lv_iload C.1 C.2.1 dX2_spreadChanges_122 (lv_at hl 0 rfl) ?_
        refine z_iadd C dX2_spreadChanges_124 ?_
        refine ml_s4 C w (by omega) (by omega) dX2_spreadChanges_125 (fun H locs w => ?_)
        refine lv_iconst (v := nI 1) C.1 C.2.1 dX2_spreadChanges_126 (by decide) ?_
        refine lv_istore_n (lv' := [(1, .int (nI 1)), (5, .int (nI cs)), (4, .int (nI (nr q k))), (3, .int (nI k)), (2, .int (nI q)), (0, .ref h0)]) C.1 C.2.1 dX2_spreadChanges_127 rfl hl (by decide) rfl (fun ls hl => ?_)
        refine lv_iinc (lv' := [(3, .int (nI (k + 1))), (1, .int (nI 1)), (5, .int (nI cs)), (4, .int (nI (nr q k))), (2, .int (nI q)), (0, .ref h0)]) C.1 C.2.1 dX2_spreadChanges_128 hl (k := 3) rfl (nI_add _ _) (by decide) rfl (fun ls hl => ?_)
        refine lv_goto (tgt := 13) C.1 C.2.1 dX2_spreadChanges_131 (by decide) ?_
        have e1 : scS q k (σ, ch) = (up σ 4 q ((σ 4 (nr q k)) + cs), 1) := by subst hcs; exact if_pos ⟨hn, c_107⟩
        rw [show fwd (scS q) (n + 1) k (σ, ch) = fwd (scS q) n (k + 1) (scS q k (σ, ch)) from rfl, e1] at K
        exact ih (k + 1) (up σ 4 q ((σ 4 (nr q k)) + cs)) 1 H locs w (by decide) (by omega) ls (lv_sub hl [0, 4, 1, 5] rfl) K
    refine lv_iload_n C.1 C.2.1 dX2_spreadChanges_13 rfl (lv_at hl 0 rfl) ?_
    refine lv_bipush (v := nI 9) C.1 C.2.1 dX2_spreadChanges_14 (by decide) ?_
    refine z_cmp_ge (tgt := 134) C dX2_spreadChanges_16 (by decide) (by omega) (by omega) (fun c_16 => ?_) (fun c_16 => ?_)
    · exact absurd c_16 (by omega)
    · refine lv_aload_n C.1 C.2.1 dX2_spreadChanges_19 rfl (lv_at hl 3 rfl) ?_
      refine lv_iload_n C.1 C.2.1 dX2_spreadChanges_20 rfl (lv_at hl 1 rfl) ?_
      refine lv_iload_n C.1 C.2.1 dX2_spreadChanges_21 rfl (lv_at hl 0 rfl) ?_
      refine z_calli (As := [.int (nI q), .int (nI k)]) C (m_near l G h0 r d σ q k (by omega) (by omega)) (cwV 2 C.2.2.2.2 (lw_V q247 q249 qs15 q28 q250) rfl rfl rfl (by decide +kernel) ⟨Nat.le_of_ble_eq_true rfl, Nat.le_of_ble_eq_true rfl⟩) w (ml_rc w) rfl hl.1 rfl (Nat.le_of_ble_eq_true rfl) dX2_spreadChanges_22 ⟨Nat.le_refl _, Nat.le_refl _⟩ (fun v1 s1 H locs hp w => ?_)
      obtain ⟨hv, hσ⟩ := hp
      subst hv
      rw [hσ] at w
      by_cases hn : nr q k < 196
      · rw [if_pos hn]
        refine lv_istore (lv' := [(4, .int (nI (nr q k))), (3, .int (nI k)), (2, .int (nI q)), (1, .int (nI ch)), (0, .ref h0)]) C.1 C.2.1 dX2_spreadChanges_25 hl (by decide) rfl (fun ls hl => ?_)
        refine lv_iload C.1 C.2.1 dX2_spreadChanges_27 (lv_at hl 0 rfl) ?_
        refine z_if_ge (tgt := 38) C dX2_spreadChanges_29 (by decide) (by omega) ?_
        refine lv_aload_n C.1 C.2.1 dX2_spreadChanges_38 rfl (lv_at hl 4 rfl) ?_
        refine lv_iload_n C.1 C.2.1 dX2_spreadChanges_39 rfl (lv_at hl 2 rfl) ?_
        refine lv_iload C.1 C.2.1 dX2_spreadChanges_40 (lv_at hl 0 rfl) ?_
        refine lv_iload_n C.1 C.2.1 dX2_spreadChanges_42 rfl (lv_at hl 1 rfl) ?_
        refine z_calli (As := [.int (nI q), .int (nI (nr q k)), .int (nI k)]) C (m_step l G h0 r d σ q (nr q k) k (by omega) (by omega) (by omega)) (cwV 3 C.2.2.2.2 (lw_V q251 q253 qs16 q28 q254) rfl rfl rfl (by decide +kernel) ⟨Nat.le_of_ble_eq_true rfl, Nat.le_of_ble_eq_true rfl⟩) w (ml_rc w) rfl hl.1 rfl (Nat.le_of_ble_eq_true rfl) dX2_spreadChanges_43 ⟨Nat.le_refl _, Nat.le_refl _⟩ (fun v2 s2 H locs hp w => ?_)
        obtain ⟨hv, hσ⟩ := hp
        subst hv
        rw [hσ] at w
        refine z_if_eq (tgt := 53) C dX2_spreadChanges_46 (by decide) z_ifB (fun c_46 => ?_) (fun c_46 => ?_)
        · refine lv_aload_n C.1 C.2.1 dX2_spreadChanges_53 rfl (lv_at hl 4 rfl) ?_
          refine ml_g2 C w dX2_spreadChanges_54 ?_
          refine lv_iload_n C.1 C.2.1 dX2_spreadChanges_57 rfl (lv_at hl 2 rfl) ?_
          refine ml_l2 C w (by omega) dX2_spreadChanges_58 ?_
          refine lv_aload_n C.1 C.2.1 dX2_spreadChanges_59 rfl (lv_at hl 4 rfl) ?_
          refine ml_g2 C w dX2_spreadChanges_60 ?_
          refine lv_iload C.1 C.2.1 dX2_spreadChanges_63 (lv_at hl 0 rfl) ?_
          refine ml_l2 C w (by omega) dX2_spreadChanges_65 ?_
          refine z_cmp_eq (tgt := 81) C dX2_spreadChanges_66 (by decide) (by omega) (by omega) (fun c_66 => ?_) (fun c_66 => ?_)
          · refine lv_sipush (v := nI 1000) C.1 C.2.1 dX2_spreadChanges_81 (by decide) ?_
            refine lv_istore (lv' := [(5, .int (nI 1000)), (4, .int (nI (nr q k))), (3, .int (nI k)), (2, .int (nI q)), (1, .int (nI ch)), (0, .ref h0)]) C.1 C.2.1 dX2_spreadChanges_84 hl (by decide) rfl (fun ls hl => ?_)
            exact K2 1000 H locs ls w hn (by unfold cst; rw [if_neg (z_ifN c_46), if_neg (fun z => z.1 c_66)]) (lv_sub hl [0, 1, 2, 3, 4, 5] rfl)
          · refine lv_aload_n C.1 C.2.1 dX2_spreadChanges_69 rfl (lv_at hl 4 rfl) ?_
            refine lv_iload_n C.1 C.2.1 dX2_spreadChanges_70 rfl (lv_at hl 1 rfl) ?_
            refine z_calli (As := [.int (nI k)]) C (m_besideWay l G h0 r d σ k (by omega)) (cwV 1 C.2.2.2.2 (lw_V q255 q257 qs17 q28 q258) rfl rfl rfl (by decide +kernel) ⟨Nat.le_of_ble_eq_true rfl, Nat.le_of_ble_eq_true rfl⟩) w (ml_rc w) rfl hl.1 rfl (Nat.le_of_ble_eq_true rfl) dX2_spreadChanges_71 ⟨Nat.le_refl _, Nat.le_refl _⟩ (fun v3 s3 H locs hp w => ?_)
            obtain ⟨hv, hσ⟩ := hp
            subst hv
            rw [hσ] at w
            refine z_if_eq (tgt := 81) C dX2_spreadChanges_74 (by decide) z_ifB (fun c_74 => ?_) (fun c_74 => ?_)
            · refine lv_sipush (v := nI 1000) C.1 C.2.1 dX2_spreadChanges_81 (by decide) ?_
              refine lv_istore (lv' := [(5, .int (nI 1000)), (4, .int (nI (nr q k))), (3, .int (nI k)), (2, .int (nI q)), (1, .int (nI ch)), (0, .ref h0)]) C.1 C.2.1 dX2_spreadChanges_84 hl (by decide) rfl (fun ls hl => ?_)
              exact K2 1000 H locs ls w hn (by unfold cst; rw [if_neg (z_ifN c_46), if_neg (fun z => z_ifN c_74 z.2)]) (lv_sub hl [0, 1, 2, 3, 4, 5] rfl)
            · refine lv_iconst (v := nI 1) C.1 C.2.1 dX2_spreadChanges_77 (by decide) ?_
              refine lv_goto (tgt := 84) C.1 C.2.1 dX2_spreadChanges_78 (by decide) ?_
              refine lv_istore (lv' := [(5, .int (nI 1)), (4, .int (nI (nr q k))), (3, .int (nI k)), (2, .int (nI q)), (1, .int (nI ch)), (0, .ref h0)]) C.1 C.2.1 dX2_spreadChanges_84 hl (by decide) rfl (fun ls hl => ?_)
              exact K2 1 H locs ls w hn (by unfold cst; rw [if_neg (z_ifN c_46), if_pos ⟨c_66, z_ifP c_74⟩]) (lv_sub hl [0, 1, 2, 3, 4, 5] rfl)
        · refine lv_iconst (v := nI 0) C.1 C.2.1 dX2_spreadChanges_49 (by decide) ?_
          refine lv_goto (tgt := 84) C.1 C.2.1 dX2_spreadChanges_50 (by decide) ?_
          refine lv_istore (lv' := [(5, .int (nI 0)), (4, .int (nI (nr q k))), (3, .int (nI k)), (2, .int (nI q)), (1, .int (nI ch)), (0, .ref h0)]) C.1 C.2.1 dX2_spreadChanges_84 hl (by decide) rfl (fun ls hl => ?_)
          exact K2 0 H locs ls w hn (by unfold cst; rw [if_pos (z_ifP c_46)]) (lv_sub hl [0, 1, 2, 3, 4, 5] rfl)
      · rw [if_neg hn]
        refine lv_istore (lv' := [(4, .int (-1)), (3, .int (nI k)), (2, .int (nI q)), (1, .int (nI ch)), (0, .ref h0)]) C.1 C.2.1 dX2_spreadChanges_25 hl (by decide) rfl (fun ls hl => ?_)
        refine lv_iload C.1 C.2.1 dX2_spreadChanges_27 (lv_at hl 0 rfl) ?_
        refine lv_if_ge (tgt := 38) C.1 C.2.1 dX2_spreadChanges_29 (by decide) (fun c_29 => ?_) (fun c_29 => ?_)
        · exact absurd c_29 (by decide)
        · refine lv_sipush (v := nI 1000) C.1 C.2.1 dX2_spreadChanges_32 (by decide) ?_
          refine lv_goto (tgt := 84) C.1 C.2.1 dX2_spreadChanges_35 (by decide) ?_
          refine lv_istore (lv' := [(5, .int (nI 1000)), (4, .int (-1)), (3, .int (nI k)), (2, .int (nI q)), (1, .int (nI ch)), (0, .ref h0)]) C.1 C.2.1 dX2_spreadChanges_84 hl (by decide) rfl (fun ls hl => ?_)
          refine lv_iload C.1 C.2.1 dX2_spreadChanges_86 (lv_at hl 1 rfl) ?_
          refine lv_if_lt (tgt := 128) C.1 C.2.1 dX2_spreadChanges_88 (by decide) (fun c_88 => ?_) (fun c_88 => ?_)
          · refine lv_iinc (lv' := [(3, .int (nI (k + 1))), (5, .int (nI 1000)), (4, .int (-1)), (2, .int (nI q)), (1, .int (nI ch)), (0, .ref h0)]) C.1 C.2.1 dX2_spreadChanges_128 hl (k := 2) rfl (nI_add _ _) (by decide) rfl (fun ls hl => ?_)
            refine lv_goto (tgt := 13) C.1 C.2.1 dX2_spreadChanges_131 (by decide) ?_
            have e1 : scS q k (σ, ch) = (σ, ch) := if_neg (fun z => hn z.1)
            rw [show fwd (scS q) (n + 1) k (σ, ch) = fwd (scS q) n (k + 1) (scS q k (σ, ch)) from rfl, e1] at K
            exact ih (k + 1) σ ch H locs w hch (by omega) ls (lv_sub hl [0, 3, 4, 5] rfl) K
          · exact absurd (by decide) c_88
theorem sc_out (C : zC p m c cX2_spreadChanges 6 s args RX2) : ∀ n q σ ch H locs, mlW G h0 r d A s H0 H locs σ → ch < 2 → q + n = 196 → ∀ ls, lv_has ls 6 [(2, .int (nI q)), (1, .int (nI ch)), (0, .ref h0)] → (∀ H locs ls, mlW G h0 r d A s H0 H locs (fwd (fun p t => fwd (scS p) 9 0 t) n q (σ, ch)).1 → lv_has ls 6 [(1, .int (nI ((fwd (fun p t => fwd (scS p) 9 0 t) n q (σ, ch)).2))), (0, .ref h0)] → W p l e (rmF 2 46) s m args below meth c H locs 0 0 Q (F0 m 140 ls [])) → W p l e (rmF 2 46) s m args below meth c H locs 0 0 Q (F0 m 4 ls []) := by
  intro n
  induction n with
  | zero =>
    intro q σ ch H locs w hch hn ls hl K
    refine lv_iload_n C.1 C.2.1 dX2_spreadChanges_4 rfl (lv_at hl 0 rfl) ?_
    refine lv_sipush (v := nI 196) C.1 C.2.1 dX2_spreadChanges_5 (by decide) ?_
    refine z_cmp_ge (tgt := 140) C dX2_spreadChanges_8 (by decide) (by omega) (by omega) (fun c_8 => ?_) (fun c_8 => ?_)
    · exact K H locs ls w (lv_sub hl [1, 2] rfl)
    · exact absurd c_8 (by omega)
  | succ n ih =>
    intro q σ ch H locs w hch hn ls hl K
    refine lv_iload_n C.1 C.2.1 dX2_spreadChanges_4 rfl (lv_at hl 0 rfl) ?_
    refine lv_sipush (v := nI 196) C.1 C.2.1 dX2_spreadChanges_5 (by decide) ?_
    refine z_cmp_ge (tgt := 140) C dX2_spreadChanges_8 (by decide) (by omega) (by omega) (fun c_8 => ?_) (fun c_8 => ?_)
    · exact absurd c_8 (by omega)
    · refine lv_iconst (v := nI 0) C.1 C.2.1 dX2_spreadChanges_11 (by decide) ?_
      refine lv_istore_n (lv' := [(3, .int (nI 0)), (2, .int (nI q)), (1, .int (nI ch)), (0, .ref h0)]) C.1 C.2.1 dX2_spreadChanges_12 rfl hl (by decide) rfl (fun ls hl => ?_)
      refine sc_in C (by omega) 9 0 σ ch _ _ w hch (by omega) ls (lv_sub hl [0, 1, 2, 3] rfl) (fun H locs ls w hch hl => ?_)
      rw [show fwd (fun p t => fwd (scS p) 9 0 t) (n + 1) q (σ, ch) = fwd (fun p t => fwd (scS p) 9 0 t) n (q + 1) (fwd (scS q) 9 0 (σ, ch)) from rfl] at K
      generalize fwd (scS q) 9 0 (σ, ch) = t at w hch hl K
      obtain ⟨τ, ch2⟩ := t
      have hl : lv_has ls 6 [(2, .int (nI q)), (1, .int (nI ch2)), (0, .ref h0)] := hl
      have w : mlW G h0 r d A s H0 H locs τ := w
      refine lv_iinc (lv' := [(2, .int (nI (q + 1))), (1, .int (nI ch2)), (0, .ref h0)]) C.1 C.2.1 dX2_spreadChanges_134 hl (k := 0) rfl (nI_add _ _) (by decide) rfl (fun ls hl => ?_)
      refine lv_goto (tgt := 4) C.1 C.2.1 dX2_spreadChanges_137 (by decide) ?_
      exact ih (q + 1) τ ch2 H locs w hch (by omega) ls (lv_sub hl [0, 1, 2] rfl) K
end
theorem m_spreadChanges (l : Launch) (G : va_G) (h0 : Nat) (r : Nat → Nat) (d : Nat → ClassId) (σ : Nat → Nat → Nat)   : zMi l yX2_spreadChanges cX2_spreadChanges 6 (some .boolean) (rmF 2 46) G (mlT d) (mlC h0 r d) [.ref h0] σ (fun v σ' => v = nI (scC σ) ∧ σ' = scR σ) := by
  refine zMi_of (own := RX2) (by decide) rfl (Nat.le_of_ble_eq_true rfl) ?_
  intro p e s m args below meth c A ls C hr hlk w hl
  have hl : lv_has ls 6 [(0, .ref h0)] := hl
  have hbd := w.2.2.2.2.2
  refine lv_iconst (v := nI 0) C.1 C.2.1 dX2_spreadChanges_0 (by decide) ?_
  refine lv_istore_n (lv' := [(1, .int (nI 0)), (0, .ref h0)]) C.1 C.2.1 dX2_spreadChanges_1 rfl hl (by decide) rfl (fun ls hl => ?_)
  refine lv_iconst (v := nI 0) C.1 C.2.1 dX2_spreadChanges_2 (by decide) ?_
  refine lv_istore_n (lv' := [(2, .int (nI 0)), (1, .int (nI 0)), (0, .ref h0)]) C.1 C.2.1 dX2_spreadChanges_3 rfl hl (by decide) rfl (fun ls hl => ?_)
  refine sc_out C 196 0 σ 0 _ _ w (by decide) (by omega) ls (lv_sub hl [0, 1, 2] rfl) (fun H locs ls w hl => ?_)
  have w : mlW G h0 r d A s s.heap H locs (scR σ) := w
  have hl : lv_has ls 6 [(1, .int (nI (scC σ))), (0, .ref h0)] := hl
  refine lv_iload_n C.1 C.2.1 dX2_spreadChanges_140 rfl (lv_at hl 0 rfl) ?_
  exact z_zret C hr hlk w (scC_lt σ) ⟨rfl, rfl⟩ dX2_spreadChanges_141
section
variable {p : Program} {l : Launch} {e : Env} {R : Room} {s : State} {m : MethodId} {args : Array Value} {below : List Frame} {meth : Method} {c : Code} {H : Heap} {locs : List Loc} {Q : State → Prop}
variable {G : va_G} {A : Nat → Prop} {H0 : Heap} {σ : Nat → Nat → Nat} {h0 : Nat} {r : Nat → Nat} {d : Nat → ClassId}
theorem fc_i (C : zC p m c cX2_findChanges 3 s args RX2) : ∀ n q σ H locs, mlW G h0 r d A s H0 H locs σ → q + n = 196 → ∀ ls, lv_has ls 3 [(1, .int (nI q)), (0, .ref h0)] → (∀ H locs ls, mlW G h0 r d A s H0 H locs (fwd (fun p s => up s 4 p (if p = 0 then 0 else 500)) n q σ) → lv_has ls 3 [(0, .ref h0)] → W p l e (rmF 3 71) s m args below meth c H locs 0 0 Q (F0 m 32 ls [])) → W p l e (rmF 3 71) s m args below meth c H locs 0 0 Q (F0 m 2 ls []) := by
  intro n
  induction n with
  | zero =>
    intro q σ H locs w hn ls hl K
    refine lv_iload_n C.1 C.2.1 dX2_findChanges_2 rfl (lv_at hl 0 rfl) ?_
    refine lv_sipush (v := nI 196) C.1 C.2.1 dX2_findChanges_3 (by decide) ?_
    refine z_cmp_ge (tgt := 32) C dX2_findChanges_6 (by decide) (by omega) (by omega) (fun c_6 => ?_) (fun c_6 => ?_)
    · exact K H locs ls w (lv_sub hl [1] rfl)
    · exact absurd c_6 (by omega)
  | succ n ih =>
    intro q σ H locs w hn ls hl K
    refine lv_iload_n C.1 C.2.1 dX2_findChanges_2 rfl (lv_at hl 0 rfl) ?_
    refine lv_sipush (v := nI 196) C.1 C.2.1 dX2_findChanges_3 (by decide) ?_
    refine z_cmp_ge (tgt := 32) C dX2_findChanges_6 (by decide) (by omega) (by omega) (fun c_6 => ?_) (fun c_6 => ?_)
    · exact absurd c_6 (by omega)
    · refine lv_aload_n C.1 C.2.1 dX2_findChanges_9 rfl (lv_at hl 1 rfl) ?_
      refine ml_g4 C w dX2_findChanges_10 ?_
      refine lv_iload_n C.1 C.2.1 dX2_findChanges_13 rfl (lv_at hl 0 rfl) ?_
      refine lv_iload_n C.1 C.2.1 dX2_findChanges_14 rfl (lv_at hl 0 rfl) ?_
      refine z_if_ne (tgt := 22) C dX2_findChanges_15 (by decide) (by omega) (fun c_15 => ?_) (fun c_15 => ?_)
      · refine lv_sipush (v := nI 500) C.1 C.2.1 dX2_findChanges_22 (by decide) ?_
        refine ml_s4 C w (by omega) (by omega) dX2_findChanges_25 (fun H locs w => ?_)
        refine lv_iinc (lv' := [(1, .int (nI (q + 1))), (0, .ref h0)]) C.1 C.2.1 dX2_findChanges_26 hl (k := 0) rfl (nI_add _ _) (by decide) rfl (fun ls hl => ?_)
        refine lv_goto (tgt := 2) C.1 C.2.1 dX2_findChanges_29 (by decide) ?_
        have e1 : up σ 4 q (if q = 0 then 0 else 500) = up σ 4 q 500 := by rw [if_neg c_15]
        exact ih (q + 1) (up σ 4 q (if q = 0 then 0 else 500)) H locs (by rw [e1]; exact w) (by omega) ls hl K
      · refine lv_iconst (v := nI 0) C.1 C.2.1 dX2_findChanges_18 (by decide) ?_
        refine lv_goto (tgt := 25) C.1 C.2.1 dX2_findChanges_19 (by decide) ?_
        refine ml_s4 C w (by omega) (by omega) dX2_findChanges_25 (fun H locs w => ?_)
        refine lv_iinc (lv' := [(1, .int (nI (q + 1))), (0, .ref h0)]) C.1 C.2.1 dX2_findChanges_26 hl (k := 0) rfl (nI_add _ _) (by decide) rfl (fun ls hl => ?_)
        refine lv_goto (tgt := 2) C.1 C.2.1 dX2_findChanges_29 (by decide) ?_
        have e1 : up σ 4 q (if q = 0 then 0 else 500) = up σ 4 q 0 := by rw [if_pos c_15]
        exact ih (q + 1) (up σ 4 q (if q = 0 then 0 else 500)) H locs (by rw [e1]; exact w) (by omega) ls hl K
theorem fc_r (C : zC p m c cX2_findChanges 3 s args RX2) : ∀ n rd σ ch H locs, mlW G h0 r d A s H0 H locs σ → ch < 2 → rd + n = 197 → ∀ ls, lv_has ls 3 [(2, .int (nI rd)), (1, .int (nI ch)), (0, .ref h0)] → (∀ H locs ls, mlW G h0 r d A s H0 H locs (rounds (sweep scS 9) n (σ, ch)).1 → W p l e (rmF 3 71) s m args below meth c H locs 0 0 Q (F0 m 58 ls [])) → W p l e (rmF 3 71) s m args below meth c H locs 0 0 Q (F0 m 36 ls []) := by
  intro n
  induction n with
  | zero =>
    intro rd σ ch H locs w hch hn ls hl K
    refine lv_iload_n C.1 C.2.1 dX2_findChanges_36 rfl (lv_at hl 0 rfl) ?_
    refine lv_sipush (v := nI 197) C.1 C.2.1 dX2_findChanges_37 (by decide) ?_
    refine z_cmp_ge (tgt := 58) C dX2_findChanges_40 (by decide) (by omega) (by omega) (fun c_40 => ?_) (fun c_40 => ?_)
    · exact K H locs ls w
    · exact absurd c_40 (by omega)
  | succ n ih =>
    intro rd σ ch H locs w hch hn ls hl K
    refine lv_iload_n C.1 C.2.1 dX2_findChanges_36 rfl (lv_at hl 0 rfl) ?_
    refine lv_sipush (v := nI 197) C.1 C.2.1 dX2_findChanges_37 (by decide) ?_
    refine z_cmp_ge (tgt := 58) C dX2_findChanges_40 (by decide) (by omega) (by omega) (fun c_40 => ?_) (fun c_40 => ?_)
    · exact absurd c_40 (by omega)
    · refine lv_iload_n C.1 C.2.1 dX2_findChanges_43 rfl (lv_at hl 1 rfl) ?_
      refine z_if_eq (tgt := 58) C dX2_findChanges_44 (by decide) (by omega) (fun c_44 => ?_) (fun c_44 => ?_)
      · have e1 : rounds (sweep scS 9) (n + 1) (σ, ch) = (σ, ch) := if_pos c_44
        rw [e1] at K
        exact K H locs ls w
      · refine lv_aload_n C.1 C.2.1 dX2_findChanges_47 rfl (lv_at hl 2 rfl) ?_
        refine z_calli (As := []) C (m_spreadChanges l G h0 r d σ) (cwV 0 C.2.2.2.2 (lw_V q291 q293 qs22 q28 q294) rfl rfl rfl (by decide +kernel) ⟨Nat.le_of_ble_eq_true rfl, Nat.le_of_ble_eq_true rfl⟩) w (ml_rc w) rfl hl.1 rfl (Nat.le_of_ble_eq_true rfl) dX2_findChanges_48 ⟨Nat.le_refl _, Nat.le_refl _⟩ (fun v1 s1 H locs hp w => ?_)
        obtain ⟨hv, hσ⟩ := hp
        subst hv
        rw [hσ] at w
        refine lv_istore_n (lv' := [(1, .int (nI (scC σ))), (2, .int (nI rd)), (0, .ref h0)]) C.1 C.2.1 dX2_findChanges_51 rfl hl (by decide) rfl (fun ls hl => ?_)
        refine lv_iinc (lv' := [(2, .int (nI (rd + 1))), (1, .int (nI (scC σ))), (0, .ref h0)]) C.1 C.2.1 dX2_findChanges_52 hl (k := 1) rfl (nI_add _ _) (by decide) rfl (fun ls hl => ?_)
        refine lv_goto (tgt := 36) C.1 C.2.1 dX2_findChanges_55 (by decide) ?_
        have e1 : rounds (sweep scS 9) (n + 1) (σ, ch) = rounds (sweep scS 9) n (sweep scS 9 σ) := if_neg c_44
        rw [e1, scE] at K
        exact ih (rd + 1) (scR σ) (scC σ) H locs w (scC_lt σ) (by omega) ls (lv_sub hl [0, 1, 2] rfl) K
end
theorem m_findChanges (l : Launch) (G : va_G) (h0 : Nat) (r : Nat → Nat) (d : Nat → ClassId) (σ : Nat → Nat → Nat)   : zMv l yX2_findChanges cX2_findChanges 3 none (rmF 3 71) G (mlT d) (mlC h0 r d) [.ref h0] σ (fun σ' => σ' = fcF σ) := by
  refine zMv_of (own := RX2) (by decide) rfl (Nat.le_of_ble_eq_true rfl) ?_
  intro p e s m args below meth c A ls C hr hlk w hl
  have hl : lv_has ls 3 [(0, .ref h0)] := hl
  have hbd := w.2.2.2.2.2
  refine lv_iconst (v := nI 0) C.1 C.2.1 dX2_findChanges_0 (by decide) ?_
  refine lv_istore_n (lv' := [(1, .int (nI 0)), (0, .ref h0)]) C.1 C.2.1 dX2_findChanges_1 rfl hl (by decide) rfl (fun ls hl => ?_)
  refine fc_i C 196 0 σ _ _ w (by omega) ls (lv_sub hl [0, 1] rfl) (fun H locs ls w hl => ?_)
  have w : mlW G h0 r d A s s.heap H locs (fcI σ) := w
  refine lv_iconst (v := nI 1) C.1 C.2.1 dX2_findChanges_32 (by decide) ?_
  refine lv_istore_n (lv' := [(1, .int (nI 1)), (0, .ref h0)]) C.1 C.2.1 dX2_findChanges_33 rfl hl (by decide) rfl (fun ls hl => ?_)
  refine lv_iconst (v := nI 0) C.1 C.2.1 dX2_findChanges_34 (by decide) ?_
  refine lv_istore_n (lv' := [(2, .int (nI 0)), (1, .int (nI 1)), (0, .ref h0)]) C.1 C.2.1 dX2_findChanges_35 rfl hl (by decide) rfl (fun ls hl => ?_)
  refine fc_r C 197 0 (fcI σ) 1 _ _ w (by decide) (by omega) ls (lv_sub hl [0, 1, 2] rfl) (fun H locs ls w => ?_)
  have w : mlW G h0 r d A s s.heap H locs (fcN 197 (fcI σ)) := w
  exact z_vret C hr hlk w rfl dX2_findChanges_58
