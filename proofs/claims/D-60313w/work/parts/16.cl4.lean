set_option maxRecDepth 100000
/-! ===== CompLabel: settleRuns, sumUp ===== -/
def stB (k : Nat) (s : Nat → Nat → Nat) : Nat := if s 5 k = 0 then 0 else up s 8 k (s 8 (s 8 k)) 8 (k - 1)
def stA (k : Nat) (s : Nat → Nat → Nat) : Nat → Nat → Nat := up (up (up (up s 8 k (s 8 (s 8 k))) 12 k (s 6 k - s 5 k + 1)) 10 k (stB k s)) 11 k (s 11 (stB k s) + 1)
def stS (k : Nat) (s : Nat → Nat → Nat) : Nat → Nat → Nat :=
  if s 8 (s 8 k) ≠ k then up (up s 8 k (s 8 (s 8 k))) 12 (s 8 (s 8 k)) (s 12 (s 8 (s 8 k)) + (s 6 k - s 5 k + 1))
  else if s 7 k ≠ 0 then up (up (up (stA k s) 15 k (s 17 0)) 16 (s 17 0) k) 17 0 (s 17 0 + 1) else up (stA k s) 18 0 (s 18 0 + 1)
def stI (s : Nat → Nat → Nat) : Nat → Nat → Nat := up (up (up (up (up s 17 0 0) 18 0 1) 12 0 0) 11 0 0) 10 0 0
def stF (s : Nat → Nat → Nat) : Nat → Nat → Nat := fwd stS (s 4 0 - 1) 1 (stI s)
/-- what a step of settleRuns asks -/
def StOk (k : Nat) (s : Nat → Nat → Nat) : Prop := (∀ i, s 8 i ≤ i) ∧ s 5 k ≤ s 6 k ∧ s 6 k < 128 ∧ s 12 (s 8 (s 8 k)) + (s 6 k - s 5 k + 1) < 32768 ∧ s 11 (stB k s) + 1 < 128 ∧ stB k s < 145 ∧ s 17 0 < 145 ∧ s 18 0 < 1000
theorem stA_row (k : Nat) (s : Nat → Nat → Nat) {k' : Nat} (h : k' ≠ 8 ∧ k' ≠ 10 ∧ k' ≠ 11 ∧ k' ≠ 12) : stA k s k' = s k' := by
  unfold stA
  rw [up_row h.2.2.1, up_row h.2.1, up_row h.2.2.2, up_row h.1]
theorem stS_row (k : Nat) (s : Nat → Nat → Nat) {k' : Nat} (h : k' < 8 ∨ k' = 9) : stS k s k' = s k' := by
  unfold stS
  split
  · rw [up_row (by omega), up_row (by omega)]
  · split
    · rw [up_row (by omega), up_row (by omega), up_row (by omega), stA_row _ _ (by omega)]
    · rw [up_row (by omega), stA_row _ _ (by omega)]
section
variable {p : Program} {l : Launch} {e : Env} {R : Room} {s : State} {m : MethodId} {args : Array Value} {below : List Frame} {meth : Method} {c : Code} {H : Heap} {locs : List Loc} {Q : State → Prop}
variable {G : va_G} {A : Nat → Prop} {H0 : Heap} {σ : Nat → Nat → Nat} {h0 : Nat} {r : Nat → Nat} {d : Nat → ClassId}
theorem st_loop (C : zC p m c cX1_settleRuns 5 s args RX1) : ∀ n k σ H locs, clW G h0 r d A s H0 H locs σ → σ 4 0 = k + n → 1 ≤ k → k + n ≤ 145 → (∀ j k', j < n → k' = k + j → StOk k' (fwd stS j k σ)) → ∀ ls, lv_has ls 5 [(1, .int (nI k)), (0, .ref h0)] → (∀ H locs ls, clW G h0 r d A s H0 H locs (fwd stS n k σ) → W p l e R s m args below meth c H locs 0 0 Q (F0 m 216 ls [])) → W p l e R s m args below meth c H locs 0 0 Q (F0 m 33 ls []) := by
  intro n
  induction n with
  | zero =>
    intro k σ H locs w hn h1 h2 hok ls hl K
    refine lv_iload_n C.1 C.2.1 dX1_settleRuns_33 rfl (lv_at hl 0 rfl) ?_
    refine lv_aload_n C.1 C.2.1 dX1_settleRuns_34 rfl (lv_at hl 1 rfl) ?_
    refine cl_g4 C w dX1_settleRuns_35 ?_
    refine z_cmp_ge (tgt := 216) C dX1_settleRuns_38 (by decide) (by omega) (by omega) (fun c_38 => ?_) (fun c_38 => ?_)
    · exact K H locs ls w
    · exact absurd c_38 (by omega)
  | succ n ih =>
    intro k σ H locs w hn h1 h2 hok ls hl K
    have g : StOk k σ := hok 0 k (by omega) rfl
    obtain ⟨hF, g1, g2, g3, g4, g5, g6, g7⟩ := g
    have f1 := hF k
    have f2 := hF (σ 8 k)
    have b5 := w.2.2.2.2.2 5 k
    have b7 := w.2.2.2.2.2 7 k
    have b4 := w.2.2.2.2.2 4 0
    have hok' : ∀ j k', j < n → k' = k + 1 + j → StOk k' (fwd stS j (k + 1) (stS k σ)) := fun j k' hj hk => hok (j + 1) k' (by omega) (by omega)
    refine lv_iload_n C.1 C.2.1 dX1_settleRuns_33 rfl (lv_at hl 0 rfl) ?_
    refine lv_aload_n C.1 C.2.1 dX1_settleRuns_34 rfl (lv_at hl 1 rfl) ?_
    refine cl_g4 C w dX1_settleRuns_35 ?_
    refine z_cmp_ge (tgt := 216) C dX1_settleRuns_38 (by decide) (by omega) (by omega) (fun c_38 => ?_) (fun c_38 => ?_)
    · exact absurd c_38 (by omega)
    · refine lv_aload_n C.1 C.2.1 dX1_settleRuns_41 rfl (lv_at hl 1 rfl) ?_
      refine cl_g6 C w dX1_settleRuns_42 ?_
      refine lv_iload_n C.1 C.2.1 dX1_settleRuns_45 rfl (lv_at hl 0 rfl) ?_
      refine cl_l6 C w (by omega) dX1_settleRuns_46 ?_
      refine lv_aload_n C.1 C.2.1 dX1_settleRuns_47 rfl (lv_at hl 1 rfl) ?_
      refine cl_g5 C w dX1_settleRuns_48 ?_
      refine lv_iload_n C.1 C.2.1 dX1_settleRuns_51 rfl (lv_at hl 0 rfl) ?_
      refine cl_l5 C w (by omega) dX1_settleRuns_52 ?_
      refine z_isub C (by omega) dX1_settleRuns_53 ?_
      refine lv_iconst (v := nI 1) C.1 C.2.1 dX1_settleRuns_54 (by decide) ?_
      refine z_iadd C dX1_settleRuns_55 ?_
      refine lv_istore_n (lv' := [(2, .int (nI (((σ 6 k) - (σ 5 k)) + 1))), (1, .int (nI k)), (0, .ref h0)]) C.1 C.2.1 dX1_settleRuns_56 rfl hl (by decide) rfl (fun ls hl => ?_)
      refine lv_aload_n C.1 C.2.1 dX1_settleRuns_57 rfl (lv_at hl 2 rfl) ?_
      refine cl_g8 C w dX1_settleRuns_58 ?_
      refine lv_iload_n C.1 C.2.1 dX1_settleRuns_61 rfl (lv_at hl 1 rfl) ?_
      refine lv_aload_n C.1 C.2.1 dX1_settleRuns_62 rfl (lv_at hl 2 rfl) ?_
      refine cl_g8 C w dX1_settleRuns_63 ?_
      refine lv_aload_n C.1 C.2.1 dX1_settleRuns_66 rfl (lv_at hl 2 rfl) ?_
      refine cl_g8 C w dX1_settleRuns_67 ?_
      refine lv_iload_n C.1 C.2.1 dX1_settleRuns_70 rfl (lv_at hl 1 rfl) ?_
      refine cl_l8 C w (by omega) dX1_settleRuns_71 ?_
      refine cl_l8 C w (by omega) dX1_settleRuns_72 ?_
      refine cl_s8 C w (by omega) (by omega) dX1_settleRuns_73 (fun H locs w => ?_)
      refine lv_aload_n C.1 C.2.1 dX1_settleRuns_74 rfl (lv_at hl 2 rfl) ?_
      refine cl_g8 C w dX1_settleRuns_75 ?_
      refine lv_iload_n C.1 C.2.1 dX1_settleRuns_78 rfl (lv_at hl 1 rfl) ?_
      refine cl_l8 C w (by omega) dX1_settleRuns_79 ?_
      refine W.eq (g2 := F0 m 80 ls [.int (nI (σ 8 (σ 8 k)))]) (by rw [up_eq]) ?_
      refine lv_istore_n (lv' := [(3, .int (nI (σ 8 (σ 8 k)))), (2, .int (nI (((σ 6 k) - (σ 5 k)) + 1))), (1, .int (nI k)), (0, .ref h0)]) C.1 C.2.1 dX1_settleRuns_80 rfl hl (by decide) rfl (fun ls hl => ?_)
      refine lv_iload_n C.1 C.2.1 dX1_settleRuns_81 rfl (lv_at hl 0 rfl) ?_
      refine lv_iload_n C.1 C.2.1 dX1_settleRuns_82 rfl (lv_at hl 2 rfl) ?_
      refine z_cmp_eq (tgt := 100) C dX1_settleRuns_83 (by decide) (by omega) (by omega) (fun c_83 => ?_) (fun c_83 => ?_)
      · refine lv_aload_n C.1 C.2.1 dX1_settleRuns_100 rfl (lv_at hl 3 rfl) ?_
        refine cl_g12 C w dX1_settleRuns_101 ?_
        refine lv_iload_n C.1 C.2.1 dX1_settleRuns_104 rfl (lv_at hl 2 rfl) ?_
        refine lv_iload_n C.1 C.2.1 dX1_settleRuns_105 rfl (lv_at hl 1 rfl) ?_
        refine z_i2s C (by omega) dX1_settleRuns_106 ?_
        refine cl_s12 C w (by omega) (by omega) dX1_settleRuns_107 (fun H locs w => ?_)
        refine lv_aload_n C.1 C.2.1 dX1_settleRuns_108 rfl (lv_at hl 3 rfl) ?_
        refine cl_g5 C w dX1_settleRuns_109 ?_
        refine lv_iload_n C.1 C.2.1 dX1_settleRuns_112 rfl (lv_at hl 2 rfl) ?_
        refine cl_l5 C w (by omega) dX1_settleRuns_113 ?_
        refine W.eq (g2 := F0 m 114 ls [.int (nI (σ 5 k))]) rfl ?_
        refine z_if_ne (tgt := 121) C dX1_settleRuns_114 (by decide) (by omega) (fun c_114 => ?_) (fun c_114 => ?_)
        · refine lv_aload_n C.1 C.2.1 dX1_settleRuns_121 rfl (lv_at hl 3 rfl) ?_
          refine cl_g8 C w dX1_settleRuns_122 ?_
          refine lv_iload_n C.1 C.2.1 dX1_settleRuns_125 rfl (lv_at hl 2 rfl) ?_
          refine lv_iconst (v := nI 1) C.1 C.2.1 dX1_settleRuns_126 (by decide) ?_
          refine z_isub C (by omega) dX1_settleRuns_127 ?_
          refine cl_l8 C w (by omega) dX1_settleRuns_128 ?_
          refine W.eq (g2 := F0 m 129 ls [.int (nI ((up σ 8 k (σ 8 (σ 8 k))) 8 (k - 1)))]) rfl ?_
          have hB : stB k σ = (up σ 8 k (σ 8 (σ 8 k))) 8 (k - 1) := if_neg c_114
          rw [hB] at g4 g5
          refine lv_istore (lv' := [(4, .int (nI ((up σ 8 k (σ 8 (σ 8 k))) 8 (k - 1)))), (3, .int (nI (σ 8 (σ 8 k)))), (2, .int (nI (((σ 6 k) - (σ 5 k)) + 1))), (1, .int (nI k)), (0, .ref h0)]) C.1 C.2.1 dX1_settleRuns_129 hl (by decide) rfl (fun ls hl => ?_)
          refine lv_aload_n C.1 C.2.1 dX1_settleRuns_131 rfl (lv_at hl 4 rfl) ?_
          refine cl_g10 C w dX1_settleRuns_132 ?_
          refine lv_iload_n C.1 C.2.1 dX1_settleRuns_135 rfl (lv_at hl 3 rfl) ?_
          refine lv_iload C.1 C.2.1 dX1_settleRuns_136 (lv_at hl 0 rfl) ?_
          refine z_i2s C (by omega) dX1_settleRuns_138 ?_
          refine cl_s10 C w (by omega) (by omega) dX1_settleRuns_139 (fun H locs w => ?_)
          refine lv_aload_n C.1 C.2.1 dX1_settleRuns_140 rfl (lv_at hl 4 rfl) ?_
          refine cl_g11 C w dX1_settleRuns_141 ?_
          refine lv_iload_n C.1 C.2.1 dX1_settleRuns_144 rfl (lv_at hl 3 rfl) ?_
          refine lv_aload_n C.1 C.2.1 dX1_settleRuns_145 rfl (lv_at hl 4 rfl) ?_
          refine cl_g11 C w dX1_settleRuns_146 ?_
          refine lv_iload C.1 C.2.1 dX1_settleRuns_149 (lv_at hl 0 rfl) ?_
          refine cl_l11 C w (by omega) dX1_settleRuns_151 ?_
          refine W.eq (g2 := F0 m 152 ls [.int (nI (σ 11 ((up σ 8 k (σ 8 (σ 8 k))) 8 (k - 1)))), .int (nI k), .ref (r 11)]) rfl ?_
          refine lv_iconst (v := nI 1) C.1 C.2.1 dX1_settleRuns_152 (by decide) ?_
          refine z_iadd C dX1_settleRuns_153 ?_
          refine z_i2b C (by omega) dX1_settleRuns_154 ?_
          refine cl_s11 C w (by omega) (by omega) dX1_settleRuns_155 (fun H locs w => ?_)
          refine lv_aload_n C.1 C.2.1 dX1_settleRuns_156 rfl (lv_at hl 4 rfl) ?_
          refine cl_g7 C w dX1_settleRuns_157 ?_
          refine lv_iload_n C.1 C.2.1 dX1_settleRuns_160 rfl (lv_at hl 3 rfl) ?_
          refine cl_l7 C w (by omega) dX1_settleRuns_161 ?_
          refine W.eq (g2 := F0 m 162 ls [.int (nI (σ 7 k))]) rfl ?_
          refine z_if_eq (tgt := 200) C dX1_settleRuns_162 (by decide) (by omega) (fun c_162 => ?_) (fun c_162 => ?_)
          · refine lv_aload_n C.1 C.2.1 dX1_settleRuns_200 rfl (lv_at hl 4 rfl) ?_
            refine lv_dup C.1 C.2.1 dX1_settleRuns_201 rfl ?_
            refine cl_g18 C w dX1_settleRuns_202 ?_
            refine W.eq (g2 := F0 m 205 ls [.int (nI (σ 18 0)), .ref h0]) rfl ?_
            refine lv_iconst (v := nI 1) C.1 C.2.1 dX1_settleRuns_205 (by decide) ?_
            refine z_iadd C dX1_settleRuns_206 ?_
            refine cl_p18 C w (by omega) dX1_settleRuns_207 (fun H locs w => ?_)
            refine lv_iinc (lv' := [(1, .int (nI (k + 1))), (4, .int (nI ((up σ 8 k (σ 8 (σ 8 k))) 8 (k - 1)))), (3, .int (nI (σ 8 (σ 8 k)))), (2, .int (nI (((σ 6 k) - (σ 5 k)) + 1))), (0, .ref h0)]) C.1 C.2.1 dX1_settleRuns_210 hl (k := 3) rfl (nI_add _ _) (by decide) rfl (fun ls hl => ?_)
            refine lv_goto (tgt := 33) C.1 C.2.1 dX1_settleRuns_213 (by decide) ?_
            have e1 : stS k σ = up (up (up (up (up σ 8 k (σ 8 (σ 8 k))) 12 k (((σ 6 k) - (σ 5 k)) + 1)) 10 k ((up σ 8 k (σ 8 (σ 8 k))) 8 (k - 1))) 11 k ((σ 11 ((up σ 8 k (σ 8 (σ 8 k))) 8 (k - 1))) + 1)) 18 0 ((σ 18 0) + 1) := by unfold stS; rw [if_neg (fun z => z c_83), if_neg (fun z => z c_162)]; unfold stA; rw [hB]
            rw [← e1] at w
            exact ih (k + 1) (stS k σ) H locs w (by rw [stS_row k σ (by omega)]; omega) (by omega) (by omega) hok' ls (lv_sub hl [0, 4] rfl) K
          · refine lv_aload_n C.1 C.2.1 dX1_settleRuns_165 rfl (lv_at hl 4 rfl) ?_
            refine cl_g15 C w dX1_settleRuns_166 ?_
            refine lv_iload_n C.1 C.2.1 dX1_settleRuns_169 rfl (lv_at hl 3 rfl) ?_
            refine lv_aload_n C.1 C.2.1 dX1_settleRuns_170 rfl (lv_at hl 4 rfl) ?_
            refine cl_g17 C w dX1_settleRuns_171 ?_
            refine W.eq (g2 := F0 m 174 ls [.int (nI (σ 17 0)), .int (nI k), .ref (r 15)]) rfl ?_
            refine z_i2s C (by omega) dX1_settleRuns_174 ?_
            refine cl_s15 C w (by omega) (by omega) dX1_settleRuns_175 (fun H locs w => ?_)
            refine lv_aload_n C.1 C.2.1 dX1_settleRuns_176 rfl (lv_at hl 4 rfl) ?_
            refine cl_g16 C w dX1_settleRuns_177 ?_
            refine lv_aload_n C.1 C.2.1 dX1_settleRuns_180 rfl (lv_at hl 4 rfl) ?_
            refine cl_g17 C w dX1_settleRuns_181 ?_
            refine W.eq (g2 := F0 m 184 ls [.int (nI (σ 17 0)), .ref (r 16)]) rfl ?_
            refine lv_iload_n C.1 C.2.1 dX1_settleRuns_184 rfl (lv_at hl 3 rfl) ?_
            refine z_i2s C (by omega) dX1_settleRuns_185 ?_
            refine cl_s16 C w (by omega) (by omega) dX1_settleRuns_186 (fun H locs w => ?_)
            refine lv_aload_n C.1 C.2.1 dX1_settleRuns_187 rfl (lv_at hl 4 rfl) ?_
            refine lv_dup C.1 C.2.1 dX1_settleRuns_188 rfl ?_
            refine cl_g17 C w dX1_settleRuns_189 ?_
            refine W.eq (g2 := F0 m 192 ls [.int (nI (σ 17 0)), .ref h0]) rfl ?_
            refine lv_iconst (v := nI 1) C.1 C.2.1 dX1_settleRuns_192 (by decide) ?_
            refine z_iadd C dX1_settleRuns_193 ?_
            refine cl_p17 C w (by omega) dX1_settleRuns_194 (fun H locs w => ?_)
            refine lv_goto (tgt := 210) C.1 C.2.1 dX1_settleRuns_197 (by decide) ?_
            refine lv_iinc (lv' := [(1, .int (nI (k + 1))), (4, .int (nI ((up σ 8 k (σ 8 (σ 8 k))) 8 (k - 1)))), (3, .int (nI (σ 8 (σ 8 k)))), (2, .int (nI (((σ 6 k) - (σ 5 k)) + 1))), (0, .ref h0)]) C.1 C.2.1 dX1_settleRuns_210 hl (k := 3) rfl (nI_add _ _) (by decide) rfl (fun ls hl => ?_)
            refine lv_goto (tgt := 33) C.1 C.2.1 dX1_settleRuns_213 (by decide) ?_
            have e1 : stS k σ = up (up (up (up (up (up (up σ 8 k (σ 8 (σ 8 k))) 12 k (((σ 6 k) - (σ 5 k)) + 1)) 10 k ((up σ 8 k (σ 8 (σ 8 k))) 8 (k - 1))) 11 k ((σ 11 ((up σ 8 k (σ 8 (σ 8 k))) 8 (k - 1))) + 1)) 15 k (σ 17 0)) 16 (σ 17 0) k) 17 0 ((σ 17 0) + 1) := by unfold stS; rw [if_neg (fun z => z c_83), if_pos c_162]; unfold stA; rw [hB]
            rw [← e1] at w
            exact ih (k + 1) (stS k σ) H locs w (by rw [stS_row k σ (by omega)]; omega) (by omega) (by omega) hok' ls (lv_sub hl [0, 4] rfl) K
        · refine lv_iconst (v := nI 0) C.1 C.2.1 dX1_settleRuns_117 (by decide) ?_
          refine lv_goto (tgt := 129) C.1 C.2.1 dX1_settleRuns_118 (by decide) ?_
          have hB : stB k σ = 0 := if_pos c_114
          rw [hB] at g4 g5
          refine lv_istore (lv' := [(4, .int (nI 0)), (3, .int (nI (σ 8 (σ 8 k)))), (2, .int (nI (((σ 6 k) - (σ 5 k)) + 1))), (1, .int (nI k)), (0, .ref h0)]) C.1 C.2.1 dX1_settleRuns_129 hl (by decide) rfl (fun ls hl => ?_)
          refine lv_aload_n C.1 C.2.1 dX1_settleRuns_131 rfl (lv_at hl 4 rfl) ?_
          refine cl_g10 C w dX1_settleRuns_132 ?_
          refine lv_iload_n C.1 C.2.1 dX1_settleRuns_135 rfl (lv_at hl 3 rfl) ?_
          refine lv_iload C.1 C.2.1 dX1_settleRuns_136 (lv_at hl 0 rfl) ?_
          refine z_i2s C (by omega) dX1_settleRuns_138 ?_
          refine cl_s10 C w (by omega) (by omega) dX1_settleRuns_139 (fun H locs w => ?_)
          refine lv_aload_n C.1 C.2.1 dX1_settleRuns_140 rfl (lv_at hl 4 rfl) ?_
          refine cl_g11 C w dX1_settleRuns_141 ?_
          refine lv_iload_n C.1 C.2.1 dX1_settleRuns_144 rfl (lv_at hl 3 rfl) ?_
          refine lv_aload_n C.1 C.2.1 dX1_settleRuns_145 rfl (lv_at hl 4 rfl) ?_
          refine cl_g11 C w dX1_settleRuns_146 ?_
          refine lv_iload C.1 C.2.1 dX1_settleRuns_149 (lv_at hl 0 rfl) ?_
          refine cl_l11 C w (by omega) dX1_settleRuns_151 ?_
          refine W.eq (g2 := F0 m 152 ls [.int (nI (σ 11 0)), .int (nI k), .ref (r 11)]) rfl ?_
          refine lv_iconst (v := nI 1) C.1 C.2.1 dX1_settleRuns_152 (by decide) ?_
          refine z_iadd C dX1_settleRuns_153 ?_
          refine z_i2b C (by omega) dX1_settleRuns_154 ?_
          refine cl_s11 C w (by omega) (by omega) dX1_settleRuns_155 (fun H locs w => ?_)
          refine lv_aload_n C.1 C.2.1 dX1_settleRuns_156 rfl (lv_at hl 4 rfl) ?_
          refine cl_g7 C w dX1_settleRuns_157 ?_
          refine lv_iload_n C.1 C.2.1 dX1_settleRuns_160 rfl (lv_at hl 3 rfl) ?_
          refine cl_l7 C w (by omega) dX1_settleRuns_161 ?_
          refine W.eq (g2 := F0 m 162 ls [.int (nI (σ 7 k))]) rfl ?_
          refine z_if_eq (tgt := 200) C dX1_settleRuns_162 (by decide) (by omega) (fun c_162 => ?_) (fun c_162 => ?_)
          · refine lv_aload_n C.1 C.2.1 dX1_settleRuns_200 rfl (lv_at hl 4 rfl) ?_
            refine lv_dup C.1 C.2.1 dX1_settleRuns_201 rfl ?_
            refine cl_g18 C w dX1_settleRuns_202 ?_
            refine W.eq (g2 := F0 m 205 ls [.int (nI (σ 18 0)), .ref h0]) rfl ?_
            refine lv_iconst (v := nI 1) C.1 C.2.1 dX1_settleRuns_205 (by decide) ?_
            refine z_iadd C dX1_settleRuns_206 ?_
            refine cl_p18 C w (by omega) dX1_settleRuns_207 (fun H locs w => ?_)
            refine lv_iinc (lv' := [(1, .int (nI (k + 1))), (4, .int (nI 0)), (3, .int (nI (σ 8 (σ 8 k)))), (2, .int (nI (((σ 6 k) - (σ 5 k)) + 1))), (0, .ref h0)]) C.1 C.2.1 dX1_settleRuns_210 hl (k := 3) rfl (nI_add _ _) (by decide) rfl (fun ls hl => ?_)
            refine lv_goto (tgt := 33) C.1 C.2.1 dX1_settleRuns_213 (by decide) ?_
            have e1 : stS k σ = up (up (up (up (up σ 8 k (σ 8 (σ 8 k))) 12 k (((σ 6 k) - (σ 5 k)) + 1)) 10 k 0) 11 k ((σ 11 0) + 1)) 18 0 ((σ 18 0) + 1) := by unfold stS; rw [if_neg (fun z => z c_83), if_neg (fun z => z c_162)]; unfold stA; rw [hB]
            rw [← e1] at w
            exact ih (k + 1) (stS k σ) H locs w (by rw [stS_row k σ (by omega)]; omega) (by omega) (by omega) hok' ls (lv_sub hl [0, 4] rfl) K
          · refine lv_aload_n C.1 C.2.1 dX1_settleRuns_165 rfl (lv_at hl 4 rfl) ?_
            refine cl_g15 C w dX1_settleRuns_166 ?_
            refine lv_iload_n C.1 C.2.1 dX1_settleRuns_169 rfl (lv_at hl 3 rfl) ?_
            refine lv_aload_n C.1 C.2.1 dX1_settleRuns_170 rfl (lv_at hl 4 rfl) ?_
            refine cl_g17 C w dX1_settleRuns_171 ?_
            refine W.eq (g2 := F0 m 174 ls [.int (nI (σ 17 0)), .int (nI k), .ref (r 15)]) rfl ?_
            refine z_i2s C (by omega) dX1_settleRuns_174 ?_
            refine cl_s15 C w (by omega) (by omega) dX1_settleRuns_175 (fun H locs w => ?_)
            refine lv_aload_n C.1 C.2.1 dX1_settleRuns_176 rfl (lv_at hl 4 rfl) ?_
            refine cl_g16 C w dX1_settleRuns_177 ?_
            refine lv_aload_n C.1 C.2.1 dX1_settleRuns_180 rfl (lv_at hl 4 rfl) ?_
            refine cl_g17 C w dX1_settleRuns_181 ?_
            refine W.eq (g2 := F0 m 184 ls [.int (nI (σ 17 0)), .ref (r 16)]) rfl ?_
            refine lv_iload_n C.1 C.2.1 dX1_settleRuns_184 rfl (lv_at hl 3 rfl) ?_
            refine z_i2s C (by omega) dX1_settleRuns_185 ?_
            refine cl_s16 C w (by omega) (by omega) dX1_settleRuns_186 (fun H locs w => ?_)
            refine lv_aload_n C.1 C.2.1 dX1_settleRuns_187 rfl (lv_at hl 4 rfl) ?_
            refine lv_dup C.1 C.2.1 dX1_settleRuns_188 rfl ?_
            refine cl_g17 C w dX1_settleRuns_189 ?_
            refine W.eq (g2 := F0 m 192 ls [.int (nI (σ 17 0)), .ref h0]) rfl ?_
            refine lv_iconst (v := nI 1) C.1 C.2.1 dX1_settleRuns_192 (by decide) ?_
            refine z_iadd C dX1_settleRuns_193 ?_
            refine cl_p17 C w (by omega) dX1_settleRuns_194 (fun H locs w => ?_)
            refine lv_goto (tgt := 210) C.1 C.2.1 dX1_settleRuns_197 (by decide) ?_
            refine lv_iinc (lv' := [(1, .int (nI (k + 1))), (4, .int (nI 0)), (3, .int (nI (σ 8 (σ 8 k)))), (2, .int (nI (((σ 6 k) - (σ 5 k)) + 1))), (0, .ref h0)]) C.1 C.2.1 dX1_settleRuns_210 hl (k := 3) rfl (nI_add _ _) (by decide) rfl (fun ls hl => ?_)
            refine lv_goto (tgt := 33) C.1 C.2.1 dX1_settleRuns_213 (by decide) ?_
            have e1 : stS k σ = up (up (up (up (up (up (up σ 8 k (σ 8 (σ 8 k))) 12 k (((σ 6 k) - (σ 5 k)) + 1)) 10 k 0) 11 k ((σ 11 0) + 1)) 15 k (σ 17 0)) 16 (σ 17 0) k) 17 0 ((σ 17 0) + 1) := by unfold stS; rw [if_neg (fun z => z c_83), if_pos c_162]; unfold stA; rw [hB]
            rw [← e1] at w
            exact ih (k + 1) (stS k σ) H locs w (by rw [stS_row k σ (by omega)]; omega) (by omega) (by omega) hok' ls (lv_sub hl [0, 4] rfl) K
      · refine lv_aload_n C.1 C.2.1 dX1_settleRuns_86 rfl (lv_at hl 3 rfl) ?_
        refine cl_g12 C w dX1_settleRuns_87 ?_
        refine lv_iload_n C.1 C.2.1 dX1_settleRuns_90 rfl (lv_at hl 0 rfl) ?_
        refine lv_dup2_11 C.1 C.2.1 dX1_settleRuns_91 rfl rfl ?_
        refine cl_l12 C w (by omega) dX1_settleRuns_92 ?_
        refine W.eq (g2 := F0 m 93 ls [.int (nI (σ 12 (σ 8 (σ 8 k)))), .int (nI (σ 8 (σ 8 k))), .ref (r 12)]) rfl ?_
        refine lv_iload_n C.1 C.2.1 dX1_settleRuns_93 rfl (lv_at hl 1 rfl) ?_
        refine z_iadd C dX1_settleRuns_94 ?_
        refine z_i2s C (by omega) dX1_settleRuns_95 ?_
        refine cl_s12 C w (by omega) (by omega) dX1_settleRuns_96 (fun H locs w => ?_)
        refine lv_goto (tgt := 210) C.1 C.2.1 dX1_settleRuns_97 (by decide) ?_
        refine lv_iinc (lv' := [(1, .int (nI (k + 1))), (3, .int (nI (σ 8 (σ 8 k)))), (2, .int (nI (((σ 6 k) - (σ 5 k)) + 1))), (0, .ref h0)]) C.1 C.2.1 dX1_settleRuns_210 hl (k := 2) rfl (nI_add _ _) (by decide) rfl (fun ls hl => ?_)
        refine lv_goto (tgt := 33) C.1 C.2.1 dX1_settleRuns_213 (by decide) ?_
        have e1 : stS k σ = up (up σ 8 k (σ 8 (σ 8 k))) 12 (σ 8 (σ 8 k)) ((σ 12 (σ 8 (σ 8 k))) + (((σ 6 k) - (σ 5 k)) + 1)) := by unfold stS; rw [if_pos c_83]
        rw [← e1] at w
        exact ih (k + 1) (stS k σ) H locs w (by rw [stS_row k σ (by omega)]; omega) (by omega) (by omega) hok' ls (lv_sub hl [0, 3] rfl) K
end
theorem m_settleRuns (l : Launch) (G : va_G) (h0 : Nat) (r : Nat → Nat) (d : Nat → ClassId) (σ : Nat → Nat → Nat)  (h1 : 1 ≤ σ 4 0) (h2 : σ 4 0 ≤ 145) (hok : ∀ j k', j < σ 4 0 - 1 → k' = 1 + j → StOk k' (fwd stS j 1 (stI σ))) : zMv l yX1_settleRuns cX1_settleRuns 5 none (rmF 0 0) G (clT d) (clC h0 r d) [.ref h0] σ (fun σ' => σ' = stF σ) := by
  refine zMv_of (own := RX1) (by decide) rfl (Nat.le_of_ble_eq_true rfl) ?_
  intro p e s m args below meth c A ls C hr hlk w hl
  have hl : lv_has ls 5 [(0, .ref h0)] := hl
  have hbd := w.2.2.2.2.2
  refine lv_aload_n C.1 C.2.1 dX1_settleRuns_0 rfl (lv_at hl 0 rfl) ?_
  refine lv_iconst (v := nI 0) C.1 C.2.1 dX1_settleRuns_1 (by decide) ?_
  refine cl_p17 C w (by omega) dX1_settleRuns_2 (fun H locs w => ?_)
  refine lv_aload_n C.1 C.2.1 dX1_settleRuns_5 rfl (lv_at hl 0 rfl) ?_
  refine lv_iconst (v := nI 1) C.1 C.2.1 dX1_settleRuns_6 (by decide) ?_
  refine cl_p18 C w (by omega) dX1_settleRuns_7 (fun H locs w => ?_)
  refine lv_aload_n C.1 C.2.1 dX1_settleRuns_10 rfl (lv_at hl 0 rfl) ?_
  refine cl_g12 C w dX1_settleRuns_11 ?_
  refine lv_iconst (v := nI 0) C.1 C.2.1 dX1_settleRuns_14 (by decide) ?_
  refine lv_iconst (v := nI 0) C.1 C.2.1 dX1_settleRuns_15 (by decide) ?_
  refine cl_s12 C w (by omega) (by omega) dX1_settleRuns_16 (fun H locs w => ?_)
  refine lv_aload_n C.1 C.2.1 dX1_settleRuns_17 rfl (lv_at hl 0 rfl) ?_
  refine cl_g11 C w dX1_settleRuns_18 ?_
  refine lv_iconst (v := nI 0) C.1 C.2.1 dX1_settleRuns_21 (by decide) ?_
  refine lv_iconst (v := nI 0) C.1 C.2.1 dX1_settleRuns_22 (by decide) ?_
  refine cl_s11 C w (by omega) (by omega) dX1_settleRuns_23 (fun H locs w => ?_)
  refine lv_aload_n C.1 C.2.1 dX1_settleRuns_24 rfl (lv_at hl 0 rfl) ?_
  refine cl_g10 C w dX1_settleRuns_25 ?_
  refine lv_iconst (v := nI 0) C.1 C.2.1 dX1_settleRuns_28 (by decide) ?_
  refine lv_iconst (v := nI 0) C.1 C.2.1 dX1_settleRuns_29 (by decide) ?_
  refine cl_s10 C w (by omega) (by omega) dX1_settleRuns_30 (fun H locs w => ?_)
  refine lv_iconst (v := nI 1) C.1 C.2.1 dX1_settleRuns_31 (by decide) ?_
  refine lv_istore_n (lv' := [(1, .int (nI 1)), (0, .ref h0)]) C.1 C.2.1 dX1_settleRuns_32 rfl hl (by decide) rfl (fun ls hl => ?_)
  refine st_loop C (σ 4 0 - 1) 1 (stI σ) _ _ w (show σ 4 0 = _ by omega) (by omega) (by omega) hok ls (lv_sub hl [0, 1] rfl) (fun H locs ls w => ?_)
  exact z_vret C hr hlk w rfl dX1_settleRuns_216
def suZ (k : Nat) (s : Nat → Nat → Nat) : Nat → Nat → Nat := up (up s 13 k 0) 14 k 0
def suS (k : Nat) (s : Nat → Nat → Nat) : Nat → Nat → Nat :=
  if s 8 k ≠ k then s else if s 7 k = 0 then up (up s 13 (s 10 k) (s 13 (s 10 k) + (s 12 k + s 13 k))) 14 (s 10 k) (s 14 (s 10 k) + 1) else up s 13 (s 10 k) (s 13 (s 10 k) + (s 12 k + s 13 k))
/-- a loop downward: j steps from n -/
def bwd {σ : Type} (f : Nat → σ → σ) : Nat → Nat → σ → σ
  | 0, _, s => s
  | j + 1, n, s => bwd f j (n - 1) (f n s)
def suF (s : Nat → Nat → Nat) : Nat → Nat → Nat := bwd suS (s 4 0 - 1) (s 4 0 - 1) (fwd suZ (s 4 0) 0 s)
def SuOk (k : Nat) (s : Nat → Nat → Nat) : Prop := s 8 k = k → s 10 k < 145 ∧ s 13 (s 10 k) + (s 12 k + s 13 k) < 32768 ∧ s 14 (s 10 k) + 1 < 32768
theorem suS_row (k : Nat) (s : Nat → Nat → Nat) {k' : Nat} (h : k' ≠ 13 ∧ k' ≠ 14) : suS k s k' = s k' := by
  unfold suS
  split
  · rfl
  · split
    · rw [up_row h.2, up_row h.1]
    · rw [up_row h.1]
section
variable {p : Program} {l : Launch} {e : Env} {R : Room} {s : State} {m : MethodId} {args : Array Value} {below : List Frame} {meth : Method} {c : Code} {H : Heap} {locs : List Loc} {Q : State → Prop}
variable {G : va_G} {A : Nat → Prop} {H0 : Heap} {σ : Nat → Nat → Nat} {h0 : Nat} {r : Nat → Nat} {d : Nat → ClassId}
theorem su_loop1 (C : zC p m c cX1_sumUp 3 s args RX1) : ∀ n k σ H locs, clW G h0 r d A s H0 H locs σ → σ 4 0 = k + n → k + n ≤ 145 → ∀ ls, lv_has ls 3 [(1, .int (nI k)), (0, .ref h0)] → (∀ H locs ls, clW G h0 r d A s H0 H locs (fwd suZ n k σ) → lv_has ls 3 [(0, .ref h0)] → W p l e R s m args below meth c H locs 0 0 Q (F0 m 30 ls [])) → W p l e R s m args below meth c H locs 0 0 Q (F0 m 2 ls []) := by
  intro n
  induction n with
  | zero =>
    intro k σ H locs w hn h2 ls hl K
    refine lv_iload_n C.1 C.2.1 dX1_sumUp_2 rfl (lv_at hl 0 rfl) ?_
    refine lv_aload_n C.1 C.2.1 dX1_sumUp_3 rfl (lv_at hl 1 rfl) ?_
    refine cl_g4 C w dX1_sumUp_4 ?_
    refine z_cmp_ge (tgt := 30) C dX1_sumUp_7 (by decide) (by omega) (by omega) (fun c_7 => ?_) (fun c_7 => ?_)
    · exact K H locs ls w (lv_sub hl [1] rfl)
    · exact absurd c_7 (by omega)
  | succ n ih =>
    intro k σ H locs w hn h2 ls hl K
    refine lv_iload_n C.1 C.2.1 dX1_sumUp_2 rfl (lv_at hl 0 rfl) ?_
    refine lv_aload_n C.1 C.2.1 dX1_sumUp_3 rfl (lv_at hl 1 rfl) ?_
    refine cl_g4 C w dX1_sumUp_4 ?_
    refine z_cmp_ge (tgt := 30) C dX1_sumUp_7 (by decide) (by omega) (by omega) (fun c_7 => ?_) (fun c_7 => ?_)
    · exact absurd c_7 (by omega)
    · refine lv_aload_n C.1 C.2.1 dX1_sumUp_10 rfl (lv_at hl 1 rfl) ?_
      refine cl_g13 C w dX1_sumUp_11 ?_
      refine lv_iload_n C.1 C.2.1 dX1_sumUp_14 rfl (lv_at hl 0 rfl) ?_
      refine lv_iconst (v := nI 0) C.1 C.2.1 dX1_sumUp_15 (by decide) ?_
      refine cl_s13 C w (by omega) (by omega) dX1_sumUp_16 (fun H locs w => ?_)
      refine lv_aload_n C.1 C.2.1 dX1_sumUp_17 rfl (lv_at hl 1 rfl) ?_
      refine cl_g14 C w dX1_sumUp_18 ?_
      refine lv_iload_n C.1 C.2.1 dX1_sumUp_21 rfl (lv_at hl 0 rfl) ?_
      refine lv_iconst (v := nI 0) C.1 C.2.1 dX1_sumUp_22 (by decide) ?_
      refine cl_s14 C w (by omega) (by omega) dX1_sumUp_23 (fun H locs w => ?_)
      refine lv_iinc (lv' := [(1, .int (nI (k + 1))), (0, .ref h0)]) C.1 C.2.1 dX1_sumUp_24 hl (k := 0) rfl (nI_add _ _) (by decide) rfl (fun ls hl => ?_)
      refine lv_goto (tgt := 2) C.1 C.2.1 dX1_sumUp_27 (by decide) ?_
      exact ih (k + 1) (suZ k σ) H locs w (show σ 4 0 = _ by omega) (by omega) ls hl K
theorem su_loop2 (C : zC p m c cX1_sumUp 3 s args RX1) : ∀ n σ H locs, clW G h0 r d A s H0 H locs σ → n < 145 → (∀ j k', j < n → k' + j = n → SuOk k' (bwd suS j n σ)) → ∀ ls, lv_has ls 3 [(1, .int (nI n)), (0, .ref h0)] → (∀ H locs ls, clW G h0 r d A s H0 H locs (bwd suS n n σ) → W p l e R s m args below meth c H locs 0 0 Q (F0 m 110 ls [])) → W p l e R s m args below meth c H locs 0 0 Q (F0 m 37 ls []) := by
  intro n
  induction n with
  | zero =>
    intro σ H locs w h2 hok ls hl K
    refine lv_iload_n C.1 C.2.1 dX1_sumUp_37 rfl (lv_at hl 0 rfl) ?_
    refine z_if_le (tgt := 110) C dX1_sumUp_38 (by decide) (by decide) (fun c_38 => ?_) (fun c_38 => ?_)
    · exact K H locs ls w
    · exact absurd c_38 (by decide)
  | succ n ih =>
    intro σ H locs w h2 hok ls hl K
    have g : SuOk (n + 1) σ := hok 0 (n + 1) (by omega) rfl
    have hok' : ∀ j k', j < n → k' + j = n → SuOk k' (bwd suS j n (suS (n + 1) σ)) := fun j k' hj hk => hok (j + 1) k' (by omega) (by omega)
    have b8 := w.2.2.2.2.2 8 (n + 1)
    have b7 := w.2.2.2.2.2 7 (n + 1)
    refine lv_iload_n C.1 C.2.1 dX1_sumUp_37 rfl (lv_at hl 0 rfl) ?_
    refine z_if_le (tgt := 110) C dX1_sumUp_38 (by decide) (by omega) (fun c_38 => ?_) (fun c_38 => ?_)
    · exact absurd c_38 (by omega)
    · refine lv_aload_n C.1 C.2.1 dX1_sumUp_41 rfl (lv_at hl 1 rfl) ?_
      refine cl_g8 C w dX1_sumUp_42 ?_
      refine lv_iload_n C.1 C.2.1 dX1_sumUp_45 rfl (lv_at hl 0 rfl) ?_
      refine cl_l8 C w (by omega) dX1_sumUp_46 ?_
      refine lv_iload_n C.1 C.2.1 dX1_sumUp_47 rfl (lv_at hl 0 rfl) ?_
      refine z_cmp_eq (tgt := 54) C dX1_sumUp_48 (by decide) (by omega) (by omega) (fun c_48 => ?_) (fun c_48 => ?_)
      · obtain ⟨g1, g2, g3⟩ := g c_48
        refine lv_aload_n C.1 C.2.1 dX1_sumUp_54 rfl (lv_at hl 1 rfl) ?_
        refine cl_g10 C w dX1_sumUp_55 ?_
        refine lv_iload_n C.1 C.2.1 dX1_sumUp_58 rfl (lv_at hl 0 rfl) ?_
        refine cl_l10 C w (by omega) dX1_sumUp_59 ?_
        refine lv_istore_n (lv' := [(2, .int (nI (σ 10 (n + 1)))), (1, .int (nI (n + 1))), (0, .ref h0)]) C.1 C.2.1 dX1_sumUp_60 rfl hl (by decide) rfl (fun ls hl => ?_)
        refine lv_aload_n C.1 C.2.1 dX1_sumUp_61 rfl (lv_at hl 2 rfl) ?_
        refine cl_g13 C w dX1_sumUp_62 ?_
        refine lv_iload_n C.1 C.2.1 dX1_sumUp_65 rfl (lv_at hl 0 rfl) ?_
        refine lv_dup2_11 C.1 C.2.1 dX1_sumUp_66 rfl rfl ?_
        refine cl_l13 C w (by omega) dX1_sumUp_67 ?_
        refine lv_aload_n C.1 C.2.1 dX1_sumUp_68 rfl (lv_at hl 2 rfl) ?_
        refine cl_g12 C w dX1_sumUp_69 ?_
        refine lv_iload_n C.1 C.2.1 dX1_sumUp_72 rfl (lv_at hl 1 rfl) ?_
        refine cl_l12 C w (by omega) dX1_sumUp_73 ?_
        refine lv_aload_n C.1 C.2.1 dX1_sumUp_74 rfl (lv_at hl 2 rfl) ?_
        refine cl_g13 C w dX1_sumUp_75 ?_
        refine lv_iload_n C.1 C.2.1 dX1_sumUp_78 rfl (lv_at hl 1 rfl) ?_
        refine cl_l13 C w (by omega) dX1_sumUp_79 ?_
        refine z_iadd C dX1_sumUp_80 ?_
        refine z_iadd C dX1_sumUp_81 ?_
        refine z_i2s C (by omega) dX1_sumUp_82 ?_
        refine cl_s13 C w (by omega) (by omega) dX1_sumUp_83 (fun H locs w => ?_)
        refine lv_aload_n C.1 C.2.1 dX1_sumUp_84 rfl (lv_at hl 2 rfl) ?_
        refine cl_g7 C w dX1_sumUp_85 ?_
        refine lv_iload_n C.1 C.2.1 dX1_sumUp_88 rfl (lv_at hl 1 rfl) ?_
        refine cl_l7 C w (by omega) dX1_sumUp_89 ?_
        refine W.eq (g2 := F0 m 90 ls [.int (nI (σ 7 (n + 1)))]) rfl ?_
        refine z_if_ne (tgt := 104) C dX1_sumUp_90 (by decide) (by omega) (fun c_90 => ?_) (fun c_90 => ?_)
        · refine lv_iinc (lv' := [(1, .int (nI n)), (2, .int (nI (σ 10 (n + 1)))), (0, .ref h0)]) C.1 C.2.1 dX1_sumUp_104 hl (k := 1) rfl (by rw [show Int32.ofInt (-1) = -1 from rfl]; exact pk_m1 n) (by decide) rfl (fun ls hl => ?_)
          refine lv_goto (tgt := 37) C.1 C.2.1 dX1_sumUp_107 (by decide) ?_
          have e1 : suS (n + 1) σ = up σ 13 (σ 10 (n + 1)) ((σ 13 (σ 10 (n + 1))) + ((σ 12 (n + 1)) + (σ 13 (n + 1)))) := by unfold suS; rw [if_neg (fun z => z c_48), if_neg c_90]
          exact ih (suS (n + 1) σ) H locs (by rw [e1]; exact w) (by omega) hok' ls (lv_sub hl [0, 2] rfl) K
        · refine lv_aload_n C.1 C.2.1 dX1_sumUp_93 rfl (lv_at hl 2 rfl) ?_
          refine cl_g14 C w dX1_sumUp_94 ?_
          refine lv_iload_n C.1 C.2.1 dX1_sumUp_97 rfl (lv_at hl 0 rfl) ?_
          refine lv_dup2_11 C.1 C.2.1 dX1_sumUp_98 rfl rfl ?_
          refine cl_l14 C w (by omega) dX1_sumUp_99 ?_
          refine W.eq (g2 := F0 m 100 ls [.int (nI (σ 14 (σ 10 (n + 1)))), .int (nI (σ 10 (n + 1))), .ref (r 14)]) rfl ?_
          refine lv_iconst (v := nI 1) C.1 C.2.1 dX1_sumUp_100 (by decide) ?_
          refine z_iadd C dX1_sumUp_101 ?_
          refine z_i2s C (by omega) dX1_sumUp_102 ?_
          refine cl_s14 C w (by omega) (by omega) dX1_sumUp_103 (fun H locs w => ?_)
          refine lv_iinc (lv' := [(1, .int (nI n)), (2, .int (nI (σ 10 (n + 1)))), (0, .ref h0)]) C.1 C.2.1 dX1_sumUp_104 hl (k := 1) rfl (by rw [show Int32.ofInt (-1) = -1 from rfl]; exact pk_m1 n) (by decide) rfl (fun ls hl => ?_)
          refine lv_goto (tgt := 37) C.1 C.2.1 dX1_sumUp_107 (by decide) ?_
          have e1 : suS (n + 1) σ = up (up σ 13 (σ 10 (n + 1)) ((σ 13 (σ 10 (n + 1))) + ((σ 12 (n + 1)) + (σ 13 (n + 1))))) 14 (σ 10 (n + 1)) ((σ 14 (σ 10 (n + 1))) + 1) := by unfold suS; rw [if_neg (fun z => z c_48), if_pos c_90]
          exact ih (suS (n + 1) σ) H locs (by rw [e1]; exact w) (by omega) hok' ls (lv_sub hl [0, 2] rfl) K
      · refine lv_goto (tgt := 104) C.1 C.2.1 dX1_sumUp_51 (by decide) ?_
        refine lv_iinc (lv' := [(1, .int (nI n)), (0, .ref h0)]) C.1 C.2.1 dX1_sumUp_104 hl (k := 0) rfl (by rw [show Int32.ofInt (-1) = -1 from rfl]; exact pk_m1 n) (by decide) rfl (fun ls hl => ?_)
        refine lv_goto (tgt := 37) C.1 C.2.1 dX1_sumUp_107 (by decide) ?_
        have e1 : suS (n + 1) σ = σ := by unfold suS; rw [if_pos c_48]
        exact ih (suS (n + 1) σ) H locs (by rw [e1]; exact w) (by omega) hok' ls (lv_sub hl [0, 1] rfl) K
end
theorem m_sumUp (l : Launch) (G : va_G) (h0 : Nat) (r : Nat → Nat) (d : Nat → ClassId) (σ : Nat → Nat → Nat)  (h1 : 1 ≤ σ 4 0) (h2 : σ 4 0 ≤ 145) (hok : ∀ j k', j < σ 4 0 - 1 → k' + j = σ 4 0 - 1 → SuOk k' (bwd suS j (σ 4 0 - 1) (fwd suZ (σ 4 0) 0 σ))) : zMv l yX1_sumUp cX1_sumUp 3 none (rmF 0 0) G (clT d) (clC h0 r d) [.ref h0] σ (fun σ' => σ' = suF σ) := by
  refine zMv_of (own := RX1) (by decide) rfl (Nat.le_of_ble_eq_true rfl) ?_
  intro p e s m args below meth c A ls C hr hlk w hl
  have hl : lv_has ls 3 [(0, .ref h0)] := hl
  have hbd := w.2.2.2.2.2
  have hz : ∀ n k σ, fwd suZ n k σ 4 0 = σ 4 0 := by
    intro n
    induction n with
    | zero => intro k σ; rfl
    | succ n ih => intro k σ; exact ih (k + 1) (suZ k σ)
  refine lv_iconst (v := nI 0) C.1 C.2.1 dX1_sumUp_0 (by decide) ?_
  refine lv_istore_n (lv' := [(1, .int (nI 0)), (0, .ref h0)]) C.1 C.2.1 dX1_sumUp_1 rfl hl (by decide) rfl (fun ls hl => ?_)
  refine su_loop1 C (σ 4 0) 0 σ _ _ w (by omega) (by omega) ls hl (fun H locs ls w hl => ?_)
  have e4 := hz (σ 4 0) 0 σ
  have hτ : suF σ = bwd suS (σ 4 0 - 1) (σ 4 0 - 1) (fwd suZ (σ 4 0) 0 σ) := rfl
  generalize fwd suZ (σ 4 0) 0 σ = τ at w e4 hok hτ
  rw [← e4] at hok hτ h1 h2
  refine lv_aload_n C.1 C.2.1 dX1_sumUp_30 rfl (lv_at hl 0 rfl) ?_
  refine cl_g4 C w dX1_sumUp_31 ?_
  refine lv_iconst (v := nI 1) C.1 C.2.1 dX1_sumUp_34 (by decide) ?_
  refine z_isub C (by omega) dX1_sumUp_35 ?_
  refine lv_istore_n (lv' := [(1, .int (nI ((τ 4 0) - 1))), (0, .ref h0)]) C.1 C.2.1 dX1_sumUp_36 rfl hl (by decide) rfl (fun ls hl => ?_)
  refine su_loop2 C (τ 4 0 - 1) τ _ _ w (by omega) hok ls hl (fun H locs ls w => ?_)
  exact z_vret C hr hlk w hτ.symm dX1_sumUp_110
