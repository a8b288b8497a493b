set_option maxRecDepth 100000
/-! ===== CompLabel: inPicture, runAt, cutRow ===== -/
abbrev inP (w h : Nat) (X Y : Int32) : Prop := ¬ X < 0 ∧ ¬ nI w ≤ X ∧ ¬ Y < 0 ∧ ¬ nI h ≤ Y
theorem inP_nat {w h : Nat} {X Y : Int32} (hw : w < 2147483648) (hh : h < 2147483648) (q : inP w h X Y) : ∃ x y, X = nI x ∧ Y = nI y ∧ x < w ∧ y < h := by
  obtain ⟨q1, q2, q3, q4⟩ := q
  obtain ⟨x, hx, rfl⟩ := nI_of q1
  obtain ⟨y, hy, rfl⟩ := nI_of q3
  exact ⟨x, y, rfl, rfl, Nat.not_le.mp (fun k => q2 ((nI_leI hw hx).mpr k)), Nat.not_le.mp (fun k => q4 ((nI_leI hh hy).mpr k))⟩
theorem z_sl : ∀ n, n < 32 → ((nI n &&& 31).toBitVec.smod 32).toNat = n := by decide +kernel
def bit (v x : Nat) : Nat := v / 2 ^ x % 2
theorem bit_lt (v x : Nat) : bit v x < 2 := Nat.mod_lt _ (by decide)
section
variable {p : Program} {l : Launch} {e : Env} {R : Room} {s : State} {m : MethodId} {args : Array Value} {below : List Frame} {meth : Method} {c : Code} {H : Heap} {locs : List Loc} {cells slots : Nat} {Q : State → Prop}
variable {cc : ByteArray} {pc nL : Nat} {ls : Array Slot} {rest : List Value} {own : String}
theorem z_ishr (C : zC p m c cc nL s args own) {a x : Nat} (ha : a < 2147483648) (hx : x < 32) (hd : decode cc pc = .ok (.ishr, 1)) (kk : W p l e R s m args below meth c H locs cells slots Q (F0 m (pc + 1) ls (.int (nI (a / 2 ^ x)) :: rest))) : W p l e R s m args below meth c H locs cells slots Q (F0 m pc ls (.int (nI x) :: .int (nI a) :: rest)) :=
  lv_ishr C.1 C.2.1 hd (by rw [pk_shrN ha _ x (z_sl x hx)]; exact kk)
theorem z_iand1 (C : zC p m c cc nL s args own) {a : Nat} (ha : a < 2147483648) (hd : decode cc pc = .ok (.iand, 1)) (kk : W p l e R s m args below meth c H locs cells slots Q (F0 m (pc + 1) ls (.int (nI (a % 2)) :: rest))) : W p l e R s m args below meth c H locs cells slots Q (F0 m pc ls (.int (nI 1) :: .int (nI a) :: rest)) :=
  lv_iand C.1 C.2.1 hd (by rw [pk_andN (m := nI 1) (by omega) 1 rfl]; exact kk)
theorem z_bit (C : zC p m c cc nL s args own) {v x : Nat} (hv : v < 2147483648) (hx : x < 32) (hd : decode cc pc = .ok (.ishr, 1)) (hd1 : decode cc (pc + 1) = .ok (.iconst 1, 1)) (hd2 : decode cc (pc + 2) = .ok (.iand, 1)) (kk : W p l e R s m args below meth c H locs cells slots Q (F0 m (pc + 3) ls (.int (nI (bit v x)) :: rest))) : W p l e R s m args below meth c H locs cells slots Q (F0 m pc ls (.int (nI x) :: .int (nI v) :: rest)) := by
  refine z_ishr C hv hx hd ?_
  refine lv_iconst (v := nI 1) C.1 C.2.1 hd1 (by decide) ?_
  exact z_iand1 C (Nat.lt_of_le_of_lt (Nat.div_le_self _ _) hv) hd2 kk
end
theorem m_inPicture (l : Launch) (G : va_G) (h0 : Nat) (r : Nat → Nat) (d : Nat → ClassId) (σ : Nat → Nat → Nat) (X Y : Int32)  : zMi l yX1_inPicture cX1_inPicture 3 (some .boolean) (rmF 0 0) G (clT d) (clC h0 r d) [.ref h0, .int X, .int Y] σ (fun v σ' => v = nI (if inP (σ 0 0) (σ 1 0) X Y then 1 else 0) ∧ σ' = σ) := by
  refine zMi_of (own := RX1) (by decide) rfl (Nat.le_of_ble_eq_true rfl) ?_
  intro p e s m args below meth c A ls C hr hlk w hl
  have hl : lv_has ls 3 [(0, .ref h0), (1, .int X), (2, .int Y)] := hl
  have hbd := w.2.2.2.2.2
  refine lv_iload_n C.1 C.2.1 dX1_inPicture_0 rfl (lv_at hl 1 rfl) ?_
  refine lv_if_lt (tgt := 28) C.1 C.2.1 dX1_inPicture_1 (by decide) (fun c_1 => ?_) (fun c_1 => ?_)
  · refine lv_iconst (v := nI 0) C.1 C.2.1 dX1_inPicture_28 (by decide) ?_
    exact z_zret C hr hlk w (by decide) ⟨by rw [if_neg (fun q => q.1 c_1)], rfl⟩ dX1_inPicture_29
  · refine lv_iload_n C.1 C.2.1 dX1_inPicture_4 rfl (lv_at hl 1 rfl) ?_
    refine lv_aload_n C.1 C.2.1 dX1_inPicture_5 rfl (lv_at hl 0 rfl) ?_
    refine cl_g0 C w dX1_inPicture_6 ?_
    refine lv_icmp_ge (tgt := 28) C.1 C.2.1 dX1_inPicture_9 (by decide) (fun c_9 => ?_) (fun c_9 => ?_)
    · refine lv_iconst (v := nI 0) C.1 C.2.1 dX1_inPicture_28 (by decide) ?_
      exact z_zret C hr hlk w (by decide) ⟨by rw [if_neg (fun q => q.2.1 c_9)], rfl⟩ dX1_inPicture_29
    · refine lv_iload_n C.1 C.2.1 dX1_inPicture_12 rfl (lv_at hl 2 rfl) ?_
      refine lv_if_lt (tgt := 28) C.1 C.2.1 dX1_inPicture_13 (by decide) (fun c_13 => ?_) (fun c_13 => ?_)
      · refine lv_iconst (v := nI 0) C.1 C.2.1 dX1_inPicture_28 (by decide) ?_
        exact z_zret C hr hlk w (by decide) ⟨by rw [if_neg (fun q => q.2.2.1 c_13)], rfl⟩ dX1_inPicture_29
      · refine lv_iload_n C.1 C.2.1 dX1_inPicture_16 rfl (lv_at hl 2 rfl) ?_
        refine lv_aload_n C.1 C.2.1 dX1_inPicture_17 rfl (lv_at hl 0 rfl) ?_
        refine cl_g1 C w dX1_inPicture_18 ?_
        refine lv_icmp_ge (tgt := 28) C.1 C.2.1 dX1_inPicture_21 (by decide) (fun c_21 => ?_) (fun c_21 => ?_)
        · refine lv_iconst (v := nI 0) C.1 C.2.1 dX1_inPicture_28 (by decide) ?_
          exact z_zret C hr hlk w (by decide) ⟨by rw [if_neg (fun q => q.2.2.2 c_21)], rfl⟩ dX1_inPicture_29
        · refine lv_iconst (v := nI 1) C.1 C.2.1 dX1_inPicture_24 (by decide) ?_
          refine lv_goto (tgt := 29) C.1 C.2.1 dX1_inPicture_25 (by decide) ?_
          exact z_zret C hr hlk w (by decide) ⟨by rw [if_pos ⟨c_1, c_9, c_13, c_21⟩], rfl⟩ dX1_inPicture_29
def rAF (s : Nat → Nat → Nat) (x y : Nat) : Nat → Nat → Nat
  | 0, k => k
  | n + 1, k => if k + 1 < s 9 (y + 1) ∧ s 6 k < x then rAF s x y n (k + 1) else k
section
variable {p : Program} {l : Launch} {e : Env} {R : Room} {s : State} {m : MethodId} {args : Array Value} {below : List Frame} {meth : Method} {c : Code} {H : Heap} {locs : List Loc} {Q : State → Prop}
variable {G : va_G} {A : Nat → Prop} {H0 : Heap} {σ : Nat → Nat → Nat} {h0 : Nat} {r : Nat → Nat} {d : Nat → ClassId}
theorem runAt_loop {x y : Nat} (C : zC p m c cX1_runAt 4 s args RX1) (w : clW G h0 r d A s H0 H locs σ) (hx : x < 12) (hy : y < 12) (h1 : 1 ≤ σ 9 (y + 1)) (h2 : σ 9 (y + 1) ≤ 145) : ∀ n k, σ 9 (y + 1) ≤ k + n + 1 → k < 145 → ∀ ls, lv_has ls 4 [(3, .int (nI k)), (0, .ref h0), (1, .int (nI x)), (2, .int (nI y))] → (∀ ls, lv_has ls 4 [(3, .int (nI (rAF σ x y n k))), (0, .ref h0), (1, .int (nI x)), (2, .int (nI y))] → W p l e R s m args below meth c H locs 0 0 Q (F0 m 37 ls [])) → W p l e R s m args below meth c H locs 0 0 Q (F0 m 7 ls []) := by
  have hbd := w.2.2.2.2.2
  intro n
  induction n with
  | zero =>
    intro k hk hk2 ls hl K
    have b6 := hbd 6 k
    refine lv_iload_n C.1 C.2.1 dX1_runAt_7 rfl (lv_at hl 0 rfl) ?_
    refine lv_aload_n C.1 C.2.1 dX1_runAt_8 rfl (lv_at hl 1 rfl) ?_
    refine cl_g9 C w dX1_runAt_9 ?_
    refine lv_iload_n C.1 C.2.1 dX1_runAt_12 rfl (lv_at hl 3 rfl) ?_
    refine lv_iconst (v := nI 1) C.1 C.2.1 dX1_runAt_13 (by decide) ?_
    refine z_iadd C dX1_runAt_14 ?_
    refine cl_l9 C w (by omega) dX1_runAt_15 ?_
    refine lv_iconst (v := nI 1) C.1 C.2.1 dX1_runAt_16 (by decide) ?_
    refine z_isub C (by omega) dX1_runAt_17 ?_
    refine z_cmp_ge (tgt := 37) C dX1_runAt_18 (by decide) (by omega) (by omega) (fun c_18 => ?_) (fun c_18 => ?_)
    · exact K ls hl
    · exact absurd c_18 (by omega)
  | succ n ih =>
    intro k hk hk2 ls hl K
    have b6 := hbd 6 k
    refine lv_iload_n C.1 C.2.1 dX1_runAt_7 rfl (lv_at hl 0 rfl) ?_
    refine lv_aload_n C.1 C.2.1 dX1_runAt_8 rfl (lv_at hl 1 rfl) ?_
    refine cl_g9 C w dX1_runAt_9 ?_
    refine lv_iload_n C.1 C.2.1 dX1_runAt_12 rfl (lv_at hl 3 rfl) ?_
    refine lv_iconst (v := nI 1) C.1 C.2.1 dX1_runAt_13 (by decide) ?_
    refine z_iadd C dX1_runAt_14 ?_
    refine cl_l9 C w (by omega) dX1_runAt_15 ?_
    refine lv_iconst (v := nI 1) C.1 C.2.1 dX1_runAt_16 (by decide) ?_
    refine z_isub C (by omega) dX1_runAt_17 ?_
    refine z_cmp_ge (tgt := 37) C dX1_runAt_18 (by decide) (by omega) (by omega) (fun c_18 => ?_) (fun c_18 => ?_)
    · have e1 : rAF σ x y (n + 1) k = k := if_neg (by omega)
      rw [e1] at K
      exact K ls hl
    · refine lv_aload_n C.1 C.2.1 dX1_runAt_21 rfl (lv_at hl 1 rfl) ?_
      refine cl_g6 C w dX1_runAt_22 ?_
      refine lv_iload_n C.1 C.2.1 dX1_runAt_25 rfl (lv_at hl 0 rfl) ?_
      refine cl_l6 C w (by omega) dX1_runAt_26 ?_
      refine lv_iload_n C.1 C.2.1 dX1_runAt_27 rfl (lv_at hl 2 rfl) ?_
      refine z_cmp_ge (tgt := 37) C dX1_runAt_28 (by decide) (by omega) (by omega) (fun c_28 => ?_) (fun c_28 => ?_)
      · have e1 : rAF σ x y (n + 1) k = k := if_neg (by omega)
        rw [e1] at K
        exact K ls hl
      · refine lv_iinc (lv' := [(3, .int (nI (k + 1))), (0, .ref h0), (1, .int (nI x)), (2, .int (nI y))]) C.1 C.2.1 dX1_runAt_31 hl (k := 0) rfl (nI_add _ _) (by decide) rfl (fun ls hl => ?_)
        refine lv_goto (tgt := 7) C.1 C.2.1 dX1_runAt_34 (by decide) ?_
        have e1 : rAF σ x y (n + 1) k = rAF σ x y n (k + 1) := if_pos ⟨by omega, by omega⟩
        rw [e1] at K
        exact ih (k + 1) (by omega) (by omega) ls hl K
end
theorem m_runAt (l : Launch) (G : va_G) (h0 : Nat) (r : Nat → Nat) (d : Nat → ClassId) (σ : Nat → Nat → Nat) (x y : Nat) (hx : x < 12) (hy : y < 12) (h1 : 1 ≤ σ 9 (y + 1)) (h2 : σ 9 (y + 1) ≤ 145) (h3 : σ 9 y < 145) : zMi l yX1_runAt cX1_runAt 4 (some .int) (rmF 0 0) G (clT d) (clC h0 r d) [.ref h0, .int (nI x), .int (nI y)] σ (fun v σ' => v = nI (rAF σ x y (σ 9 (y + 1)) (σ 9 y)) ∧ σ' = σ) := by
  refine zMi_of (own := RX1) (by decide) rfl (Nat.le_of_ble_eq_true rfl) ?_
  intro p e s m args below meth c A ls C hr hlk w hl
  have hl : lv_has ls 4 [(0, .ref h0), (1, .int (nI x)), (2, .int (nI y))] := hl
  have hbd := w.2.2.2.2.2
  refine lv_aload_n C.1 C.2.1 dX1_runAt_0 rfl (lv_at hl 0 rfl) ?_
  refine cl_g9 C w dX1_runAt_1 ?_
  refine lv_iload_n C.1 C.2.1 dX1_runAt_4 rfl (lv_at hl 2 rfl) ?_
  refine cl_l9 C w (by omega) dX1_runAt_5 ?_
  refine lv_istore_n (lv' := [(3, .int (nI (σ 9 y))), (0, .ref h0), (1, .int (nI x)), (2, .int (nI y))]) C.1 C.2.1 dX1_runAt_6 rfl hl (by decide) rfl (fun ls hl => ?_)
  refine runAt_loop C w hx hy h1 h2 (σ 9 (y + 1)) (σ 9 y) (by omega) h3 ls hl (fun ls hl => ?_)
  refine lv_iload_n C.1 C.2.1 dX1_runAt_37 rfl (lv_at hl 0 rfl) ?_
  exact z_iret C hr hlk w ⟨rfl, rfl⟩ dX1_runAt_38
def endF (v w c : Nat) : Nat → Nat → Nat
  | 0, e => e
  | n + 1, e => if e + 1 < w ∧ bit v (e + 1) = c then endF v w c n (e + 1) else e
def cutS (v x : Nat) (s : Nat → Nat → Nat) : Nat → Nat → Nat :=
  up (up (up (up (up s 5 (s 4 0) x) 6 (s 4 0) (endF v (s 0 0) (bit v x) 12 x)) 7 (s 4 0) (bit v x)) 8 (s 4 0) (s 4 0)) 4 0 (s 4 0 + 1)
def cutF (v : Nat) : Nat → Nat → (Nat → Nat → Nat) → Nat → Nat → Nat
  | 0, _, s => s
  | n + 1, x, s => if x < s 0 0 then cutF v n (endF v (s 0 0) (bit v x) 12 x + 1) (cutS v x s) else s
theorem endF_ge (v w c : Nat) : ∀ n e, e ≤ endF v w c n e := by
  intro n
  induction n with
  | zero => intro e; exact Nat.le_refl _
  | succ n ih =>
    intro e
    show e ≤ if e + 1 < w ∧ bit v (e + 1) = c then endF v w c n (e + 1) else e
    split
    · exact Nat.le_trans (by omega) (ih (e + 1))
    · exact Nat.le_refl _
theorem endF_lt (v w c : Nat) : ∀ n e, e < w → endF v w c n e < w := by
  intro n
  induction n with
  | zero => intro e h; exact h
  | succ n ih =>
    intro e h
    show (if e + 1 < w ∧ bit v (e + 1) = c then endF v w c n (e + 1) else e) < w
    split
    · rename_i k; exact ih (e + 1) k.1
    · exact h
section
variable {p : Program} {l : Launch} {e : Env} {R : Room} {s : State} {m : MethodId} {args : Array Value} {below : List Frame} {meth : Method} {c : Code} {H : Heap} {locs : List Loc} {Q : State → Prop}
variable {G : va_G} {A : Nat → Prop} {H0 : Heap} {σ : Nat → Nat → Nat} {h0 : Nat} {r : Nat → Nat} {d : Nat → ClassId}
theorem cut_in {x v co : Nat} (C : zC p m c cX1_cutRow 5 s args RX1) (w : clW G h0 r d A s H0 H locs σ) (hv : v < 2147483648) (hco : co < 2) (hw : σ 0 0 ≤ 12) : ∀ n k, σ 0 0 ≤ k + n + 1 → k < 12 → ∀ ls, lv_has ls 5 [(4, .int (nI k)), (3, .int (nI co)), (2, .int (nI x)), (0, .ref h0), (1, .int (nI v))] → (∀ ls, lv_has ls 5 [(4, .int (nI (endF v (σ 0 0) co n k))), (3, .int (nI co)), (2, .int (nI x)), (0, .ref h0), (1, .int (nI v))] → W p l e R s m args below meth c H locs 0 0 Q (F0 m 48 ls [])) → W p l e R s m args below meth c H locs 0 0 Q (F0 m 19 ls []) := by
  intro n
  induction n with
  | zero =>
    intro k hk hk2 ls hl K
    refine lv_iload C.1 C.2.1 dX1_cutRow_19 (lv_at hl 0 rfl) ?_
    refine lv_iconst (v := nI 1) C.1 C.2.1 dX1_cutRow_21 (by decide) ?_
    refine z_iadd C dX1_cutRow_22 ?_
    refine lv_aload_n C.1 C.2.1 dX1_cutRow_23 rfl (lv_at hl 3 rfl) ?_
    refine cl_g0 C w dX1_cutRow_24 ?_
    refine z_cmp_ge (tgt := 48) C dX1_cutRow_27 (by decide) (by omega) (by omega) (fun c_27 => ?_) (fun c_27 => ?_)
    · exact K ls hl
    · exact absurd c_27 (by omega)
  | succ n ih =>
    intro k hk hk2 ls hl K
    have b1 := bit_lt v (k + 1)
    refine lv_iload C.1 C.2.1 dX1_cutRow_19 (lv_at hl 0 rfl) ?_
    refine lv_iconst (v := nI 1) C.1 C.2.1 dX1_cutRow_21 (by decide) ?_
    refine z_iadd C dX1_cutRow_22 ?_
    refine lv_aload_n C.1 C.2.1 dX1_cutRow_23 rfl (lv_at hl 3 rfl) ?_
    refine cl_g0 C w dX1_cutRow_24 ?_
    refine z_cmp_ge (tgt := 48) C dX1_cutRow_27 (by decide) (by omega) (by omega) (fun c_27 => ?_) (fun c_27 => ?_)
    · have e1 : endF v (σ 0 0) co (n + 1) k = k := if_neg (by omega)
      rw [e1] at K
      exact K ls hl
    · refine lv_iload_n C.1 C.2.1 dX1_cutRow_30 rfl (lv_at hl 4 rfl) ?_
      refine lv_iload C.1 C.2.1 dX1_cutRow_31 (lv_at hl 0 rfl) ?_
      refine lv_iconst (v := nI 1) C.1 C.2.1 dX1_cutRow_33 (by decide) ?_
      refine z_iadd C dX1_cutRow_34 ?_
      refine z_bit C (by omega) (by omega) dX1_cutRow_35 dX1_cutRow_36 dX1_cutRow_37 ?_
      refine lv_iload_n C.1 C.2.1 dX1_cutRow_38 rfl (lv_at hl 1 rfl) ?_
      refine z_cmp_ne (tgt := 48) C dX1_cutRow_39 (by decide) (by omega) (by omega) (fun c_39 => ?_) (fun c_39 => ?_)
      · have e1 : endF v (σ 0 0) co (n + 1) k = k := if_neg (by omega)
        rw [e1] at K
        exact K ls hl
      · refine lv_iinc (lv' := [(4, .int (nI (k + 1))), (3, .int (nI co)), (2, .int (nI x)), (0, .ref h0), (1, .int (nI v))]) C.1 C.2.1 dX1_cutRow_42 hl (k := 0) rfl (nI_add _ _) (by decide) rfl (fun ls hl => ?_)
        refine lv_goto (tgt := 19) C.1 C.2.1 dX1_cutRow_45 (by decide) ?_
        have e1 : endF v (σ 0 0) co (n + 1) k = endF v (σ 0 0) co n (k + 1) := if_pos ⟨by omega, by omega⟩
        rw [e1] at K
        exact ih (k + 1) (by omega) (by omega) ls hl K
theorem cut_out {v : Nat} (C : zC p m c cX1_cutRow 5 s args RX1) (hv : v < 2147483648) : ∀ n x σ H locs, clW G h0 r d A s H0 H locs σ → σ 0 0 ≤ 12 → σ 0 0 ≤ x + n → σ 4 0 + σ 0 0 ≤ 145 + x → x ≤ 12 → ∀ ls, lv_has ls 5 [(2, .int (nI x)), (0, .ref h0), (1, .int (nI v))] → (∀ H locs ls, clW G h0 r d A s H0 H locs (cutF v n x σ) → W p l e R s m args below meth c H locs 0 0 Q (F0 m 121 ls [])) → W p l e R s m args below meth c H locs 0 0 Q (F0 m 2 ls []) := by
  intro n
  induction n with
  | zero =>
    intro x σ H locs w hw hn hr hx ls hl K
    refine lv_iload_n C.1 C.2.1 dX1_cutRow_2 rfl (lv_at hl 0 rfl) ?_
    refine lv_aload_n C.1 C.2.1 dX1_cutRow_3 rfl (lv_at hl 1 rfl) ?_
    refine cl_g0 C w dX1_cutRow_4 ?_
    refine z_cmp_ge (tgt := 121) C dX1_cutRow_7 (by decide) (by omega) (by omega) (fun c_7 => ?_) (fun c_7 => ?_)
    · exact K H locs ls w
    · exact absurd c_7 (by omega)
  | succ n ih =>
    intro x σ H locs w hw hn hr hx ls hl K
    have b0 := bit_lt v x
    have b1 := endF_ge v (σ 0 0) (bit v x) 12 x
    have b2 := endF_lt v (σ 0 0) (bit v x) 12 x
    have b4 := w.2.2.2.2.2 4 0
    refine lv_iload_n C.1 C.2.1 dX1_cutRow_2 rfl (lv_at hl 0 rfl) ?_
    refine lv_aload_n C.1 C.2.1 dX1_cutRow_3 rfl (lv_at hl 1 rfl) ?_
    refine cl_g0 C w dX1_cutRow_4 ?_
    refine z_cmp_ge (tgt := 121) C dX1_cutRow_7 (by decide) (by omega) (by omega) (fun c_7 => ?_) (fun c_7 => ?_)
    · have e1 : cutF v (n + 1) x σ = σ := if_neg (by omega)
      rw [e1] at K
      exact K H locs ls w
    · refine lv_iload_n C.1 C.2.1 dX1_cutRow_10 rfl (lv_at hl 2 rfl) ?_
      refine lv_iload_n C.1 C.2.1 dX1_cutRow_11 rfl (lv_at hl 0 rfl) ?_
      refine z_bit C (by omega) (by omega) dX1_cutRow_12 dX1_cutRow_13 dX1_cutRow_14 ?_
      refine lv_istore_n (lv' := [(3, .int (nI (bit v x))), (2, .int (nI x)), (0, .ref h0), (1, .int (nI v))]) C.1 C.2.1 dX1_cutRow_15 rfl hl (by decide) rfl (fun ls hl => ?_)
      refine lv_iload_n C.1 C.2.1 dX1_cutRow_16 rfl (lv_at hl 1 rfl) ?_
      refine lv_istore (lv' := [(4, .int (nI x)), (3, .int (nI (bit v x))), (2, .int (nI x)), (0, .ref h0), (1, .int (nI v))]) C.1 C.2.1 dX1_cutRow_17 hl (by decide) rfl (fun ls hl => ?_)
      have b3 := b2 (by omega)
      refine cut_in C w hv b0 hw 12 x (by omega) (by omega) ls hl (fun ls hl => ?_)
      refine lv_aload_n C.1 C.2.1 dX1_cutRow_48 rfl (lv_at hl 3 rfl) ?_
      refine cl_g5 C w dX1_cutRow_49 ?_
      refine lv_aload_n C.1 C.2.1 dX1_cutRow_52 rfl (lv_at hl 3 rfl) ?_
      refine cl_g4 C w dX1_cutRow_53 ?_
      refine lv_iload_n C.1 C.2.1 dX1_cutRow_56 rfl (lv_at hl 2 rfl) ?_
      refine z_i2b C (by omega) dX1_cutRow_57 ?_
      refine cl_s5 C w (by omega) (by omega) dX1_cutRow_58 (fun H locs w => ?_)
      refine lv_aload_n C.1 C.2.1 dX1_cutRow_59 rfl (lv_at hl 3 rfl) ?_
      refine cl_g6 C w dX1_cutRow_60 ?_
      refine lv_aload_n C.1 C.2.1 dX1_cutRow_63 rfl (lv_at hl 3 rfl) ?_
      refine cl_g4 C w dX1_cutRow_64 ?_
      refine W.eq (g2 := F0 m 67 ls [.int (nI (σ 4 0)), .ref (r 6)]) rfl ?_
      refine lv_iload C.1 C.2.1 dX1_cutRow_67 (lv_at hl 0 rfl) ?_
      refine z_i2b C (by omega) dX1_cutRow_69 ?_
      refine cl_s6 C w (by omega) (by omega) dX1_cutRow_70 (fun H locs w => ?_)
      refine lv_aload_n C.1 C.2.1 dX1_cutRow_71 rfl (lv_at hl 3 rfl) ?_
      refine cl_g7 C w dX1_cutRow_72 ?_
      refine lv_aload_n C.1 C.2.1 dX1_cutRow_75 rfl (lv_at hl 3 rfl) ?_
      refine cl_g4 C w dX1_cutRow_76 ?_
      refine W.eq (g2 := F0 m 79 ls [.int (nI (σ 4 0)), .ref (r 7)]) rfl ?_
      refine lv_iload_n C.1 C.2.1 dX1_cutRow_79 rfl (lv_at hl 1 rfl) ?_
      refine z_if_eq (tgt := 87) C dX1_cutRow_80 (by decide) (by omega) (fun c_80 => ?_) (fun c_80 => ?_)
      · refine lv_iconst (v := nI 0) C.1 C.2.1 dX1_cutRow_87 (by decide) ?_
        refine cl_s7 C w (by omega) (by omega) dX1_cutRow_88 (fun H locs w => ?_)
        refine lv_aload_n C.1 C.2.1 dX1_cutRow_89 rfl (lv_at hl 3 rfl) ?_
        refine cl_g8 C w dX1_cutRow_90 ?_
        refine lv_aload_n C.1 C.2.1 dX1_cutRow_93 rfl (lv_at hl 3 rfl) ?_
        refine cl_g4 C w dX1_cutRow_94 ?_
        refine W.eq (g2 := F0 m 97 ls [.int (nI (σ 4 0)), .ref (r 8)]) rfl ?_
        refine lv_aload_n C.1 C.2.1 dX1_cutRow_97 rfl (lv_at hl 3 rfl) ?_
        refine cl_g4 C w dX1_cutRow_98 ?_
        refine W.eq (g2 := F0 m 101 ls [.int (nI (σ 4 0)), .int (nI (σ 4 0)), .ref (r 8)]) rfl ?_
        refine z_i2s C (by omega) dX1_cutRow_101 ?_
        refine cl_s8 C w (by omega) (by omega) dX1_cutRow_102 (fun H locs w => ?_)
        refine lv_aload_n C.1 C.2.1 dX1_cutRow_103 rfl (lv_at hl 3 rfl) ?_
        refine lv_dup C.1 C.2.1 dX1_cutRow_104 rfl ?_
        refine cl_g4 C w dX1_cutRow_105 ?_
        refine W.eq (g2 := F0 m 108 ls [.int (nI (σ 4 0)), .ref h0]) rfl ?_
        refine lv_iconst (v := nI 1) C.1 C.2.1 dX1_cutRow_108 (by decide) ?_
        refine z_iadd C dX1_cutRow_109 ?_
        refine cl_p4 C w (by omega) dX1_cutRow_110 (fun H locs w => ?_)
        refine lv_iload C.1 C.2.1 dX1_cutRow_113 (lv_at hl 0 rfl) ?_
        refine lv_iconst (v := nI 1) C.1 C.2.1 dX1_cutRow_115 (by decide) ?_
        refine z_iadd C dX1_cutRow_116 ?_
        refine lv_istore_n (lv' := [(2, .int (nI ((endF v (σ 0 0) (bit v x) 12 x) + 1))), (4, .int (nI (endF v (σ 0 0) (bit v x) 12 x))), (3, .int (nI (bit v x))), (0, .ref h0), (1, .int (nI v))]) C.1 C.2.1 dX1_cutRow_117 rfl hl (by decide) rfl (fun ls hl => ?_)
        refine lv_goto (tgt := 2) C.1 C.2.1 dX1_cutRow_118 (by decide) ?_
        have e0 : bit v x = 0 := by omega
        have e1 : cutF v (n + 1) x σ = cutF v n (endF v (σ 0 0) (bit v x) 12 x + 1) (cutS v x σ) := if_pos (by omega)
        rw [e1] at K
        have e2 : cutS v x σ = up (up (up (up (up σ 5 (σ 4 0) x) 6 (σ 4 0) (endF v (σ 0 0) (bit v x) 12 x)) 7 (σ 4 0) 0) 8 (σ 4 0) (σ 4 0)) 4 0 ((σ 4 0) + 1) := congrArg (fun z => up (up (up (up (up σ 5 (σ 4 0) x) 6 (σ 4 0) (endF v (σ 0 0) (bit v x) 12 x)) 7 (σ 4 0) z) 8 (σ 4 0) (σ 4 0)) 4 0 (σ 4 0 + 1)) e0
        rw [← e2] at w
        exact ih (endF v (σ 0 0) (bit v x) 12 x + 1) (cutS v x σ) H locs w hw (show σ 0 0 ≤ _ by omega) (show σ 4 0 + 1 + σ 0 0 ≤ _ by omega) (by omega) ls (lv_sub hl [0, 3, 4] rfl) K
      · refine lv_iconst (v := nI 1) C.1 C.2.1 dX1_cutRow_83 (by decide) ?_
        refine lv_goto (tgt := 88) C.1 C.2.1 dX1_cutRow_84 (by decide) ?_
        refine cl_s7 C w (by omega) (by omega) dX1_cutRow_88 (fun H locs w => ?_)
        refine lv_aload_n C.1 C.2.1 dX1_cutRow_89 rfl (lv_at hl 3 rfl) ?_
        refine cl_g8 C w dX1_cutRow_90 ?_
        refine lv_aload_n C.1 C.2.1 dX1_cutRow_93 rfl (lv_at hl 3 rfl) ?_
        refine cl_g4 C w dX1_cutRow_94 ?_
        refine W.eq (g2 := F0 m 97 ls [.int (nI (σ 4 0)), .ref (r 8)]) rfl ?_
        refine lv_aload_n C.1 C.2.1 dX1_cutRow_97 rfl (lv_at hl 3 rfl) ?_
        refine cl_g4 C w dX1_cutRow_98 ?_
        refine W.eq (g2 := F0 m 101 ls [.int (nI (σ 4 0)), .int (nI (σ 4 0)), .ref (r 8)]) rfl ?_
        refine z_i2s C (by omega) dX1_cutRow_101 ?_
        refine cl_s8 C w (by omega) (by omega) dX1_cutRow_102 (fun H locs w => ?_)
        refine lv_aload_n C.1 C.2.1 dX1_cutRow_103 rfl (lv_at hl 3 rfl) ?_
        refine lv_dup C.1 C.2.1 dX1_cutRow_104 rfl ?_
        refine cl_g4 C w dX1_cutRow_105 ?_
        refine W.eq (g2 := F0 m 108 ls [.int (nI (σ 4 0)), .ref h0]) rfl ?_
        refine lv_iconst (v := nI 1) C.1 C.2.1 dX1_cutRow_108 (by decide) ?_
        refine z_iadd C dX1_cutRow_109 ?_
        refine cl_p4 C w (by omega) dX1_cutRow_110 (fun H locs w => ?_)
        refine lv_iload C.1 C.2.1 dX1_cutRow_113 (lv_at hl 0 rfl) ?_
        refine lv_iconst (v := nI 1) C.1 C.2.1 dX1_cutRow_115 (by decide) ?_
        refine z_iadd C dX1_cutRow_116 ?_
        refine lv_istore_n (lv' := [(2, .int (nI ((endF v (σ 0 0) (bit v x) 12 x) + 1))), (4, .int (nI (endF v (σ 0 0) (bit v x) 12 x))), (3, .int (nI (bit v x))), (0, .ref h0), (1, .int (nI v))]) C.1 C.2.1 dX1_cutRow_117 rfl hl (by decide) rfl (fun ls hl => ?_)
        refine lv_goto (tgt := 2) C.1 C.2.1 dX1_cutRow_118 (by decide) ?_
        have e0 : bit v x = 1 := by omega
        have e1 : cutF v (n + 1) x σ = cutF v n (endF v (σ 0 0) (bit v x) 12 x + 1) (cutS v x σ) := if_pos (by omega)
        rw [e1] at K
        have e2 : cutS v x σ = up (up (up (up (up σ 5 (σ 4 0) x) 6 (σ 4 0) (endF v (σ 0 0) (bit v x) 12 x)) 7 (σ 4 0) 1) 8 (σ 4 0) (σ 4 0)) 4 0 ((σ 4 0) + 1) := congrArg (fun z => up (up (up (up (up σ 5 (σ 4 0) x) 6 (σ 4 0) (endF v (σ 0 0) (bit v x) 12 x)) 7 (σ 4 0) z) 8 (σ 4 0) (σ 4 0)) 4 0 (σ 4 0 + 1)) e0
        rw [← e2] at w
        exact ih (endF v (σ 0 0) (bit v x) 12 x + 1) (cutS v x σ) H locs w hw (show σ 0 0 ≤ _ by omega) (show σ 4 0 + 1 + σ 0 0 ≤ _ by omega) (by omega) ls (lv_sub hl [0, 3, 4] rfl) K
end
theorem m_cutRow (l : Launch) (G : va_G) (h0 : Nat) (r : Nat → Nat) (d : Nat → ClassId) (σ : Nat → Nat → Nat) (v : Nat) (hv : v < 2147483648) (hw : σ 0 0 ≤ 12) (hr4 : σ 4 0 + σ 0 0 ≤ 145) : zMv l yX1_cutRow cX1_cutRow 5 none (rmF 0 0) G (clT d) (clC h0 r d) [.ref h0, .int (nI v)] σ (fun σ' => σ' = cutF v 12 0 σ) := by
  refine zMv_of (own := RX1) (by decide) rfl (Nat.le_of_ble_eq_true rfl) ?_
  intro p e s m args below meth c A ls C hr hlk w hl
  have hl : lv_has ls 5 [(0, .ref h0), (1, .int (nI v))] := hl
  have hbd := w.2.2.2.2.2
  refine lv_iconst (v := nI 0) C.1 C.2.1 dX1_cutRow_0 (by decide) ?_
  refine lv_istore_n (lv' := [(2, .int (nI 0)), (0, .ref h0), (1, .int (nI v))]) C.1 C.2.1 dX1_cutRow_1 rfl hl (by decide) rfl (fun ls hl => ?_)
  refine cut_out C hv 12 0 σ _ _ w hw (by omega) (by omega) (by omega) ls hl (fun H locs ls w => ?_)
  exact z_vret C hr hlk w rfl dX1_cutRow_121
