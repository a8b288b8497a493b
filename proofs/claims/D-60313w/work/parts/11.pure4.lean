/-! ===== the plane law, 4: what the reference's loops compute ===== -/
theorem up_eq (s : Nat → Nat → Nat) (k j v : Nat) : up s k j v k j = v := by unfold up; rw [if_pos rfl, if_pos rfl]
theorem up_ne {s : Nat → Nat → Nat} {k j v k' j' : Nat} (h : k' ≠ k ∨ j' ≠ j) : up s k j v k' j' = s k' j' := by
  unfold up
  by_cases e : k' = k
  · rw [if_pos e, if_neg (by omega)]
  · rw [if_neg e]
theorem up_row {s : Nat → Nat → Nat} {k j v k' : Nat} (h : k' ≠ k) : up s k j v k' = s k' := by
  funext j'
  exact up_ne (Or.inl h)
def srS (p d : Nat) (t : (Nat → Nat → Nat) × Nat) : (Nat → Nat → Nat) × Nat :=
  if nr p d < 196 ∧ stp (t.1 2) p (nr p d) d ∧ t.1 3 (nr p d) < t.1 3 p then (up t.1 3 p (t.1 3 (nr p d)), 1) else t
def frI (s : Nat → Nat → Nat) : Nat → Nat → Nat := fwd (fun p s => up s 3 p p) 196 0 s
def frN (N : Nat) (s : Nat → Nat → Nat) : Nat → Nat → Nat := (rounds (sweep srS 9) N (s, 1)).1
def frF (s : Nat → Nat → Nat) : Nat → Nat → Nat := frN 197 (frI s)
theorem frI_ok (s : Nat → Nat → Nat) : ∀ n k, k + n = 196 → ∀ s' : Nat → Nat → Nat, (∀ k', k' ≠ 3 → s' k' = s k') → (∀ p, p < k → s' 3 p = p) → (∀ k', k' ≠ 3 → fwd (fun p s => up s 3 p p) n k s' k' = s k') ∧ ∀ p, p < 196 → fwd (fun p s => up s 3 p p) n k s' 3 p = p := by
  intro n
  induction n with
  | zero =>
    intro k hk s' h1 h2
    exact ⟨h1, fun p hp => h2 p (by omega)⟩
  | succ n ih =>
    intro k hk s' h1 h2
    refine ih (k + 1) (by omega) (up s' 3 k k) (fun k' hk' => by rw [up_row hk']; exact h1 k' hk') (fun p hp => ?_)
    by_cases e : p = k
    · subst e; exact up_eq _ _ _ _
    · rw [up_ne (Or.inr e)]; exact h2 p (by omega)
theorem frF_core (s s0 : Nat → Nat → Nat) (N : Nat) (hN : 196 ≤ N) (i1 : ∀ k', k' ≠ 3 → s0 k' = s k') (i2 : ∀ p, p < 196 → s0 3 p = p) : (∀ k', k' ≠ 3 → frN N s0 k' = s k') ∧ ∀ p, p < 196 → frN N s0 3 p = rt (s 2) p := by
  unfold frN
  have key := sweeps (S := srS) (nd := 9) (fun t => (∀ k', k' ≠ 3 → t k' = s k') ∧ ∀ p, p < 196 → Conn (s 2) p (t 3 p) ∧ t 3 p ≤ p) (fun t p => t 3 p = rt (s 2) p) ?_ ?_ ?_ ?_ N hN s0 ⟨i1, fun p hp => by rw [i2 p hp]; exact ⟨Conn.refl _ _, Nat.le_refl _⟩⟩
  · exact ⟨key.1.1, key.2⟩
  · intro p d t hp hd ht
    unfold srS
    split
    · rename_i h
      obtain ⟨h1, h2, h3⟩ := h
      rw [ht.1 2 (by decide)] at h2
      refine ⟨fun k' hk' => by dsimp only; rw [up_row hk']; exact ht.1 k' hk', fun w hw => ?_⟩
      dsimp only
      by_cases e : w = p
      · subst e
        rw [up_eq]
        exact ⟨(Conn.of ⟨hp, h1, d, hd, rfl, h2⟩).trans (ht.2 _ h1).1, by have := (ht.2 w hw).2; omega⟩
      · rw [up_ne (Or.inr e)]; exact ht.2 w hw
    · exact ht
  · intro p d t w hp hd hw ht hs
    unfold srS
    split
    · rename_i h
      obtain ⟨h1, h2, h3⟩ := h
      rw [ht.1 2 (by decide)] at h2
      dsimp only
      by_cases e : w = p
      · subst e
        have := rt_min ((Conn.of ⟨hp, h1, d, hd, rfl, h2⟩).trans (ht.2 _ h1).1)
        omega
      · rw [up_ne (Or.inr e)]; exact hs
    · exact hs
  · intro p d t
    unfold srS
    split
    · exact Or.inr (Nat.succ_ne_zero 0)
    · exact Or.inl rfl
  · intro t ht hu
    obtain ⟨p, hp, hup⟩ := hu
    have hr : t 3 (rt (s 2) p) = rt (s 2) (rt (s 2) p) := by
      have h1 := rt_le (s 2) p
      have h2 := ht.2 (rt (s 2) p) (by omega)
      have h3 := rt_min h2.1
      have h4 := rt_rt (s 2) p
      omega
    have hex : ∃ u w, Lk (s 2) w u ∧ t 3 u = rt (s 2) u ∧ ¬ t 3 w = rt (s 2) w := by
      apply Classical.not_not.mp
      intro hn
      refine hup ((rt_conn (s 2) p (fun u => t 3 u = rt (s 2) u) (fun u w h => ⟨fun a => ?_, fun a => ?_⟩)).mpr hr)
      · exact Classical.not_not.mp (fun b => hn ⟨u, w, h.symm, a, b⟩)
      · exact Classical.not_not.mp (fun b => hn ⟨w, u, h, a, b⟩)
    obtain ⟨u, w, hl, h1, h2⟩ := hex
    have hrt := rt_lk hl
    obtain ⟨hw, hu, d, hd, hn, hs⟩ := hl
    refine ⟨u, w, w, d, hu, hw, hw, hd, h2, h1, fun t' ht' hs' => ?_⟩
    unfold srS
    subst hn
    split
    · dsimp only
      rw [up_eq, hrt]; exact hs'
    · rename_i h
      rw [ht'.1 2 (by decide)] at h
      have h3 := rt_min (ht'.2 w hw).1
      have h4 : ¬ t'.1 3 (nr w d) < t'.1 3 w := fun q => h ⟨hu, hs, q⟩
      rw [hs'] at h4
      omega
theorem frF_ok (s : Nat → Nat → Nat) : (∀ k', k' ≠ 3 → frF s k' = s k') ∧ ∀ p, p < 196 → frF s 3 p = rt (s 2) p := by
  have ii := frI_ok s 196 0 rfl s (fun _ _ => rfl) (fun p hp => by omega)
  exact frF_core s (frI s) 197 (by omega) ii.1 ii.2
/-- colour changes -/
def cst (b : Nat → Nat) (p q d : Nat) : Nat := if stp b p q d then 0 else if b p ≠ b q ∧ d % 2 = 1 then 1 else 1000
def scS (p d : Nat) (t : (Nat → Nat → Nat) × Nat) : (Nat → Nat → Nat) × Nat :=
  if nr p d < 196 ∧ t.1 4 (nr p d) + cst (t.1 2) p (nr p d) d < t.1 4 p then (up t.1 4 p (t.1 4 (nr p d) + cst (t.1 2) p (nr p d) d), 1) else t
def fcI (s : Nat → Nat → Nat) : Nat → Nat → Nat := fwd (fun p s => up s 4 p (if p = 0 then 0 else 500)) 196 0 s
def fcN (N : Nat) (s : Nat → Nat → Nat) : Nat → Nat → Nat := (rounds (sweep scS 9) N (s, 1)).1
def fcF (s : Nat → Nat → Nat) : Nat → Nat → Nat := fcN 197 (fcI s)
theorem fcI_ok (s : Nat → Nat → Nat) : ∀ n k, k + n = 196 → ∀ s' : Nat → Nat → Nat, (∀ k', k' ≠ 4 → s' k' = s k') → (∀ p, p < k → s' 4 p = if p = 0 then 0 else 500) → (∀ k', k' ≠ 4 → fwd (fun p s => up s 4 p (if p = 0 then 0 else 500)) n k s' k' = s k') ∧ ∀ p, p < 196 → fwd (fun p s => up s 4 p (if p = 0 then 0 else 500)) n k s' 4 p = if p = 0 then 0 else 500 := by
  intro n
  induction n with
  | zero =>
    intro k hk s' h1 h2
    exact ⟨h1, fun p hp => h2 p (by omega)⟩
  | succ n ih =>
    intro k hk s' h1 h2
    refine ih (k + 1) (by omega) (up s' 4 k (if k = 0 then 0 else 500)) (fun k' hk' => by rw [up_row hk']; exact h1 k' hk') (fun p hp => ?_)
    by_cases e : p = k
    · subst e; exact up_eq _ _ _ _
    · rw [up_ne (Or.inr e)]; exact h2 p (by omega)
theorem cst_le {b : Nat → Nat} (hb : Pic b) {p d : Nat} (hp : p < 196) (hd : d < 9) (h : nr p d < 196) : lev b (rt b p) ≤ lev b (rt b (nr p d)) + cst b p (nr p d) d := by
  unfold cst
  split
  · rename_i k
    rw [rt_lk ⟨hp, h, d, hd, rfl, k⟩]; omega
  · split
    · rename_i k1 k
      rcases tree_d hb hp hd k.2 h k.1 with q | q <;> omega
    · have := lev_le13 hb hp
      omega
theorem fcF_core (s s0 : Nat → Nat → Nat) (N : Nat) (hN : 196 ≤ N) (hb : Pic (s 2)) (i1 : ∀ k', k' ≠ 4 → s0 k' = s k') (i2 : ∀ p, p < 196 → s0 4 p = if p = 0 then 0 else 500) : (∀ k', k' ≠ 4 → fcN N s0 k' = s k') ∧ ∀ p, p < 196 → fcN N s0 4 p = lev (s 2) (rt (s 2) p) := by
  have r0 : rt (s 2) 0 = 0 := by have := rt_le (s 2) 0; omega
  unfold fcN
  have key := sweeps (S := scS) (nd := 9) (fun t => (∀ k', k' ≠ 4 → t k' = s k') ∧ t 4 0 = 0 ∧ ∀ p, p < 196 → lev (s 2) (rt (s 2) p) ≤ t 4 p) (fun t p => t 4 p = lev (s 2) (rt (s 2) p)) ?_ ?_ ?_ ?_ N hN s0 ⟨i1, by rw [i2 0 (by decide)]; rfl, fun p hp => by
    rw [i2 p hp]
    by_cases e : p = 0
    · subst e; rw [r0, lev_0]; exact Nat.zero_le _
    · rw [if_neg e]; have := lev_le13 hb hp; omega⟩
  · exact ⟨key.1.1, key.2⟩
  · intro p d t hp hd ht
    unfold scS
    split
    · rename_i h
      obtain ⟨h1, h3⟩ := h
      rw [ht.1 2 (by decide)] at h3 ⊢
      have h4 := cst_le hb hp hd h1
      have h5 := ht.2.2 (nr p d) h1
      refine ⟨fun k' hk' => by dsimp only; rw [up_row hk']; exact ht.1 k' hk', ?_, fun w hw => ?_⟩
      · dsimp only
        by_cases e : 0 = p
        · subst e; have := ht.2.1; omega
        · rw [up_ne (Or.inr e)]; exact ht.2.1
      · dsimp only
        by_cases e : w = p
        · subst e
          rw [up_eq]
          omega
        · rw [up_ne (Or.inr e)]; exact ht.2.2 w hw
    · exact ht
  · intro p d t w hp hd hw ht hs
    unfold scS
    split
    · rename_i h
      obtain ⟨h1, h3⟩ := h
      rw [ht.1 2 (by decide)] at h3 ⊢
      have h4 := cst_le hb hp hd h1
      have h5 := ht.2.2 (nr p d) h1
      dsimp only
      by_cases e : w = p
      · subst e; omega
      · rw [up_ne (Or.inr e)]; exact hs
    · exact hs
  · intro p d t
    unfold scS
    split
    · exact Or.inr (Nat.succ_ne_zero 0)
    · exact Or.inl rfl
  · intro t ht hu
    have fin : ∀ u w d, u < 196 → w < 196 → d < 9 → nr w d = u → lev (s 2) (rt (s 2) w) = lev (s 2) (rt (s 2) u) + cst (s 2) w u d → ∀ t' : (Nat → Nat → Nat) × Nat, ((∀ k', k' ≠ 4 → t'.1 k' = s k') ∧ t'.1 4 0 = 0 ∧ ∀ p, p < 196 → lev (s 2) (rt (s 2) p) ≤ t'.1 4 p) → t'.1 4 u = lev (s 2) (rt (s 2) u) → (scS w d t').1 4 w = lev (s 2) (rt (s 2) w) := by
      intro u w d hu hw hd hn he t' ht' hs'
      subst hn
      unfold scS
      split
      · dsimp only
        rw [up_eq, ht'.1 2 (by decide), he, hs']
      · rename_i h
        rw [ht'.1 2 (by decide)] at h
        have h3 := ht'.2.2 w hw
        have h4 : ¬ t'.1 4 (nr w d) + cst (s 2) w (nr w d) d < t'.1 4 w := fun q => h ⟨hu, q⟩
        omega
    obtain ⟨p, hp, hup⟩ := hu
    have main : ∀ n p, p ≤ n → p < 196 → ¬ t 4 p = lev (s 2) (rt (s 2) p) → ∃ u w p d, u < 196 ∧ w < 196 ∧ p < 196 ∧ d < 9 ∧ ¬ t 4 w = lev (s 2) (rt (s 2) w) ∧ t 4 u = lev (s 2) (rt (s 2) u) ∧ ∀ t' : (Nat → Nat → Nat) × Nat, ((∀ k', k' ≠ 4 → t'.1 k' = s k') ∧ t'.1 4 0 = 0 ∧ ∀ p, p < 196 → lev (s 2) (rt (s 2) p) ≤ t'.1 4 p) → t'.1 4 u = lev (s 2) (rt (s 2) u) → (scS p d t').1 4 w = lev (s 2) (rt (s 2) w) := by
      intro n
      induction n with
      | zero =>
        intro p hn hp hup
        obtain rfl : p = 0 := by omega
        exact absurd (by rw [r0, lev_0]; exact ht.2.1) hup
      | succ n ih =>
        intro p hn hp hup
        have hl := rt_le (s 2) p
        by_cases hr : t 4 (rt (s 2) p) = lev (s 2) (rt (s 2) (rt (s 2) p))
        · have hex : ∃ u w, Lk (s 2) w u ∧ t 4 u = lev (s 2) (rt (s 2) u) ∧ ¬ t 4 w = lev (s 2) (rt (s 2) w) := by
            apply Classical.not_not.mp
            intro hn
            refine hup ((rt_conn (s 2) p (fun u => t 4 u = lev (s 2) (rt (s 2) u)) (fun u w h => ⟨fun a => ?_, fun a => ?_⟩)).mpr hr)
            · exact Classical.not_not.mp (fun b => hn ⟨u, w, h.symm, a, b⟩)
            · exact Classical.not_not.mp (fun b => hn ⟨w, u, h, a, b⟩)
          obtain ⟨u, w, hl, h1, h2⟩ := hex
          have hrt := rt_lk hl
          obtain ⟨hw, hu, d, hd, hn, hs⟩ := hl
          refine ⟨u, w, w, d, hu, hw, hw, hd, h2, h1, fin u w d hu hw hd hn ?_⟩
          rw [hrt]
          unfold cst
          rw [if_pos hs]; rfl
        · generalize hc : rt (s 2) p = c at hr hl
          have hcc : rt (s 2) c = c := by rw [← hc]; exact rt_rt _ _
          have h0 : c ≠ 0 := by
            intro e
            subst e
            exact hr (by rw [r0, lev_0]; exact ht.2.1)
          obtain ⟨hx, -, hy, hy2⟩ := root_in hb (by omega) hcc h0
          have hle := root_left hb (by omega) hcc h0
          by_cases hq : t 4 (c - 1) = lev (s 2) (rt (s 2) (c - 1))
          · refine ⟨c - 1, c, c, 3, by omega, by omega, by omega, by omega, hr, hq, fin (c - 1) c 3 (by omega) (by omega) (by omega) (nr_3 (by omega) hx) ?_⟩
            unfold cst
            rw [if_neg (fun q => hle q.1.symm), if_pos ⟨Ne.symm hle, rfl⟩, hcc, lev_s _ h0]
            rfl
          · exact ih (c - 1) (by omega) (by omega) hq
    exact main p p (Nat.le_refl _) hp hup
theorem fcF_ok (s : Nat → Nat → Nat) (hb : Pic (s 2)) : (∀ k', k' ≠ 4 → fcF s k' = s k') ∧ ∀ p, p < 196 → fcF s 4 p = lev (s 2) (rt (s 2) p) := by
  have ii := fcI_ok s 196 0 rfl s (fun _ _ => rfl) (fun p hp => by omega)
  exact fcF_core s (fcI s) 197 (by omega) hb ii.1 ii.2
