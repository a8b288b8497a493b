/-! ===== the plane law, 2: the tree of components ===== -/
noncomputable def par (b : Nat → Nat) (c : Nat) : Nat := rt b (c - 1)
theorem par_lt (b : Nat → Nat) {c : Nat} (h : c ≠ 0) : par b c < c := by
  have := rt_le b (c - 1)
  unfold par
  omega
theorem par_rt (b : Nat → Nat) (c : Nat) : rt b (par b c) = par b c := rt_rt b _
theorem root_in {b : Nat → Nat} (hb : Pic b) {c : Nat} (hc : c < 196) (hr : rt b c = c) (h0 : c ≠ 0) : 1 ≤ c % 14 ∧ c % 14 ≤ 12 ∧ 14 ≤ c ∧ c < 182 := by
  have hn : ¬ onRing c := fun h => h0 (by rw [← hr]; exact rt_ring hb hc h)
  unfold onRing at hn
  omega
section Tree
variable {b : Nat → Nat} {A B : Nat} {f : Nat → Nat → Nat}
theorem g_f0 (hAB : A ≠ B) (hf : ∀ u w, f u w = fv A B (rt b u) (rt b w)) {u w : Nat} (e : rt b u = rt b w) : f u w = 0 := by
  rw [hf, e]
  exact fv_self hAB _
theorem g_v (hb : Pic b) (hAB : A ≠ B) (hf : ∀ u w, f u w = fv A B (rt b u) (rt b w)) : ∀ x u, u % 14 = x → u < 182 → (gP f u + gP f (u + 14) + f u (u + 14)) % 2 = 0 := by
  intro x
  induction x with
  | zero =>
    intro u hx hu
    have e1 : gP f u = 0 := by unfold gP; rw [hx]; rfl
    have e2 : gP f (u + 14) = 0 := by unfold gP; rw [show (u + 14) % 14 = 0 by omega]; rfl
    have e3 : f u (u + 14) = 0 := g_f0 hAB hf (by rw [rt_ring hb (p := u) (by omega) (Or.inl hx), rt_ring hb (p := u + 14) (by omega) (Or.inl (by omega))])
    omega
  | succ x ih =>
    intro u hx hu
    obtain ⟨u, rfl⟩ : ∃ z, u = z + 1 := ⟨u - 1, by omega⟩
    have i := ih u (by omega) (by omega)
    have a1 := gP_h f (p := u) (by omega)
    have a2 := gP_h f (p := u + 14) (by omega)
    rw [show u + 1 + 14 = u + 15 by omega]
    rw [show u + 14 + 1 = u + 15 by omega] at a2
    have q := sq_even (A := A) (B := B) (ra := rt b u) (rb := rt b (u + 1)) (rc := rt b (u + 14)) (rd := rt b (u + 15)) (c1 := b u) (c2 := b (u + 1)) (c3 := b (u + 14)) (c4 := b (u + 15)) hAB (hb.2 _) (hb.2 _) (hb.2 _) (hb.2 _)
      (fun h => rt_lk (lk_h (by omega) (by omega) h)) (fun h => rt_lk (lk_v (by omega) h)) (fun h => rt_lk (lk_v (p := u + 1) (by omega) h)) (fun h => rt_lk (lk_h (p := u + 14) (by omega) (by omega) h)) (fun h0 h => rt_lk (lk_d1 (by omega) (by omega) h0 h)) (fun h0 h => rt_lk (lk_d2 (p := u + 1) (by omega) (by omega) h0 h))
    rw [← hf, ← hf, ← hf, ← hf] at q
    omega
theorem g_lk (hb : Pic b) (hAB : A ≠ B) (hf : ∀ u w, f u w = fv A B (rt b u) (rt b w)) {u w : Nat} (h : Lk b u w) : gP f u % 2 = gP f w % 2 := by
  have e := rt_lk h
  obtain ⟨hu, hw, hc, hk⟩ := h.kinds
  have d1 : ∀ z, z < 182 → z % 14 ≤ 12 → rt b z = rt b (z + 15) → gP f z % 2 = gP f (z + 15) % 2 := by
    intro z hz hx ez
    have a1 := gP_h f (p := z) hx
    have a2 := g_v hb hAB hf _ (z + 1) rfl (by omega)
    rw [show z + 1 + 14 = z + 15 by omega] at a2
    have a3 : f (z + 1) (z + 15) = f z (z + 1) := by rw [hf, hf, ez]; exact fv_symm _ _ _ _
    omega
  have d2 : ∀ z, z < 182 → 1 ≤ z % 14 → rt b z = rt b (z + 13) → gP f z % 2 = gP f (z + 13) % 2 := by
    intro z hz hx ez
    obtain ⟨z, rfl⟩ : ∃ y, z = y + 1 := ⟨z - 1, by omega⟩
    have a1 := gP_h f (p := z) (by omega)
    have a2 := g_v hb hAB hf _ z rfl (by omega)
    rw [show z + 1 + 13 = z + 14 by omega] at ez ⊢
    have a3 : f z (z + 14) = f z (z + 1) := by rw [hf, hf, ez]
    omega
  rcases hk with rfl | ⟨rfl, hx⟩ | ⟨rfl, hx⟩ | rfl | rfl | ⟨-, ⟨rfl, hx⟩ | ⟨rfl, hx⟩ | ⟨rfl, hx⟩ | ⟨rfl, hx⟩⟩
  · rfl
  · have a1 := gP_h f hx
    have a2 := g_f0 hAB hf e
    omega
  · have a1 := gP_h f hx
    have a2 := g_f0 hAB hf e.symm
    omega
  · have a1 := g_v hb hAB hf _ u rfl (by omega)
    have a2 := g_f0 hAB hf e
    omega
  · have a1 := g_v hb hAB hf _ w rfl (by omega)
    have a2 := g_f0 hAB hf e.symm
    omega
  · exact d1 u (by omega) hx e
  · exact (d1 w (by omega) hx e.symm).symm
  · exact d2 u (by omega) hx e
  · exact (d2 w (by omega) hx e.symm).symm
theorem g_root (hb : Pic b) (hAB : A ≠ B) (hf : ∀ u w, f u w = fv A B (rt b u) (rt b w)) (n1 : ¬ (A ≠ 0 ∧ par b A = B)) (n2 : ¬ (B ≠ 0 ∧ par b B = A)) : ∀ n c, c ≤ n → c < 196 → rt b c = c → gP f c % 2 = 0 := by
  intro n
  induction n with
  | zero =>
    intro c h _ _
    obtain rfl : c = 0 := by omega
    rfl
  | succ n ih =>
    intro c hn hc hr
    by_cases h0 : c = 0
    · subst h0; rfl
    obtain ⟨hx, -, -, -⟩ := root_in hb hc hr h0
    obtain ⟨c, rfl⟩ : ∃ y, c = y + 1 := ⟨c - 1, by omega⟩
    have hl := rt_le b c
    have i := ih (rt b c) (by omega) (by omega) (rt_rt b c)
    have i2 : gP f (rt b c) % 2 = gP f c % 2 := rt_ind (fun z => gP f z % 2) (fun u w h => g_lk hb hAB hf h) c
    have a1 := gP_h f (p := c) (by omega)
    have a2 : f c (c + 1) = 0 := by
      rw [hf, hr]
      unfold fv
      rw [if_neg]
      rintro (⟨k1, k2⟩ | ⟨k1, k2⟩)
      · exact n2 ⟨by omega, by rw [← k2]; exact k1⟩
      · exact n1 ⟨by omega, by rw [← k2]; exact k1⟩
    omega
end Tree
/-- 4-neighbours of different colour: the component of one hangs in that of the other -/
theorem tree {b : Nat → Nat} (hb : Pic b) {p q : Nat} (hp : p < 196) (hq : q < 196) (ha : (q = p + 1 ∧ p % 14 ≤ 12) ∨ q = p + 14) (hne : b p ≠ b q) : (rt b p ≠ 0 ∧ par b (rt b p) = rt b q) ∨ (rt b q ≠ 0 ∧ par b (rt b q) = rt b p) := by
  have hAB : rt b p ≠ rt b q := fun e => hne (by rw [← rt_col b p, ← rt_col b q, e])
  have main : ¬ (¬ (rt b p ≠ 0 ∧ par b (rt b p) = rt b q) ∧ ¬ (rt b q ≠ 0 ∧ par b (rt b q) = rt b p)) := by
    rintro ⟨n1, n2⟩
    have hf : ∀ u w, (fun u w => fv (rt b p) (rt b q) (rt b u) (rt b w)) u w = fv (rt b p) (rt b q) (rt b u) (rt b w) := fun _ _ => rfl
    generalize hfe : (fun u w => fv (rt b p) (rt b q) (rt b u) (rt b w)) = f at hf
    have l1 := rt_le b p
    have l2 := rt_le b q
    have g1 := g_root hb hAB hf n1 n2 _ (rt b p) (Nat.le_refl _) (by omega) (rt_rt b p)
    have g2 := g_root hb hAB hf n1 n2 _ (rt b q) (Nat.le_refl _) (by omega) (rt_rt b q)
    have g3 : gP f (rt b p) % 2 = gP f p % 2 := rt_ind (fun z => gP f z % 2) (fun u w h => g_lk hb hAB hf h) p
    have g4 : gP f (rt b q) % 2 = gP f q % 2 := rt_ind (fun z => gP f z % 2) (fun u w h => g_lk hb hAB hf h) q
    have e : f p q = 1 := by rw [hf]; exact fv_one _ _
    rcases ha with ⟨rfl, hx⟩ | rfl
    · have a1 := gP_h f hx
      omega
    · have a1 := g_v hb hAB hf _ p rfl (by omega)
      omega
  by_cases h1 : rt b p ≠ 0 ∧ par b (rt b p) = rt b q
  · exact Or.inl h1
  · by_cases h2 : rt b q ≠ 0 ∧ par b (rt b q) = rt b p
    · exact Or.inr h2
    · exact absurd ⟨h1, h2⟩ main
/-- the left neighbour of a root is of the other colour -/
theorem root_left {b : Nat → Nat} (hb : Pic b) {c : Nat} (hc : c < 196) (hr : rt b c = c) (h0 : c ≠ 0) : b (c - 1) ≠ b c := by
  intro e
  obtain ⟨hx, -, -, -⟩ := root_in hb hc hr h0
  obtain ⟨c, rfl⟩ : ∃ y, c = y + 1 := ⟨c - 1, by omega⟩
  have h1 := rt_lk (lk_h (b := b) (p := c) (by omega) (by omega) e)
  have h2 := rt_le b c
  omega
/-- what a component hangs in begins in an earlier row -/
theorem par_row {b : Nat → Nat} (hb : Pic b) {c : Nat} (hc : c < 196) (hr : rt b c = c) (h0 : c ≠ 0) : par b c + 14 ≤ c := by
  have h1 := root_left hb hc hr h0
  obtain ⟨hx, hx2, hy, hy2⟩ := root_in hb hc hr h0
  obtain ⟨u, rfl⟩ : ∃ y, c = y + 15 := ⟨c - 15, by omega⟩
  have hm : par b (u + 15) = rt b (u + 14) := rfl
  rw [show u + 15 - 1 = u + 14 by omega] at h1
  have b0 := hb.2 u
  have b1 := hb.2 (u + 1)
  have b14 := hb.2 (u + 14)
  have b15 := hb.2 (u + 15)
  have l1 := rt_le b (u + 1)
  have l0 := rt_le b u
  have n1 : b (u + 1) ≠ b (u + 15) := by
    intro e
    have := rt_lk (lk_v (b := b) (p := u + 1) (by omega) e)
    rw [show u + 1 + 14 = u + 15 by omega] at this
    omega
  by_cases hk : b (u + 15) = 0
  · have := rt_lk (lk_d2 (b := b) (p := u + 1) (by omega) (by omega) (by omega) (by rw [show u + 1 + 13 = u + 14 by omega]; omega))
    rw [show u + 1 + 13 = u + 14 by omega] at this
    omega
  · have n0 : b u ≠ b (u + 15) := by
      intro e
      have := rt_lk (lk_d1 (b := b) (p := u) (by omega) (by omega) (by omega) e)
      omega
    have r1 := rt_lk (lk_h (b := b) (p := u) (by omega) (by omega) (by omega))
    have r2 := rt_lk (lk_v (b := b) (p := u) (by omega) (by omega))
    omega
