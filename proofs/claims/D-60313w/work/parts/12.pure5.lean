/-! ===== the plane law, 5: what is reached from outside when a component is avoided ===== -/
def saS (av p i : Nat) (t : (Nat → Nat → Nat) × Nat) : (Nat → Nat → Nat) × Nat :=
  if nr p (2 * i + 1) < 196 ∧ t.1 5 p ≠ 0 ∧ t.1 5 (nr p (2 * i + 1)) = 0 ∧ t.1 3 (nr p (2 * i + 1)) ≠ av then (up t.1 5 (nr p (2 * i + 1)) 1, 1) else t
def faI (s : Nat → Nat → Nat) : Nat → Nat → Nat := fwd (fun p s => up s 5 p (if p = 0 then 1 else 0)) 196 0 s
def faN (av N : Nat) (s : Nat → Nat → Nat) : Nat → Nat → Nat := (rounds (sweep (saS av) 4) N (s, 1)).1
def faF (av : Nat) (s : Nat → Nat → Nat) : Nat → Nat → Nat := faN av 197 (faI s)
theorem faI_ok (s : Nat → Nat → Nat) : ∀ n k, k + n = 196 → ∀ s' : Nat → Nat → Nat, (∀ k', k' ≠ 5 → s' k' = s k') → (∀ p, p < k → s' 5 p = if p = 0 then 1 else 0) → (∀ k', k' ≠ 5 → fwd (fun p s => up s 5 p (if p = 0 then 1 else 0)) n k s' k' = s k') ∧ ∀ p, p < 196 → fwd (fun p s => up s 5 p (if p = 0 then 1 else 0)) n k s' 5 p = if p = 0 then 1 else 0 := by
  intro n
  induction n with
  | zero =>
    intro k hk s' h1 h2
    exact ⟨h1, fun p hp => h2 p (by omega)⟩
  | succ n ih =>
    intro k hk s' h1 h2
    refine ih (k + 1) (by omega) (up s' 5 k (if k = 0 then 1 else 0)) (fun k' hk' => by rw [up_row hk']; exact h1 k' hk') (fun p hp => ?_)
    by_cases e : p = k
    · subst e; exact up_eq _ _ _ _
    · rw [up_ne (Or.inr e)]; exact h2 p (by omega)
theorem anc_self (b : Nat → Nat) (k : Nat) : anc b k k = k := anc_le b (Nat.le_refl _)
/-- parent of what is not below av is not below av -/
theorem anc_par {b : Nat → Nat} {av c : Nat} (h0 : c ≠ 0) (h : anc b av c ≠ av) : anc b av (par b c) ≠ av := by
  have hl := par_lt b h0
  by_cases k : c ≤ av
  · rw [anc_le b k] at h
    rw [anc_le b (by omega)]
    omega
  · rw [anc_gt b (by omega)] at h
    exact h
theorem anc_child {b : Nat → Nat} {av c : Nat} (hc : c ≠ av) (h : anc b av (par b c) ≠ av) : anc b av c ≠ av := by
  by_cases k : c ≤ av
  · rw [anc_le b k]; exact hc
  · rw [anc_gt b (by omega)]; exact h
theorem sub_step {b : Nat → Nat} (hb : Pic b) {av p i : Nat} (hp : p < 196) (hi : i < 4) (h : nr p (2 * i + 1) < 196) (hg : anc b av (rt b p) ≠ av) (hr : rt b (nr p (2 * i + 1)) ≠ av) : anc b av (rt b (nr p (2 * i + 1))) ≠ av := by
  by_cases e : b p = b (nr p (2 * i + 1))
  · rw [← rt_lk ⟨hp, h, 2 * i + 1, by omega, rfl, e, Or.inr (by omega)⟩]
    exact hg
  · rcases tree_d hb hp (by omega) (by omega) h e with ⟨k0, k1, -⟩ | ⟨k0, k1, -⟩
    · rw [← k1]
      exact anc_par k0 hg
    · refine anc_child hr ?_
      rw [k1]
      exact hg
theorem diag_mid {u d : Nat} (hu : u < 196) (hd : d < 9) (ho : d % 2 = 0) (h : nr u d < 196) (hne : nr u d ≠ u) : ∃ q i j, q < 196 ∧ i < 4 ∧ j < 4 ∧ nr u (2 * i + 1) = q ∧ nr q (2 * j + 1) = nr u d := by
  have hc := nr_cases hd h
  obtain ⟨w, hw⟩ : ∃ w, w = nr u d := ⟨_, rfl⟩
  rw [← hw] at hc h hne ⊢
  rcases hc with ⟨rfl, k⟩ | ⟨rfl, k⟩ | ⟨rfl, k⟩ | ⟨rfl, k⟩ | ⟨rfl, k⟩ | ⟨rfl, k⟩ | ⟨rfl, k⟩ | ⟨rfl, k⟩ | ⟨rfl, k⟩
  · exact ⟨u - 1, 1, 0, by omega, by omega, by omega, nr_3 hu k.2, by rw [nr_1 (by omega) (by omega)]; omega⟩
  · omega
  · exact ⟨u + 1, 2, 0, by omega, by omega, by omega, nr_5 hu k.2, by rw [nr_1 (by omega) (by omega)]; omega⟩
  · omega
  · omega
  · omega
  · exact ⟨u - 1, 1, 3, by omega, by omega, by omega, nr_3 hu k.2, by rw [nr_7 (by omega)]; omega⟩
  · omega
  · exact ⟨u + 1, 2, 3, by omega, by omega, by omega, nr_5 hu k.2, by rw [nr_7 (by omega)]; omega⟩
theorem faF_core (s s0 : Nat → Nat → Nat) (av N : Nat) (hN : 196 ≤ N) (hb : Pic (s 2)) (hρ : ∀ p, p < 196 → s 3 p = rt (s 2) p) (ha : av < 196) (hbl : s 2 av ≠ 0) (i1 : ∀ k', k' ≠ 5 → s0 k' = s k') (i2 : ∀ p, p < 196 → s0 5 p = if p = 0 then 1 else 0) :
    (∀ k', k' ≠ 5 → faN av N s0 k' = s k') ∧ ∀ p, p < 196 → (faN av N s0 5 p ≠ 0 ↔ anc (s 2) av (rt (s 2) p) ≠ av) := by
  unfold faN
  have r0 : rt (s 2) 0 = 0 := by have := rt_le (s 2) 0; omega
  have a0 : av ≠ 0 := fun e => by rw [e, hb.1 0 (by omega) (Or.inl rfl)] at hbl; exact hbl rfl
  have key := sweeps (S := saS av) (nd := 4) (fun t => (∀ k', k' ≠ 5 → t k' = s k') ∧ t 5 0 ≠ 0 ∧ ∀ p, p < 196 → t 5 p ≠ 0 → anc (s 2) av (rt (s 2) p) ≠ av) (fun t p => anc (s 2) av (rt (s 2) p) ≠ av → t 5 p ≠ 0) ?_ ?_ ?_ ?_ N hN s0 ⟨i1, by rw [i2 0 (by decide)]; decide, fun p hp => by
    rw [i2 p hp]
    by_cases e : p = 0
    · intro _
      rw [e, r0, anc_le _ (by omega)]
      omega
    · rw [if_neg e]; intro h; exact absurd rfl h⟩
  · exact ⟨key.1.1, fun p hp => ⟨fun h => key.1.2.2 p hp h, fun h => key.2 p hp h⟩⟩
  · intro p i t hp hi ht
    unfold saS
    split
    · rename_i h
      obtain ⟨h1, h2, h3, h4⟩ := h
      rw [ht.1 3 (by decide), hρ _ h1] at h4
      refine ⟨fun k' hk' => by dsimp only; rw [up_row hk']; exact ht.1 k' hk', ?_, fun w hw => ?_⟩
      · dsimp only
        by_cases e : 0 = nr p (2 * i + 1)
        · rw [← e, up_eq]; exact Nat.succ_ne_zero 0
        · rw [up_ne (Or.inr e)]; exact ht.2.1
      · dsimp only
        by_cases e : w = nr p (2 * i + 1)
        · intro _
          rw [e]
          exact sub_step hb hp hi h1 (ht.2.2 p hp h2) h4
        · rw [up_ne (Or.inr e)]; exact ht.2.2 w hw
    · exact ht
  · intro p i t w hp hi hw ht hs
    unfold saS
    split
    · dsimp only
      intro hg
      by_cases e : w = nr p (2 * i + 1)
      · rw [e, up_eq]; exact Nat.succ_ne_zero 0
      · rw [up_ne (Or.inr e)]; exact hs hg
    · exact hs
  · intro p d t
    unfold saS
    split
    · exact Or.inr (Nat.succ_ne_zero 0)
    · exact Or.inl rfl
  · intro t ht hu
    have fin : ∀ u w i, u < 196 → w < 196 → i < 4 → nr u (2 * i + 1) = w → anc (s 2) av (rt (s 2) u) ≠ av → rt (s 2) w ≠ av → t 5 u ≠ 0 → t 5 w = 0 → ∃ u w p d, u < 196 ∧ w < 196 ∧ p < 196 ∧ d < 4 ∧ ¬ (anc (s 2) av (rt (s 2) w) ≠ av → t 5 w ≠ 0) ∧ (anc (s 2) av (rt (s 2) u) ≠ av → t 5 u ≠ 0) ∧ ∀ t' : (Nat → Nat → Nat) × Nat, ((∀ k', k' ≠ 5 → t'.1 k' = s k') ∧ t'.1 5 0 ≠ 0 ∧ ∀ p, p < 196 → t'.1 5 p ≠ 0 → anc (s 2) av (rt (s 2) p) ≠ av) → (anc (s 2) av (rt (s 2) u) ≠ av → t'.1 5 u ≠ 0) → (anc (s 2) av (rt (s 2) w) ≠ av → (saS av p d t').1 5 w ≠ 0) := by
      intro u w i hu hw hi hn hg hr k1 k2
      subst hn
      have hg2 := sub_step hb hu hi hw hg hr
      refine ⟨u, nr u (2 * i + 1), u, i, hu, hw, hu, hi, fun q => q hg2 k2, fun _ => k1, fun t' ht' hs' _ => ?_⟩
      unfold saS
      split
      · dsimp only; rw [up_eq]; exact Nat.succ_ne_zero 0
      · rename_i h
        intro hz
        exact h ⟨hw, hs' hg, hz, by rw [ht'.1 3 (by decide), hρ _ hw]; exact hr⟩
    obtain ⟨p, hp, hup⟩ := hu
    have main : ∀ n p, p ≤ n → p < 196 → anc (s 2) av (rt (s 2) p) ≠ av → t 5 p = 0 → ∃ u w p d, u < 196 ∧ w < 196 ∧ p < 196 ∧ d < 4 ∧ ¬ (anc (s 2) av (rt (s 2) w) ≠ av → t 5 w ≠ 0) ∧ (anc (s 2) av (rt (s 2) u) ≠ av → t 5 u ≠ 0) ∧ ∀ t' : (Nat → Nat → Nat) × Nat, ((∀ k', k' ≠ 5 → t'.1 k' = s k') ∧ t'.1 5 0 ≠ 0 ∧ ∀ p, p < 196 → t'.1 5 p ≠ 0 → anc (s 2) av (rt (s 2) p) ≠ av) → (anc (s 2) av (rt (s 2) u) ≠ av → t'.1 5 u ≠ 0) → (anc (s 2) av (rt (s 2) w) ≠ av → (saS av p d t').1 5 w ≠ 0) := by
      intro n
      induction n with
      | zero =>
        intro p hn hp hg hz
        obtain rfl : p = 0 := by omega
        exact absurd hz ht.2.1
      | succ n ih =>
        intro p hn hp hg hz
        have hl := rt_le (s 2) p
        by_cases hr : t 5 (rt (s 2) p) = 0
        · generalize hc : rt (s 2) p = c at hr hl hg
          have hcc : rt (s 2) c = c := by rw [← hc]; exact rt_rt _ _
          have h0 : c ≠ 0 := by
            intro e
            subst e
            exact ht.2.1 hr
          obtain ⟨hx, -, hy, hy2⟩ := root_in hb (by omega) hcc h0
          have hg2 : anc (s 2) av (rt (s 2) (c - 1)) ≠ av := anc_par h0 hg
          have hca : c ≠ av := fun e => hg (by rw [e]; exact anc_self _ _)
          by_cases hq : t 5 (c - 1) = 0
          · exact ih (c - 1) (by omega) (by omega) hg2 hq
          · exact fin (c - 1) c 2 (by omega) (by omega) (by omega) (by rw [nr_5 (by omega) (by omega)]; omega) hg2 (by rw [hcc]; exact hca) hq hr
        · have hex : ∃ u w, Lk (s 2) u w ∧ t 5 u ≠ 0 ∧ t 5 w = 0 := by
            apply Classical.not_not.mp
            intro hn
            refine ((rt_conn (s 2) p (fun u => t 5 u ≠ 0) (fun u w h => ⟨fun a => ?_, fun a => ?_⟩)).mpr hr) hz
            · exact fun b => hn ⟨u, w, h, a, b⟩
            · exact fun b => hn ⟨w, u, h.symm, a, b⟩
          obtain ⟨u, w, hlk, h1, h2⟩ := hex
          have hrt := rt_lk hlk
          obtain ⟨hu, hw, d, hd, hn, hs⟩ := hlk
          have hgu := ht.2.2 u hu h1
          have hru : rt (s 2) u ≠ av := fun e => hgu (by rw [e]; exact anc_self _ _)
          have hrw : rt (s 2) w ≠ av := by rw [← hrt]; exact hru
          subst hn
          by_cases ho : d % 2 = 1
          · exact fin u (nr u d) (d / 2) hu hw (by omega) (by rw [show 2 * (d / 2) + 1 = d by omega]) hgu hrw h1 h2
          · obtain ⟨q, i, j, hq, hi, hj, e1, e2⟩ := diag_mid hu hd (by omega) hw (fun e => by rw [e] at h2; exact h1 h2)
            have hrq : rt (s 2) q ≠ av := by
              by_cases hbq : s 2 q = 0
              · intro e
                have := rt_col (s 2) q
                rw [e, hbq] at this
                exact hbl this
              · have hbu : s 2 u ≠ 0 := by rcases hs.2 with k | k; exact k; exact absurd k ho
                have c1 := hb.2 q
                have c2 := hb.2 u
                rw [← rt_lk (b := s 2) (p := u) (q := q) ⟨hu, hq, 2 * i + 1, by omega, e1, by omega, Or.inr (by omega)⟩]
                exact hru
            by_cases hqz : t 5 q = 0
            · exact fin u q i hu hq hi e1 hgu hrq h1 hqz
            · exact fin q (nr u d) j hq hw hj e2 (ht.2.2 q hq hqz) hrw hqz h2
    have hg : anc (s 2) av (rt (s 2) p) ≠ av := fun e => hup (fun q => absurd e q)
    exact main p p (Nat.le_refl _) hp hg (Classical.not_not.mp (fun q => hup (fun _ => q)))
theorem faF_ok (s : Nat → Nat → Nat) (av : Nat) (hb : Pic (s 2)) (hρ : ∀ p, p < 196 → s 3 p = rt (s 2) p) (ha : av < 196) (hbl : s 2 av ≠ 0) : (∀ k', k' ≠ 5 → faF av s k' = s k') ∧ ∀ p, p < 196 → (faF av s 5 p ≠ 0 ↔ anc (s 2) av (rt (s 2) p) ≠ av) := by
  have ii := faI_ok s 196 0 rfl s (fun _ _ => rfl) (fun p hp => by omega)
  exact faF_core s (faI s) av 197 (by omega) hb hρ ha hbl ii.1 ii.2
