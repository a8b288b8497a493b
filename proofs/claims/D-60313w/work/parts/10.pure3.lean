/-! ===== the plane law, 3: levels, ancestors; loops and rounds ===== -/
noncomputable def lev (b : Nat → Nat) (c : Nat) : Nat := if h : c = 0 then 0 else lev b (par b c) + 1
termination_by c
decreasing_by exact par_lt b h
theorem lev_0 (b : Nat → Nat) : lev b 0 = 0 := by rw [lev]; rfl
theorem lev_s (b : Nat → Nat) {c : Nat} (h : c ≠ 0) : lev b c = lev b (par b c) + 1 := by rw [lev, dif_neg h]
/-- the first ancestor (or self) that is at most k -/
noncomputable def anc (b : Nat → Nat) (k c : Nat) : Nat := if h : c ≤ k then c else anc b k (par b c)
termination_by c
decreasing_by exact par_lt b (by omega)
theorem anc_le (b : Nat → Nat) {k c : Nat} (h : c ≤ k) : anc b k c = c := by rw [anc, dif_pos h]
theorem anc_gt (b : Nat → Nat) {k c : Nat} (h : k < c) : anc b k c = anc b k (par b c) := by rw [anc, dif_neg (by omega)]
theorem lev_row {b : Nat → Nat} (hb : Pic b) : ∀ n c, c ≤ n → c < 196 → rt b c = c → lev b c ≤ c / 14 := by
  intro n
  induction n with
  | zero =>
    intro c h _ _
    obtain rfl : c = 0 := by omega
    rw [lev_0]; omega
  | succ n ih =>
    intro c hn hc hr
    by_cases h0 : c = 0
    · subst h0; rw [lev_0]; omega
    · have h1 := par_row hb hc hr h0
      have h2 := ih (par b c) (by omega) (by omega) (par_rt b c)
      rw [lev_s b h0]
      omega
theorem lev_le13 {b : Nat → Nat} (hb : Pic b) {p : Nat} (hp : p < 196) : lev b (rt b p) ≤ 13 := by
  have h1 := rt_le b p
  have := lev_row hb _ (rt b p) (Nat.le_refl _) (by omega) (rt_rt b p)
  omega
/-- neighbours of different colour are one level apart, and which hangs in which -/
theorem tree_lev {b : Nat → Nat} (hb : Pic b) {p q : Nat} (hp : p < 196) (hq : q < 196) (ha : (q = p + 1 ∧ p % 14 ≤ 12) ∨ q = p + 14) (hne : b p ≠ b q) :
    (rt b p ≠ 0 ∧ par b (rt b p) = rt b q ∧ lev b (rt b p) = lev b (rt b q) + 1) ∨ (rt b q ≠ 0 ∧ par b (rt b q) = rt b p ∧ lev b (rt b q) = lev b (rt b p) + 1) := by
  rcases tree hb hp hq ha hne with ⟨h0, h1⟩ | ⟨h0, h1⟩
  · exact Or.inl ⟨h0, h1, by rw [lev_s b h0, h1]⟩
  · exact Or.inr ⟨h0, h1, by rw [lev_s b h0, h1]⟩
/-- 4-neighbours by direction -/
theorem beside {p d : Nat} (hp : p < 196) (hd : d < 9) (ho : d % 2 = 1) (h : nr p d < 196) : ((nr p d = p + 1 ∧ p % 14 ≤ 12) ∨ nr p d = p + 14) ∨ ((p = nr p d + 1 ∧ nr p d % 14 ≤ 12) ∨ p = nr p d + 14) := by
  have hc := nr_cases hd h
  generalize nr p d = q at hc h
  rcases hc with ⟨rfl, h⟩ | ⟨rfl, h⟩ | ⟨rfl, h⟩ | ⟨rfl, h⟩ | ⟨rfl, h⟩ | ⟨rfl, h⟩ | ⟨rfl, h⟩ | ⟨rfl, h⟩ | ⟨rfl, h⟩
  · omega
  · exact Or.inr (Or.inr h.symm)
  · omega
  · exact Or.inr (Or.inl ⟨h.1.symm, by omega⟩)
  · omega
  · exact Or.inl (Or.inl h)
  · omega
  · exact Or.inl (Or.inr h)
  · omega
theorem tree_d {b : Nat → Nat} (hb : Pic b) {p d : Nat} (hp : p < 196) (hd : d < 9) (ho : d % 2 = 1) (h : nr p d < 196) (hne : b p ≠ b (nr p d)) :
    (rt b p ≠ 0 ∧ par b (rt b p) = rt b (nr p d) ∧ lev b (rt b p) = lev b (rt b (nr p d)) + 1) ∨ (rt b (nr p d) ≠ 0 ∧ par b (rt b (nr p d)) = rt b p ∧ lev b (rt b (nr p d)) = lev b (rt b p) + 1) := by
  rcases beside hp hd ho h with k | k
  · exact tree_lev hb hp h k hne
  · exact (tree_lev hb h hp k (Ne.symm hne)).symm
/-- counting -/
noncomputable def ncnt (P : Nat → Prop) : Nat → Nat
  | 0 => 0
  | n + 1 => ncnt P n + @ite _ (P n) (Classical.propDecidable _) 1 0
theorem ncnt_s1 {P : Nat → Prop} {n : Nat} (h : P n) : ncnt P (n + 1) = ncnt P n + 1 := by
  show _ + @ite _ (P n) (Classical.propDecidable _) 1 0 = _
  rw [if_pos h]
theorem ncnt_s0 {P : Nat → Prop} {n : Nat} (h : ¬ P n) : ncnt P (n + 1) = ncnt P n := by
  show _ + @ite _ (P n) (Classical.propDecidable _) 1 0 = _
  rw [if_neg h]; rfl
theorem ncnt_le (P : Nat → Prop) (n : Nat) : ncnt P n ≤ n := by
  induction n with
  | zero => exact Nat.le_refl _
  | succ n ih =>
    by_cases h : P n
    · rw [ncnt_s1 h]; omega
    · rw [ncnt_s0 h]; omega
theorem ncnt_mono {P Q : Nat → Prop} {n : Nat} (h : ∀ p, p < n → P p → Q p) : ncnt P n ≤ ncnt Q n := by
  induction n with
  | zero => exact Nat.le_refl _
  | succ n ih =>
    have i := ih (fun p hp => h p (by omega))
    by_cases k : P n
    · rw [ncnt_s1 k, ncnt_s1 (h n (by omega) k)]; omega
    · rw [ncnt_s0 k]
      by_cases k2 : Q n
      · rw [ncnt_s1 k2]; omega
      · rw [ncnt_s0 k2]; exact i
theorem ncnt_lt {P Q : Nat → Prop} {n w : Nat} (h : ∀ p, p < n → P p → Q p) (hw : w < n) (h1 : Q w) (h2 : ¬ P w) : ncnt P n < ncnt Q n := by
  induction n with
  | zero => omega
  | succ n ih =>
    by_cases e : w = n
    · subst e
      rw [ncnt_s0 h2, ncnt_s1 h1]
      have := ncnt_mono (P := P) (Q := Q) (n := w) (fun p hp => h p (by omega))
      omega
    · have i := ih (fun p hp => h p (by omega)) (by omega)
      by_cases k : P n
      · rw [ncnt_s1 k, ncnt_s1 (h n (by omega) k)]; omega
      · rw [ncnt_s0 k]
        by_cases k2 : Q n
        · rw [ncnt_s1 k2]; omega
        · rw [ncnt_s0 k2]; exact i
theorem ncnt_none {P : Nat → Prop} {n : Nat} (h : ∀ p, p < n → ¬ P p) : ncnt P n = 0 := by
  induction n with
  | zero => rfl
  | succ n ih => rw [ncnt_s0 (h n (by omega))]; exact ih (fun p hp => h p (by omega))
theorem ncnt_zero {P : Nat → Prop} {n : Nat} (h : ncnt P n = 0) : ∀ p, p < n → ¬ P p := by
  induction n with
  | zero => intro p hp; omega
  | succ n ih =>
    intro p hp k
    by_cases e : P n
    · rw [ncnt_s1 e] at h; omega
    · rw [ncnt_s0 e] at h
      by_cases q : p = n
      · subst q; exact e k
      · exact ih h p (by omega) k
/-- rounds until nothing changes -/
def rounds {σ : Type} (f : σ → σ × Nat) : Nat → σ × Nat → σ × Nat
  | 0, t => t
  | n + 1, t => if t.2 = 0 then t else rounds f n (f t.1)
theorem rounds_ok {σ : Type} {f : σ → σ × Nat} (I : σ → Prop) (St : σ → Nat → Prop) (hI : ∀ s, I s → I (f s).1) (hS : ∀ s p, I s → p < 196 → St s p → St (f s).1 p)
    (hP : ∀ s, I s → (∃ p, p < 196 ∧ ¬ St s p) → (f s).2 ≠ 0 ∧ ∃ w, w < 196 ∧ ¬ St s w ∧ St (f s).1 w) :
    ∀ (n : Nat) (t : σ × Nat), I t.1 → (t.2 = 0 → ∀ p, p < 196 → St t.1 p) → ncnt (fun p => ¬ St t.1 p) 196 ≤ n → I (rounds f n t).1 ∧ ∀ p, p < 196 → St (rounds f n t).1 p := by
  intro n
  induction n with
  | zero =>
    intro t h1 h2 h3
    exact ⟨h1, fun p hp => Classical.not_not.mp (ncnt_zero (P := fun p => ¬ St t.1 p) (n := 196) (by omega) p hp)⟩
  | succ n ih =>
    intro t h1 h2 h3
    show I (if t.2 = 0 then t else rounds f n (f t.1)).1 ∧ _
    by_cases hz : t.2 = 0
    · have e : rounds f (n + 1) t = t := if_pos hz
      rw [if_pos hz, e]
      exact ⟨h1, h2 hz⟩
    · have e : rounds f (n + 1) t = rounds f n (f t.1) := if_neg hz
      rw [if_neg hz, e]
      by_cases hu : ∃ p, p < 196 ∧ ¬ St t.1 p
      · obtain ⟨k0, w, k1, k2, k3⟩ := hP t.1 h1 hu
        refine ih (f t.1) (hI _ h1) (fun q => absurd q k0) ?_
        have := ncnt_lt (P := fun p => ¬ St (f t.1).1 p) (Q := fun p => ¬ St t.1 p) (n := 196) (w := w) (fun p hp q r => q (hS _ p h1 hp r)) k1 k2 (fun q => q k3)
        omega
      · have all : ∀ p, p < 196 → St t.1 p := fun p hp => Classical.not_not.mp (fun q => hu ⟨p, hp, q⟩)
        refine ih (f t.1) (hI _ h1) (fun _ p hp => hS _ p h1 hp (all p hp)) ?_
        rw [ncnt_none (fun p hp q => q (hS _ p h1 hp (all p hp)))]
        omega
theorem fwd_inv {σ : Type} {f : Nat → σ → σ} (I : σ → Prop) : ∀ (n k : Nat) (s : σ), I s → (∀ j s, k ≤ j → j < k + n → I s → I (f j s)) → I (fwd f n k s) := by
  intro n
  induction n with
  | zero => intro k s h _; exact h
  | succ n ih =>
    intro k s h hs
    exact ih (k + 1) (f k s) (hs k s (by omega) (by omega) h) (fun j s h1 h2 h3 => hs j s (by omega) (by omega) h3)
theorem fwd_at {σ : Type} {f : Nat → σ → σ} (I J : σ → Prop) (w : Nat) : ∀ (n k : Nat) (s : σ), k ≤ w → w < k + n → I s → (∀ j s, k ≤ j → j < k + n → I s → I (f j s)) → (∀ s, I s → J (f w s)) → (∀ j s, k ≤ j → j < k + n → I s → J s → J (f j s)) → J (fwd f n k s) := by
  intro n
  induction n with
  | zero => intro k s h1 h2; omega
  | succ n ih =>
    intro k s h1 h2 h hI hJ hK
    show J (fwd f n (k + 1) (f k s))
    by_cases e : w = k
    · subst e
      exact (fwd_inv (fun s => I s ∧ J s) n (w + 1) (f w s) ⟨hI w s (by omega) (by omega) h, hJ s h⟩ (fun j s a b c => ⟨hI j s (by omega) (by omega) c.1, hK j s (by omega) (by omega) c.1 c.2⟩)).2
    · exact ih (k + 1) (f k s) (by omega) (by omega) (hI k s (by omega) (by omega) h) (fun j s a b c => hI j s (by omega) (by omega) c) hJ (fun j s a b c d => hK j s (by omega) (by omega) c d)
/-- one sweep over all places and directions -/
def sweep {σ : Type} (S : Nat → Nat → σ × Nat → σ × Nat) (nd : Nat) (s : σ) : σ × Nat := fwd (fun p t => fwd (S p) nd 0 t) 196 0 (s, 0)
theorem sweep_inv {σ : Type} {S : Nat → Nat → σ × Nat → σ × Nat} {nd : Nat} (K : σ × Nat → Prop) (hK : ∀ p d t, p < 196 → d < nd → K t → K (S p d t)) (s : σ) (h : K (s, 0)) : K (sweep S nd s) :=
  fwd_inv K 196 0 (s, 0) h (fun p t _ h2 ht => fwd_inv K nd 0 t ht (fun d t _ h3 ht => hK p d t (by omega) (by omega) ht))
theorem sweep_at {σ : Type} {S : Nat → Nat → σ × Nat → σ × Nat} {nd : Nat} (K J : σ × Nat → Prop) {p d : Nat} (hp : p < 196) (hd : d < nd) (hK : ∀ p d t, p < 196 → d < nd → K t → K (S p d t)) (hJ : ∀ t, K t → J (S p d t)) (hKJ : ∀ p d t, p < 196 → d < nd → K t → J t → J (S p d t)) (s : σ) (h : K (s, 0)) : J (sweep S nd s) := by
  refine fwd_at K J p 196 0 (s, 0) (by omega) (by omega) h (fun p t _ h2 ht => fwd_inv K nd 0 t ht (fun d t _ h3 ht => hK p d t (by omega) (by omega) ht)) ?_ ?_
  · intro t ht
    exact fwd_at K J d nd 0 t (by omega) (by omega) ht (fun d t _ h3 ht => hK p d t hp (by omega) ht) hJ (fun d t _ h3 h4 h5 => hKJ p d t hp (by omega) h4 h5)
  · intro p t _ h2 h3 h4
    exact (fwd_inv (fun t => K t ∧ J t) nd 0 t ⟨h3, h4⟩ (fun d t _ h5 h6 => ⟨hK p d t (by omega) (by omega) h6.1, hKJ p d t (by omega) (by omega) h6.1 h6.2⟩)).2
/-- sweeps settle -/
theorem sweeps {σ : Type} {S : Nat → Nat → σ × Nat → σ × Nat} {nd : Nat} (I : σ → Prop) (St : σ → Nat → Prop)
    (hI : ∀ p d t, p < 196 → d < nd → I t.1 → I (S p d t).1)
    (hSt : ∀ p d t w, p < 196 → d < nd → w < 196 → I t.1 → St t.1 w → St (S p d t).1 w)
    (hfl : ∀ p d t, S p d t = t ∨ (S p d t).2 ≠ 0)
    (hImp : ∀ s, I s → (∃ p, p < 196 ∧ ¬ St s p) → ∃ u w p d, u < 196 ∧ w < 196 ∧ p < 196 ∧ d < nd ∧ ¬ St s w ∧ St s u ∧ ∀ t : σ × Nat, I t.1 → St t.1 u → St (S p d t).1 w)
    (N : Nat) (hN : 196 ≤ N) (s : σ) (h : I s) : I (rounds (sweep S nd) N (s, 1)).1 ∧ ∀ p, p < 196 → St (rounds (sweep S nd) N (s, 1)).1 p := by
  refine rounds_ok I St ?_ ?_ ?_ N (s, 1) h (fun q => by cases q) (Nat.le_trans (ncnt_le _ _) hN)
  · intro s hs
    exact sweep_inv (fun t => I t.1) (fun p d t h1 h2 h3 => hI p d t h1 h2 h3) s hs
  · intro s w hs hw hw2
    exact (sweep_inv (fun t => I t.1 ∧ St t.1 w) (fun p d t h1 h2 h3 => ⟨hI p d t h1 h2 h3.1, hSt p d t w h1 h2 hw h3.1 h3.2⟩) s ⟨hs, hw2⟩).2
  · intro s hs hu
    obtain ⟨u, w, p, d, k1, k2, k3, k4, k5, k6, k7⟩ := hImp s hs hu
    have hw : St (sweep S nd s).1 w := sweep_at (fun t => I t.1 ∧ St t.1 u) (fun t => St t.1 w) k3 k4 (fun p d t h1 h2 h3 => ⟨hI p d t h1 h2 h3.1, hSt p d t u h1 h2 k1 h3.1 h3.2⟩) (fun t ht => k7 t ht.1 ht.2) (fun p d t h1 h2 h3 h4 => hSt p d t w h1 h2 k2 h3.1 h4) s ⟨hs, k6⟩
    refine ⟨fun hz => ?_, w, k2, k5, hw⟩
    have hsame : (sweep S nd s).2 = 0 → (sweep S nd s).1 = s := by
      refine sweep_inv (fun t => t.2 = 0 → t.1 = s) (fun p d t _ _ ht => ?_) s (fun _ => rfl)
      rcases hfl p d t with e | e
      · rw [e]; exact ht
      · exact fun q => absurd q e
    rw [hsame hz] at hw
    exact k5 hw
