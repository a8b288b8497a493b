/-! ===== the plane law, 1: places, links, components, the tree ===== -/
/-- a counted loop, forward -/
def fwd {σ : Type} (f : Nat → σ → σ) : Nat → Nat → σ → σ
  | 0, _, s => s
  | n + 1, k, s => fwd f n (k + 1) (f k s)
/-- the place in direction d, 196 if there is none -/
def nr (p d : Nat) : Nat := if 1 ≤ p % 14 + d % 3 ∧ p % 14 + d % 3 ≤ 14 ∧ 1 ≤ p / 14 + d / 3 ∧ p / 14 + d / 3 ≤ 14 then 14 * (p / 14 + d / 3 - 1) + (p % 14 + d % 3 - 1) else 196
abbrev stp (b : Nat → Nat) (p q d : Nat) : Prop := b p = b q ∧ (b p ≠ 0 ∨ d % 2 = 1)
def Lk (b : Nat → Nat) (p q : Nat) : Prop := p < 196 ∧ q < 196 ∧ ∃ d, d < 9 ∧ nr p d = q ∧ stp b p q d
def onRing (p : Nat) : Prop := p % 14 = 0 ∨ p % 14 = 13 ∨ p / 14 = 0 ∨ p / 14 = 13
def Pic (b : Nat → Nat) : Prop := (∀ p, p < 196 → onRing p → b p = 0) ∧ ∀ p, b p < 2
def Conn (b : Nat → Nat) (p q : Nat) : Prop := ∀ F : Nat → Prop, (∀ u w, Lk b u w → (F u ↔ F w)) → (F p ↔ F q)
theorem Conn.refl (b : Nat → Nat) (p : Nat) : Conn b p p := fun _ _ => Iff.rfl
theorem Conn.symm {b : Nat → Nat} {p q : Nat} (h : Conn b p q) : Conn b q p := fun F hF => (h F hF).symm
theorem Conn.trans {b : Nat → Nat} {p q r : Nat} (h : Conn b p q) (h2 : Conn b q r) : Conn b p r := fun F hF => (h F hF).trans (h2 F hF)
theorem Conn.of {b : Nat → Nat} {p q : Nat} (h : Lk b p q) : Conn b p q := fun _ hF => hF p q h
noncomputable def rt (b : Nat → Nat) (p : Nat) : Nat := Classical.choose (pk_least (fun q => Conn b p q) ⟨p, Conn.refl b p⟩)
theorem rt_conn (b : Nat → Nat) (p : Nat) : Conn b p (rt b p) := (Classical.choose_spec (pk_least (fun q => Conn b p q) ⟨p, Conn.refl b p⟩)).1
theorem rt_min {b : Nat → Nat} {p q : Nat} (h : Conn b p q) : rt b p ≤ q := by
  rcases Nat.lt_or_ge q (rt b p) with h1 | h1
  · exact absurd h ((Classical.choose_spec (pk_least (fun q => Conn b p q) ⟨p, Conn.refl b p⟩)).2 q h1)
  · exact h1
theorem rt_le (b : Nat → Nat) (p : Nat) : rt b p ≤ p := rt_min (Conn.refl b p)
theorem rt_eq {b : Nat → Nat} {p q : Nat} (h : Conn b p q) : rt b p = rt b q := by
  have h1 := rt_min (h.trans (rt_conn b q))
  have h2 := rt_min (h.symm.trans (rt_conn b p))
  omega
theorem rt_lk {b : Nat → Nat} {p q : Nat} (h : Lk b p q) : rt b p = rt b q := rt_eq (Conn.of h)
theorem rt_rt (b : Nat → Nat) (p : Nat) : rt b (rt b p) = rt b p := (rt_eq (rt_conn b p)).symm
/-- what is the same along links is the same at the root -/
theorem rt_ind {α : Type} {b : Nat → Nat} (F : Nat → α) (hF : ∀ u w, Lk b u w → F u = F w) (p : Nat) : F (rt b p) = F p :=
  (rt_conn b p (fun q => F q = F p) (fun u w h => by rw [hF u w h])).mp rfl
theorem nr_val {p d : Nat} (h : nr p d < 196) : nr p d + 15 = p + 14 * (d / 3) + d % 3 ∧ 1 ≤ p % 14 + d % 3 ∧ p % 14 + d % 3 ≤ 14 ∧ 1 ≤ p / 14 + d / 3 ∧ p / 14 + d / 3 ≤ 14 := by
  unfold nr at h ⊢
  split at h
  · rename_i hi
    rw [if_pos hi]
    omega
  · omega
theorem nr_cases {p d : Nat} (hd : d < 9) (h : nr p d < 196) :
    (d = 0 ∧ nr p d + 15 = p ∧ 1 ≤ p % 14) ∨ (d = 1 ∧ nr p d + 14 = p) ∨ (d = 2 ∧ nr p d + 13 = p ∧ p % 14 ≤ 12) ∨ (d = 3 ∧ nr p d + 1 = p ∧ 1 ≤ p % 14) ∨ (d = 4 ∧ nr p d = p) ∨ (d = 5 ∧ nr p d = p + 1 ∧ p % 14 ≤ 12) ∨ (d = 6 ∧ nr p d = p + 13 ∧ 1 ≤ p % 14) ∨ (d = 7 ∧ nr p d = p + 14) ∨ (d = 8 ∧ nr p d = p + 15 ∧ p % 14 ≤ 12) := by
  have hc : d = 0 ∨ d = 1 ∨ d = 2 ∨ d = 3 ∨ d = 4 ∨ d = 5 ∨ d = 6 ∨ d = 7 ∨ d = 8 := by omega
  obtain ⟨h1, h2, h3, -, -⟩ := nr_val h
  generalize nr p d = q at h1
  rcases hc with rfl | rfl | rfl | rfl | rfl | rfl | rfl | rfl | rfl
  · exact Or.inl ⟨rfl, by omega, by omega⟩
  · exact Or.inr (Or.inl ⟨rfl, by omega⟩)
  · exact Or.inr (Or.inr (Or.inl ⟨rfl, by omega, by omega⟩))
  · exact Or.inr (Or.inr (Or.inr (Or.inl ⟨rfl, by omega, by omega⟩)))
  · exact Or.inr (Or.inr (Or.inr (Or.inr (Or.inl ⟨rfl, by omega⟩))))
  · exact Or.inr (Or.inr (Or.inr (Or.inr (Or.inr (Or.inl ⟨rfl, by omega, by omega⟩)))))
  · exact Or.inr (Or.inr (Or.inr (Or.inr (Or.inr (Or.inr (Or.inl ⟨rfl, by omega, by omega⟩))))))
  · exact Or.inr (Or.inr (Or.inr (Or.inr (Or.inr (Or.inr (Or.inr (Or.inl ⟨rfl, by omega⟩)))))))
  · exact Or.inr (Or.inr (Or.inr (Or.inr (Or.inr (Or.inr (Or.inr (Or.inr ⟨rfl, by omega, by omega⟩)))))))
theorem nr_5 {p : Nat} (hp : p < 196) (h : p % 14 ≤ 12) : nr p 5 = p + 1 := by unfold nr; rw [if_pos (by omega)]; omega
theorem nr_3 {p : Nat} (hp : p < 196) (h : 1 ≤ p % 14) : nr p 3 = p - 1 := by unfold nr; rw [if_pos (by omega)]; omega
theorem nr_7 {p : Nat} (hp : p < 182) : nr p 7 = p + 14 := by unfold nr; rw [if_pos (by omega)]; omega
theorem nr_1 {p : Nat} (hp : p < 196) (h : 14 ≤ p) : nr p 1 = p - 14 := by unfold nr; rw [if_pos (by omega)]; omega
theorem nr_8 {p : Nat} (hp : p < 182) (h : p % 14 ≤ 12) : nr p 8 = p + 15 := by unfold nr; rw [if_pos (by omega)]; omega
theorem nr_6 {p : Nat} (hp : p < 182) (h : 1 ≤ p % 14) : nr p 6 = p + 13 := by unfold nr; rw [if_pos (by omega)]; omega
theorem nr_sym {p d : Nat} (hp : p < 196) (hd : d < 9) (h : nr p d < 196) : nr (nr p d) (8 - d) = p := by
  have hc : d = 0 ∨ d = 1 ∨ d = 2 ∨ d = 3 ∨ d = 4 ∨ d = 5 ∨ d = 6 ∨ d = 7 ∨ d = 8 := by omega
  obtain ⟨h1, h2, h3, h4, h5⟩ := nr_val h
  generalize nr p d = q at h1 h
  unfold nr
  rcases hc with rfl | rfl | rfl | rfl | rfl | rfl | rfl | rfl | rfl <;> rw [if_pos (by omega)] <;> omega
theorem Lk.symm {b : Nat → Nat} {p q : Nat} (h : Lk b p q) : Lk b q p := by
  obtain ⟨hp, hq, d, hd, hn, hs⟩ := h
  subst hn
  refine ⟨hq, hp, 8 - d, by omega, nr_sym hp hd hq, hs.1.symm, ?_⟩
  rcases hs.2 with h | h
  · left; rw [← hs.1]; exact h
  · right; omega
/-- the kinds of link -/
theorem Lk.kinds {b : Nat → Nat} {p q : Nat} (h : Lk b p q) : p < 196 ∧ q < 196 ∧ b p = b q ∧ (q = p ∨ (q = p + 1 ∧ p % 14 ≤ 12) ∨ (p = q + 1 ∧ q % 14 ≤ 12) ∨ q = p + 14 ∨ p = q + 14 ∨ (b p ≠ 0 ∧ ((q = p + 15 ∧ p % 14 ≤ 12) ∨ (p = q + 15 ∧ q % 14 ≤ 12) ∨ (q = p + 13 ∧ 1 ≤ p % 14) ∨ (p = q + 13 ∧ 1 ≤ q % 14)))) := by
  obtain ⟨hp, hq, d, hd, hn, hs⟩ := h
  subst hn
  have hc := nr_cases hd hq
  refine ⟨hp, hq, hs.1, ?_⟩
  have h2 := hs.2
  generalize nr p d = q at hc hq
  rcases hc with ⟨rfl, h⟩ | ⟨rfl, h⟩ | ⟨rfl, h⟩ | ⟨rfl, h⟩ | ⟨rfl, h⟩ | ⟨rfl, h⟩ | ⟨rfl, h⟩ | ⟨rfl, h⟩ | ⟨rfl, h⟩
  · exact Or.inr (Or.inr (Or.inr (Or.inr (Or.inr ⟨by omega, Or.inr (Or.inl ⟨by omega, by omega⟩)⟩))))
  · exact Or.inr (Or.inr (Or.inr (Or.inr (Or.inl (by omega)))))
  · exact Or.inr (Or.inr (Or.inr (Or.inr (Or.inr ⟨by omega, Or.inr (Or.inr (Or.inr ⟨by omega, by omega⟩))⟩))))
  · exact Or.inr (Or.inr (Or.inl ⟨by omega, by omega⟩))
  · exact Or.inl h
  · exact Or.inr (Or.inl h)
  · exact Or.inr (Or.inr (Or.inr (Or.inr (Or.inr ⟨by omega, Or.inr (Or.inr (Or.inl h))⟩))))
  · exact Or.inr (Or.inr (Or.inr (Or.inl h)))
  · exact Or.inr (Or.inr (Or.inr (Or.inr (Or.inr ⟨by omega, Or.inl h⟩))))
theorem lk_h {b : Nat → Nat} {p : Nat} (hp : p < 196) (h : p % 14 ≤ 12) (hb : b p = b (p + 1)) : Lk b p (p + 1) := ⟨hp, by omega, 5, by omega, nr_5 hp h, hb, Or.inr rfl⟩
theorem lk_v {b : Nat → Nat} {p : Nat} (hp : p < 182) (hb : b p = b (p + 14)) : Lk b p (p + 14) := ⟨by omega, by omega, 7, by omega, nr_7 hp, hb, Or.inr rfl⟩
theorem lk_d1 {b : Nat → Nat} {p : Nat} (hp : p < 182) (h : p % 14 ≤ 12) (h0 : b p ≠ 0) (hb : b p = b (p + 15)) : Lk b p (p + 15) := ⟨by omega, by omega, 8, by omega, nr_8 hp h, hb, Or.inl h0⟩
theorem lk_d2 {b : Nat → Nat} {p : Nat} (hp : p < 182) (h : 1 ≤ p % 14) (h0 : b p ≠ 0) (hb : b p = b (p + 13)) : Lk b p (p + 13) := ⟨by omega, by omega, 6, by omega, nr_6 hp h, hb, Or.inl h0⟩
theorem rt_col (b : Nat → Nat) (p : Nat) : b (rt b p) = b p := rt_ind b (fun _ _ h => h.kinds.2.2.1) p
theorem rt_ring {b : Nat → Nat} (hb : Pic b) {p : Nat} (hp : p < 196) (h : onRing p) : rt b p = 0 := by
  have w := hb.1
  have top : ∀ x, x ≤ 13 → rt b x = 0 := by
    intro x
    induction x with
    | zero => intro _; have := rt_le b 0; omega
    | succ x ih =>
      intro hx
      rw [← rt_lk (lk_h (b := b) (p := x) (by omega) (by omega) (by rw [w x (by omega) (Or.inr (Or.inr (Or.inl (by omega)))), w (x + 1) (by omega) (Or.inr (Or.inr (Or.inl (by omega))))]))]
      exact ih (by omega)
  have left : ∀ y, y ≤ 13 → rt b (14 * y) = 0 := by
    intro y
    induction y with
    | zero => intro _; exact top 0 (by omega)
    | succ y ih =>
      intro hy
      have e : 14 * (y + 1) = 14 * y + 14 := by omega
      rw [e, ← rt_lk (lk_v (b := b) (p := 14 * y) (by omega) (by rw [w (14 * y) (by omega) (Or.inl (by omega)), w (14 * y + 14) (by omega) (Or.inl (by omega))]))]
      exact ih (by omega)
  have right : ∀ y, y ≤ 13 → rt b (14 * y + 13) = 0 := by
    intro y
    induction y with
    | zero => intro _; exact top 13 (by omega)
    | succ y ih =>
      intro hy
      have e : 14 * (y + 1) + 13 = 14 * y + 13 + 14 := by omega
      rw [e, ← rt_lk (lk_v (b := b) (p := 14 * y + 13) (by omega) (by rw [w (14 * y + 13) (by omega) (Or.inr (Or.inl (by omega))), w (14 * y + 13 + 14) (by omega) (Or.inr (Or.inl (by omega)))]))]
      exact ih (by omega)
  have bot : ∀ x, x ≤ 13 → rt b (182 + x) = 0 := by
    intro x
    induction x with
    | zero => intro _; exact left 13 (by omega)
    | succ x ih =>
      intro hx
      rw [← Nat.add_assoc, ← rt_lk (lk_h (b := b) (p := 182 + x) (by omega) (by omega) (by rw [w (182 + x) (by omega) (Or.inr (Or.inr (Or.inr (by omega)))), w (182 + x + 1) (by omega) (Or.inr (Or.inr (Or.inr (by omega))))]))]
      exact ih (by omega)
  rcases h with h | h | h | h
  · have := left (p / 14) (by omega)
    rwa [show 14 * (p / 14) = p by omega] at this
  · have := right (p / 14) (by omega)
    rwa [show 14 * (p / 14) + 13 = p by omega] at this
  · exact top p (by omega)
  · have := bot (p - 182) (by omega)
    rwa [show 182 + (p - 182) = p by omega] at this
/-- does a step between components a and b pass between A and B -/
def fv (A B a b : Nat) : Nat := if (a = A ∧ b = B) ∨ (a = B ∧ b = A) then 1 else 0
theorem fv_symm (A B a b : Nat) : fv A B a b = fv A B b a := by
  unfold fv
  by_cases h : (a = A ∧ b = B) ∨ (a = B ∧ b = A)
  · rw [if_pos h, if_pos (by omega)]
  · rw [if_neg h, if_neg (by omega)]
theorem fv_self {A B : Nat} (h : A ≠ B) (a : Nat) : fv A B a a = 0 := by
  unfold fv
  rw [if_neg (by omega)]
theorem fv_one (A B : Nat) : fv A B A B = 1 := by
  unfold fv
  rw [if_pos (Or.inl ⟨rfl, rfl⟩)]
theorem sq_even {A B ra rb rc rd c1 c2 c3 c4 : Nat} (hAB : A ≠ B) (h1 : c1 < 2) (h2 : c2 < 2) (h3 : c3 < 2) (h4 : c4 < 2) (e12 : c1 = c2 → ra = rb) (e13 : c1 = c3 → ra = rc) (e24 : c2 = c4 → rb = rd) (e34 : c3 = c4 → rc = rd) (e14 : c1 ≠ 0 → c1 = c4 → ra = rd) (e23 : c2 ≠ 0 → c2 = c3 → rb = rc) :
    (fv A B ra rb + fv A B rb rd + fv A B rc rd + fv A B ra rc) % 2 = 0 := by
  have za := fv_self hAB ra
  have zb := fv_self hAB rb
  have zc := fv_self hAB rc
  have zd := fv_self hAB rd
  have s1 := fv_symm A B ra rb
  have s2 := fv_symm A B rb rd
  have s3 := fv_symm A B rc rd
  have s4 := fv_symm A B ra rc
  by_cases k12 : c1 = c2
  · have r12 := e12 k12
    by_cases k34 : c3 = c4
    · have r34 := e34 k34
      subst r12; subst r34; omega
    · by_cases k13 : c1 = c3
      · have r13 := e13 k13
        subst r12; subst r13; omega
      · have r24 := e24 (by omega)
        subst r12; subst r24; omega
  · by_cases k13 : c1 = c3
    · have r13 := e13 k13
      by_cases k24 : c2 = c4
      · have r24 := e24 k24
        subst r13; subst r24; omega
      · have r34 := e34 (by omega)
        subst r13; subst r34; omega
    · by_cases k24 : c2 = c4
      · have r24 := e24 k24
        have r34 := e34 (by omega)
        subst r34; subst r24; omega
      · by_cases k1 : c1 = 0
        · have r23 := e23 (by omega) (by omega)
          subst r23; omega
        · have r14 := e14 k1 (by omega)
          subst r14; omega
/-- changes between A and B left of x in a row -/
def gR (f : Nat → Nat → Nat) (row : Nat) : Nat → Nat
  | 0 => 0
  | x + 1 => gR f row x + f (row + x) (row + x + 1)
def gP (f : Nat → Nat → Nat) (p : Nat) : Nat := gR f (14 * (p / 14)) (p % 14)
theorem gP_h (f : Nat → Nat → Nat) {p : Nat} (h : p % 14 ≤ 12) : gP f (p + 1) = gP f p + f p (p + 1) := by
  unfold gP
  rw [show (p + 1) / 14 = p / 14 by omega, show (p + 1) % 14 = p % 14 + 1 by omega]
  show gR f _ (p % 14) + f (14 * (p / 14) + p % 14) (14 * (p / 14) + p % 14 + 1) = _
  rw [show 14 * (p / 14) + p % 14 = p by omega]
