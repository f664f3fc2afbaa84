/-! Plain laws: class and reference choose the same table -/
set_option maxRecDepth 100000
/-- the tables as both see them, while a day runs: x the class's numbers, y the reference's -/
def RTb (x y : Sg) (T : Nat) : Prop := ∀ t, t < T → x 5 t = y 24 t ∧ x 6 t = y 25 t ∧ x 9 t = y 30 t ∧ (x 9 t = -9 ∨ 0 ≤ x 9 t) ∧ (y 31 t = 0 ↔ (x 10 0 = 0 ∨ ¬ x 5 t = 0))
/-- the guests as both see them -/
def RGs (g : GS) (y : Sg) : Prop := ∀ i, i < g.1 → g.2.2.2.2.2 1 i = y 18 i ∧ g.2.2.2.2.2 2 i = y 19 i ∧ g.2.2.2.2.2 3 i = y 20 i ∧ g.2.2.2.2.2 4 i = y 21 i ∧ g.2.2.2.2.2 5 i = y 22 i ∧ y 17 i = nI (g.2.2.2.2.1 i)
theorem r_free {x y : Sg} {T t : Nat} (h : RTb x y T) (ht : t < T) : xFree x t = mFree y t := by
  obtain ⟨-, -, h3, h4, h5⟩ := h t ht
  unfold xFree mFree
  rw [← h3]
  have e1 : (!decide (0 ≤ x 9 t)) = decide (x 9 t = -9) := by
    rcases h4 with h4 | h4
    · rw [h4]; decide
    · have : ¬ x 9 t = -9 := by
        intro e
        rw [e] at h4
        exact absurd h4 (by decide)
      simp [h4, this]
  have e2 : (decide (x 10 0 = 0) || !decide (x 5 t = 0)) = decide (y 31 t = 0) := by
    by_cases a : x 10 0 = 0 <;> by_cases b : x 5 t = 0 <;> simp [a, b] at h5 ⊢ <;> exact h5
  rw [e1, e2]
theorem r_fit {x y : Sg} {g : GS} {T t i : Nat} (h : RTb x y T) (hg : RGs g y) (ht : t < T) (hi : i < g.1) : xFit x g i t = mFit y i t := by
  unfold xFit mFit
  rw [r_free h ht, (h t ht).2.1, (hg i hi).1]
theorem r_fitW {x y : Sg} {g : GS} {T t i : Nat} {w : Bool} (h : RTb x y T) (hg : RGs g y) (ht : t < T) (hi : i < g.1) : xFitW x g i w t = mFitW y i w t := by
  unfold xFitW mFitW
  rw [r_fit h hg ht hi, (h t ht).1, (hg i hi).2.2.2.1]
theorem r_sm {x y : Sg} {g : GS} {T i : Nat} {w : Bool} (h : RTb x y T) (hg : RGs g y) (hi : i < g.1) : xSm x g i w T = mSm y i w T :=
  smo_congr (fun t ht => r_fitW h hg ht hi) (fun t ht => (h t ht).2.1)
theorem r_fst {x y : Sg} {g : GS} {T i : Nat} (h : RTb x y T) (hg : RGs g y) (hi : i < g.1) : xFst x g i T = mFst y i T :=
  ffo_congr (fun t _ ht => r_fit h hg (by omega) hi)
theorem r_pair {x y : Sg} {g : GS} {T t i : Nat} (h : RTb x y T) (hg : RGs g y) (ht : t + 1 < T) (hi : i < g.1) : xPair x g i t = mPair y i t := by
  unfold xPair mPair
  rw [r_free h (by omega), r_free h ht, (h t (by omega)).2.1, (h (t + 1) ht).2.1, (hg i hi).1]
