/-! Plain laws: class and reference take the same tables -/
set_option maxRecDepth 100000
theorem r_best {x y : Sg} {g : GS} {T i : Nat} (h : RTb x y T) (hg : RGs g y) (hr : x 1 0 = y 26 0) (hi : i < g.1) : xBest x g i T = mBest y i T := by
  unfold xBest mBest
  rw [r_fst h hg hi, r_sm h hg hi, r_sm h hg hi, hr]
  by_cases h0 : y 26 0 = 0
  · have h2 : ¬ y 26 0 = 2 := by rw [h0]; decide
    simp only [if_pos h0, if_neg h2]
  · simp only [if_neg h0]
    cases (if y 26 0 = 2 then mSm y i true T else none) <;> rfl
theorem r_jn {x y : Sg} {g : GS} {T i : Nat} (h : RTb x y T) (hg : RGs g y) (hi : i < g.1) : xJn x g i T = mJn y i T :=
  ffo_congr (fun t _ ht => r_pair h hg (by omega) hi)
theorem r_can {x y : Sg} {g : GS} {T i : Nat} (h : RTb x y T) (hg : RGs g y) (hr : x 1 0 = y 26 0) (hj : x 3 0 = y 10 0) (hi : i < g.1) : (xAt x g i T).isSome = mCan y i T := by
  unfold xAt mCan
  rw [r_best h hg hr hi, r_jn h hg hi, hj]
  cases mBest y i T with
  | some b => rfl
  | none =>
    by_cases h0 : y 10 0 = 0
    · simp [h0]
    · simp [h0]
/-- one table goes to guest i -/
theorem r_up {x y : Sg} {T a i : Nat} (hi : i < 1000) (h : RTb x y T) : RTb (up x 9 a (nI i)) (up y 30 a (nI i)) T := by
  intro t ht
  obtain ⟨h1, h2, h3, h4, h5⟩ := h t ht
  refine ⟨by rw [up_k (by decide), up_k (by decide)]; exact h1, by rw [up_k (by decide), up_k (by decide)]; exact h2, ?_, ?_, by rw [up_k (by decide), up_k (by decide), up_k (by decide)]; exact h5⟩
  · by_cases e : t = a
    · subst e; rw [up_s, up_s]
    · rw [up_i e, up_i e]; exact h3
  · by_cases e : t = a
    · subst e; rw [up_s]; exact Or.inr (Int32.not_lt.mp (nI_pos (by omega)))
    · rw [up_i e]; exact h4
theorem r_tk {x y : Sg} {g : GS} {T i : Nat} (h : RTb x y T) (hg : RGs g y) (hr : x 1 0 = y 26 0) (hj : x 3 0 = y 10 0) (hi : i < g.1) (h8 : g.1 ≤ 8) : RTb (xTk x g i T) (mTakes y i T) T := by
  unfold xTk mTakes mJoin
  rw [r_best h hg hr hi, r_jn h hg hi, hj]
  cases mBest y i T with
  | some b => exact r_up (by omega) h
  | none =>
    by_cases h0 : y 10 0 = 0
    · simp only [if_pos h0]; exact h
    · simp only [if_neg h0]
      cases mJn y i T with
      | none => exact h
      | some t => exact r_up (by omega) (r_up (by omega) h)
