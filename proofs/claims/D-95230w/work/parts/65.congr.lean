/-! Plain laws: what the searches and sums answer is told by the first n places alone -/
set_option maxRecDepth 100000
theorem ffo_congr {p p' : Nat → Bool} : ∀ {n b : Nat}, (∀ i, b ≤ i → i < b + n → p i = p' i) → ffo p n b = ffo p' n b
  | 0, _, _ => rfl
  | n + 1, b, h => by
    have h1 := h b (by omega) (by omega)
    have h2 := ffo_congr (n := n) (b := b + 1) (fun i h3 h4 => h i (by omega) (by omega))
    unfold ffo
    rw [h1, h2]
theorem smo_congr {p p' : Nat → Bool} {q q' : Nat → Int32} : ∀ {n : Nat}, (∀ i, i < n → p i = p' i) → (∀ i, i < n → q i = q' i) → smo p q n = smo p' q' n
  | 0, _, _ => rfl
  | n + 1, h, hq => by
    have ih := smo_congr (n := n) (fun i hi => h i (by omega)) (fun i hi => hq i (by omega))
    have h1 := h n (by omega)
    have h2 := hq n (by omega)
    unfold smo
    rw [h1, ih, h2]
    cases hs : smo p' q' n with
    | none => rfl
    | some b =>
      have hb := smo_lt hs
      simp only [hq b (by omega)]
theorem cnt_congr {p p' : Nat → Bool} : ∀ {n : Nat}, (∀ i, i < n → p i = p' i) → cnt p n = cnt p' n
  | 0, _ => rfl
  | n + 1, h => by
    unfold cnt
    rw [cnt_congr (n := n) (fun i hi => h i (by omega)), h n (by omega)]
theorem sumI_congr {f f' : Nat → Int32} : ∀ {n : Nat}, (∀ i, i < n → f i = f' i) → sumI f n = sumI f' n
  | 0, _ => rfl
  | n + 1, h => by
    unfold sumI
    rw [sumI_congr (n := n) (fun i hi => h i (by omega)), h n (by omega)]
