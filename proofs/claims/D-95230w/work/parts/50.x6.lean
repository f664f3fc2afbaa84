set_option maxRecDepth 100000
set_option maxHeartbeats 4000000
def xPair (σ : Sg) (g : GS) (i t : Nat) : Bool := xFree σ t && xFree σ (t + 1) && !decide (σ 6 t + σ 6 (t + 1) < g.2.2.2.2.2 1 i)
def xJn (σ : Sg) (g : GS) (i n : Nat) : Option Nat := ffo (xPair σ g i) (n - 1) 0
/-- where a guest comes to sit -/
def xAt (σ : Sg) (g : GS) (i n : Nat) : Option Nat := match xBest σ g i n with
  | some b => some b
  | none => if σ 3 0 = 0 then none else xJn σ g i n
def xTk (σ : Sg) (g : GS) (i n : Nat) : Sg := match xBest σ g i n with
  | some b => up σ 9 b (nI i)
  | none => if σ 3 0 = 0 then σ else match xJn σ g i n with
    | none => σ
    | some t => up (up σ 9 t (nI i)) 9 (t + 1) (nI i)
def xDoes (σ : Sg) (g : GS) (i n : Nat) : Sg := match xAt σ g i n with
  | none => xTk σ g i n
  | some a => if 0 ≤ σ 12 i then xTk σ g i n else up (xTk σ g i n) 12 i (nI a)
theorem xTk_k {k : Nat} (h : k ≠ 9) (σ : Sg) (g : GS) (i n : Nat) : xTk σ g i n k = σ k := by
  unfold xTk
  cases xBest σ g i n with
  | some b => simp only [up_rk h]
  | none =>
    by_cases hj : σ 3 0 = 0
    · simp only [if_pos hj]
    · simp only [if_neg hj]
      cases xJn σ g i n with
      | none => rfl
      | some t => simp only [up_rk h]
theorem xDoes_k {k : Nat} (h : k ≠ 9) (h2 : k ≠ 12) (σ : Sg) (g : GS) (i n : Nat) : xDoes σ g i n k = σ k := by
  unfold xDoes
  cases xAt σ g i n with
  | none => exact xTk_k h σ g i n
  | some a =>
    by_cases hf : 0 ≤ σ 12 i
    · simp only [if_pos hf]; exact xTk_k h σ g i n
    · simp only [if_neg hf, up_rk h2]; exact xTk_k h σ g i n
theorem tm1_le (T : Nat) (hT : T ≤ 6) : nI T - 1 ≤ nI (T - 1) := by
  cases T with
  | zero => decide
  | succ T => rw [nI_m1]; exact Int32.le_refl _
theorem tm1_nle {T t : Nat} (hT : T ≤ 6) (ht : t < T - 1) : ¬ nI T - 1 ≤ nI t := by
  rw [nI_p (by omega)]
  exact nI_ge ht (by omega)
theorem xJn_lt {σ : Sg} {g : GS} {i n b : Nat} (h : xJn σ g i n = some b) : b + 1 < n := by
  have := ffo_lt h
  omega
theorem xAt_lt {σ : Sg} {g : GS} {i n b : Nat} (h : xAt σ g i n = some b) : b < n := by
  unfold xAt at h
  cases hb : xBest σ g i n with
  | some c => rw [hb] at h; cases h; exact xBest_lt hb
  | none =>
    rw [hb] at h
    by_cases hj : σ 3 0 = 0
    · simp [hj] at h
    · simp only [if_neg hj] at h
      have := xJn_lt h
      omega
theorem x_doesSit (l : Launch) (D : va_G) (ty : Nat → ClassId) (o : Nat) (ad : Nat → Nat) (em : Nat) (g : GS) (ex : va_W) (Cy : (Nat → Prop) → State → Prop) (hC : CxOk (CxX em Cy)) (hg : gOk g) (σ : Sg) (i : Nat) (hi : i < g.1) (T : Nat) (hT : T ≤ 6) (h0 : σ 0 0 = nI T) : xKi l yX0_doesSit cX0_doesSit 4 .boolean 6 D ty (CxX em Cy) o ad (gE ty o (ad 8) em g ex) σ [.ref (g.2.2.2.1 i)] (fun r τ => r = bI (xAt σ g i T).isSome ∧ τ = xDoes σ g i T) := by
  refine Ki.of (by decide) (Nat.le_of_ble_eq_true rfl) ?_
  intro p e s m below meth c A ls args E hK hA hX hlk hr I hl
  have hx := E.1
  have hb := E.2.1
  have hl : lv_has ls 4 [(0, .ref o), (1, .ref (g.2.2.2.1 i))] := hl
  refine nameQ (fun Q hQ => ?_)
  have hg8 := hg.1
  have T113 : ∀ (H : Heap) (locs : List Loc) (ls : Array Slot), gI s D A (gW ty o ad em g ex (xTk σ g i T)) H locs → lv_has ls 4 [(0, .ref o), (1, .ref (g.2.2.2.1 i)), (2, .int (oI (xAt σ g i T)))] → W p l e (rmL 6) s m args below meth c H locs 0 0 Q (F0 m 113 ls []) := by
    intro H locs ls I hl
    refine lv_iload_n hx hb dX0_doesSit_113 rfl (lv_at hl 2 rfl) ?_
    refine lv_if_lt (tgt := 139) hx hb dX0_doesSit_114 (by decide) (fun c114 => ?_) (fun c114 => ?_)
    · have hz := oI_lt (fun b h => by have := xAt_lt h; omega) c114
      refine lv_iload_n hx hb dX0_doesSit_139 rfl (lv_at hl 2 rfl) ?_
      refine lv_if_lt (tgt := 147) hx hb dX0_doesSit_140 (by decide) (fun c140 => ?_) (fun c140 => absurd c140 (not_not_intro c114))
      refine lv_iconst (v := 0) hx hb dX0_doesSit_147 (by decide) ?_
      subst hQ
      exact r_z (b := false) E hlk hr I (Nat.le_refl 0) (Nat.le_refl 0) dX0_doesSit_148 rfl (⟨by rw [hz]; rfl, by rw [xDoes, hz]⟩)
    · obtain ⟨a, ha⟩ := oI_ge c114
      have hal := xAt_lt ha
      refine lv_aload_n hx hb dX0_doesSit_117 rfl (lv_at hl 0 rfl) ?_
      refine x_get E hK I 12 rfl q151 rfl dX0_doesSit_118 ?_
      refine lv_aload_n hx hb dX0_doesSit_121 rfl (lv_at hl 1 rfl) ?_
      refine gf_get (i := i) E hK I hg hi 0 (by decide) q272 rfl dX0_doesSit_122 ?_
      refine x_ald (i := i) E hK I 4 rfl rfl rfl dX0_doesSit_125 (by simp only [xLn]; omega) ?_
      refine top_i (y := σ 12 i) (by rw [xTk_k (by decide)]) ?_
      refine lv_if_ge (tgt := 139) hx hb dX0_doesSit_126 (by decide) (fun c126 => ?_) (fun c126 => ?_)
      · refine lv_iload_n hx hb dX0_doesSit_139 rfl (lv_at hl 2 rfl) ?_
        refine lv_if_lt (tgt := 147) hx hb dX0_doesSit_140 (by decide) (fun c140 => absurd c140 (by rw [ha]; exact nI_pos (by omega))) (fun c140 => ?_)
        refine lv_iconst (v := 1) hx hb dX0_doesSit_143 (by decide) ?_
        refine lv_goto (tgt := 148) hx hb dX0_doesSit_144 (by decide) ?_
        subst hQ
        exact r_z (b := true) E hlk hr I (Nat.le_refl 0) (Nat.le_refl 0) dX0_doesSit_148 rfl (⟨by rw [ha]; rfl, by rw [xDoes, ha]; simp [c126]⟩)
      · refine lv_aload_n hx hb dX0_doesSit_129 rfl (lv_at hl 0 rfl) ?_
        refine x_get E hK I 12 rfl q151 rfl dX0_doesSit_130 ?_
        refine lv_aload_n hx hb dX0_doesSit_133 rfl (lv_at hl 1 rfl) ?_
        refine gf_get (i := i) E hK I hg hi 0 (by decide) q272 rfl dX0_doesSit_134 ?_
        refine lv_iload_n hx hb dX0_doesSit_137 rfl (lv_at hl 2 rfl) ?_
        refine top_i (y := nI a) (by rw [ha]; rfl) ?_
        refine x_ast (i := i) E hK I 4 rfl rfl rfl dX0_doesSit_138 (by simp only [xLn]; omega) (fun H locs I => ?_)
        refine lv_iload_n hx hb dX0_doesSit_139 rfl (lv_at hl 2 rfl) ?_
        refine lv_if_lt (tgt := 147) hx hb dX0_doesSit_140 (by decide) (fun c140 => absurd c140 (by rw [ha]; exact nI_pos (by omega))) (fun c140 => ?_)
        refine lv_iconst (v := 1) hx hb dX0_doesSit_143 (by decide) ?_
        refine lv_goto (tgt := 148) hx hb dX0_doesSit_144 (by decide) ?_
        subst hQ
        exact r_z (b := true) E hlk hr I (Nat.le_refl 0) (Nat.le_refl 0) dX0_doesSit_148 rfl (⟨by rw [ha]; rfl, by rw [xDoes, ha]; simp [c126]⟩)
  refine lv_aload_n hx hb dX0_doesSit_0 rfl (lv_at hl 0 rfl) ?_
  refine lv_aload_n hx hb dX0_doesSit_1 rfl (lv_at hl 1 rfl) ?_
  refine x_ci hC E hK hA hX I (x_tableFor l D ty o ad em g ex Cy hC hg σ i hi T hT h0) go_x_tableFor dc_x_tableFor ⟨Nat.le_of_ble_eq_true rfl, Nat.le_of_ble_eq_true rfl⟩ ⟨Nat.le_refl 0, Nat.le_refl 0⟩ hl.1 (Nat.le_of_ble_eq_true rfl) rfl dX0_doesSit_2 (fun r2 σ2 H locs hp I => ?_)
  refine top_i (y := oI (xBest σ g i T)) hp.1 ?_
  have I := x_as I hp.2
  refine lv_istore_n (lv' := [(2, .int (oI (xBest σ g i T))), (0, .ref o), (1, .ref (g.2.2.2.1 i))]) hx hb dX0_doesSit_5 rfl hl (by decide) rfl (fun ls hl => ?_)
  refine lv_iload_n hx hb dX0_doesSit_6 rfl (lv_at hl 0 rfl) ?_
  refine lv_if_lt (tgt := 20) hx hb dX0_doesSit_7 (by decide) (fun c7 => ?_) (fun c7 => ?_)
  · refine lv_iconst (v := 0) hx hb dX0_doesSit_20 (by decide) ?_
    refine lv_istore_n (lv' := [(3, .int 0), (2, .int (oI (xBest σ g i T))), (0, .ref o), (1, .ref (g.2.2.2.1 i))]) hx hb dX0_doesSit_21 rfl hl (by decide) rfl (fun ls hl => ?_)
    have hz := oI_lt (fun b h => by have := xBest_lt h; omega) c7
    have L22 : ∀ t, t ≤ T - 1 → (xJn σ g i T = ffo (xPair σ g i) (T - 1 - t) t) → ∀ (H : Heap) (locs : List Loc) (ls : Array Slot), gI s D A (gW ty o ad em g ex σ) H locs → lv_has ls 4 [(0, .ref o), (1, .ref (g.2.2.2.1 i)), (2, .int (oI (xBest σ g i T))), (3, .int (nI t))] → W p l e (rmL 6) s m args below meth c H locs 0 0 Q (F0 m 22 ls []) := by
      refine dn_ind (T - 1) ?_ ?_
      · intro hn H locs ls I hl
        refine lv_iload_n hx hb dX0_doesSit_22 rfl (lv_at hl 3 rfl) ?_
        refine lv_aload_n hx hb dX0_doesSit_23 rfl (lv_at hl 0 rfl) ?_
        refine x_get (v := .int (nI T)) E hK I 0 rfl q138 (congrArg Value.int (h0)) dX0_doesSit_24 ?_
        refine lv_iconst (v := 1) hx hb dX0_doesSit_27 (by decide) ?_
        refine lv_isub hx hb dX0_doesSit_28 ?_
        refine lv_icmp_ge (tgt := 113) hx hb dX0_doesSit_29 (by decide) (fun c29 => ?_) (fun c29 => absurd c29 (fun h => h (tm1_le T hT)))
        exact T113 _ _ ls (x_as I (by simp [xTk, hz, hn, Nat.sub_self, ffo])) (lv_as (lv_sub (l' := [(0, .ref o), (1, .ref (g.2.2.2.1 i)), (2, .int (oI (xBest σ g i T)))]) hl [0, 1, 2] rfl) (by simp [xAt, hz, hn, Nat.sub_self, ffo]))
      · intro t ht ih hn H locs ls I hl
        refine lv_iload_n hx hb dX0_doesSit_22 rfl (lv_at hl 3 rfl) ?_
        refine lv_aload_n hx hb dX0_doesSit_23 rfl (lv_at hl 0 rfl) ?_
        refine x_get (v := .int (nI T)) E hK I 0 rfl q138 (congrArg Value.int (h0)) dX0_doesSit_24 ?_
        refine lv_iconst (v := 1) hx hb dX0_doesSit_27 (by decide) ?_
        refine lv_isub hx hb dX0_doesSit_28 ?_
        refine lv_icmp_ge (tgt := 113) hx hb dX0_doesSit_29 (by decide) (fun c29 => absurd c29 (tm1_nle hT ht)) (fun c29 => ?_)
        refine lv_iload_n hx hb dX0_doesSit_32 rfl (lv_at hl 2 rfl) ?_
        refine lv_if_ge (tgt := 113) hx hb dX0_doesSit_33 (by decide) (fun c33 => absurd c33 (by rw [hz]; decide)) (fun c33 => ?_)
        refine lv_aload_n hx hb dX0_doesSit_36 rfl (lv_at hl 0 rfl) ?_
        refine x_get E hK I 3 rfl q141 rfl dX0_doesSit_37 ?_
        refine lv_if_eq (tgt := 113) hx hb dX0_doesSit_40 (by decide) (fun c40 => ?_) (fun c40 => ?_)
        · exact T113 _ _ ls (x_as I (by simp [xTk, hz, c40])) (lv_as (lv_sub (l' := [(0, .ref o), (1, .ref (g.2.2.2.1 i)), (2, .int (oI (xBest σ g i T)))]) hl [0, 1, 2] rfl) (by simp [xAt, hz, c40]))
        · refine lv_aload_n hx hb dX0_doesSit_43 rfl (lv_at hl 0 rfl) ?_
          refine lv_iload_n hx hb dX0_doesSit_44 rfl (lv_at hl 3 rfl) ?_
          refine x_ci hC E hK hA hX I (x_isFree l D ty o ad (gE ty o (ad 8) em g ex) (CxX em Cy) hC σ t (by omega)) go_x_isFree dc_x_isFree ⟨Nat.le_of_ble_eq_true rfl, Nat.le_of_ble_eq_true rfl⟩ ⟨Nat.le_refl 0, Nat.le_refl 0⟩ hl.1 (Nat.le_of_ble_eq_true rfl) rfl dX0_doesSit_45 (fun r45 σ45 H locs hp I => ?_)
          refine top_i (y := bI (xFree σ t)) hp.1 ?_
          have I := x_as I hp.2
          refine b_eq (tgt := 107) hx hb dX0_doesSit_48 (by decide) (fun c48 => ?_) (fun c48 => ?_)
          · refine lv_iinc (v := nI (t + 1)) (lv' := [(3, .int (nI (t + 1))), (0, .ref o), (1, .ref (g.2.2.2.1 i)), (2, .int (oI (xBest σ g i T)))]) hx hb dX0_doesSit_107 hl (k := 3) rfl (nI_1 _) (by decide) rfl (fun ls hl => ?_)
            refine lv_goto (tgt := 22) hx hb dX0_doesSit_110 (by decide) ?_
            exact ih (hn.trans (ffo_f ht (by simp [xPair, c48]))) _ _ ls I (lv_sub (l' := [(0, .ref o), (1, .ref (g.2.2.2.1 i)), (2, .int (oI (xBest σ g i T))), (3, .int (nI (t + 1)))]) hl [1, 2, 3, 0] rfl)
          · refine lv_aload_n hx hb dX0_doesSit_51 rfl (lv_at hl 0 rfl) ?_
            refine lv_iload_n hx hb dX0_doesSit_52 rfl (lv_at hl 3 rfl) ?_
            refine lv_iconst (v := 1) hx hb dX0_doesSit_53 (by decide) ?_
            refine lv_iadd hx hb dX0_doesSit_54 ?_
            refine top_i (y := nI (t + 1)) (nI_1 _) ?_
            refine x_ci hC E hK hA hX I (x_isFree l D ty o ad (gE ty o (ad 8) em g ex) (CxX em Cy) hC σ (t + 1) (by omega)) go_x_isFree dc_x_isFree ⟨Nat.le_of_ble_eq_true rfl, Nat.le_of_ble_eq_true rfl⟩ ⟨Nat.le_refl 0, Nat.le_refl 0⟩ hl.1 (Nat.le_of_ble_eq_true rfl) rfl dX0_doesSit_55 (fun r55 σ55 H locs hp I => ?_)
            refine top_i (y := bI (xFree σ (t + 1))) hp.1 ?_
            have I := x_as I hp.2
            refine b_eq (tgt := 107) hx hb dX0_doesSit_58 (by decide) (fun c58 => ?_) (fun c58 => ?_)
            · refine lv_iinc (v := nI (t + 1)) (lv' := [(3, .int (nI (t + 1))), (0, .ref o), (1, .ref (g.2.2.2.1 i)), (2, .int (oI (xBest σ g i T)))]) hx hb dX0_doesSit_107 hl (k := 3) rfl (nI_1 _) (by decide) rfl (fun ls hl => ?_)
              refine lv_goto (tgt := 22) hx hb dX0_doesSit_110 (by decide) ?_
              exact ih (hn.trans (ffo_f ht (by simp [xPair, c48, c58]))) _ _ ls I (lv_sub (l' := [(0, .ref o), (1, .ref (g.2.2.2.1 i)), (2, .int (oI (xBest σ g i T))), (3, .int (nI (t + 1)))]) hl [1, 2, 3, 0] rfl)
            · refine lv_aload_n hx hb dX0_doesSit_61 rfl (lv_at hl 0 rfl) ?_
              refine x_get E hK I 6 rfl q144 rfl dX0_doesSit_62 ?_
              refine lv_iload_n hx hb dX0_doesSit_65 rfl (lv_at hl 3 rfl) ?_
              refine x_ald (i := t) E hK I 1 rfl rfl rfl dX0_doesSit_66 (by simp only [xLn]; omega) ?_
              refine lv_aload_n hx hb dX0_doesSit_67 rfl (lv_at hl 0 rfl) ?_
              refine x_get E hK I 6 rfl q144 rfl dX0_doesSit_68 ?_
              refine lv_iload_n hx hb dX0_doesSit_71 rfl (lv_at hl 3 rfl) ?_
              refine lv_iconst (v := 1) hx hb dX0_doesSit_72 (by decide) ?_
              refine lv_iadd hx hb dX0_doesSit_73 ?_
              refine top_i (y := nI (t + 1)) (nI_1 _) ?_
              refine x_ald (i := (t + 1)) E hK I 1 rfl rfl rfl dX0_doesSit_74 (by simp only [xLn]; omega) ?_
              refine lv_iadd hx hb dX0_doesSit_75 ?_
              refine lv_aload_n hx hb dX0_doesSit_76 rfl (lv_at hl 1 rfl) ?_
              refine gf_get (i := i) E hK I hg hi 1 (by decide) q274 rfl dX0_doesSit_77 ?_
              refine lv_icmp_lt (tgt := 107) hx hb dX0_doesSit_80 (by decide) (fun c80 => ?_) (fun c80 => ?_)
              · refine lv_iinc (v := nI (t + 1)) (lv' := [(3, .int (nI (t + 1))), (0, .ref o), (1, .ref (g.2.2.2.1 i)), (2, .int (oI (xBest σ g i T)))]) hx hb dX0_doesSit_107 hl (k := 3) rfl (nI_1 _) (by decide) rfl (fun ls hl => ?_)
                refine lv_goto (tgt := 22) hx hb dX0_doesSit_110 (by decide) ?_
                exact ih (hn.trans (ffo_f ht (by simp [xPair, c48, c58, c80]))) _ _ ls I (lv_sub (l' := [(0, .ref o), (1, .ref (g.2.2.2.1 i)), (2, .int (oI (xBest σ g i T))), (3, .int (nI (t + 1)))]) hl [1, 2, 3, 0] rfl)
              · refine lv_iload_n hx hb dX0_doesSit_83 rfl (lv_at hl 3 rfl) ?_
                refine lv_istore_n (lv' := [(2, .int (nI t)), (0, .ref o), (1, .ref (g.2.2.2.1 i)), (3, .int (nI t))]) hx hb dX0_doesSit_84 rfl hl (by decide) rfl (fun ls hl => ?_)
                refine lv_aload_n hx hb dX0_doesSit_85 rfl (lv_at hl 1 rfl) ?_
                refine x_get E hK I 9 rfl q148 rfl dX0_doesSit_86 ?_
                refine lv_iload_n hx hb dX0_doesSit_89 rfl (lv_at hl 3 rfl) ?_
                refine lv_aload_n hx hb dX0_doesSit_90 rfl (lv_at hl 2 rfl) ?_
                refine gf_get (i := i) E hK I hg hi 0 (by decide) q272 rfl dX0_doesSit_91 ?_
                refine x_ast (i := t) E hK I 2 rfl rfl rfl dX0_doesSit_94 (by simp only [xLn]; omega) (fun H locs I => ?_)
                refine lv_aload_n hx hb dX0_doesSit_95 rfl (lv_at hl 1 rfl) ?_
                refine x_get E hK I 9 rfl q148 rfl dX0_doesSit_96 ?_
                refine lv_iload_n hx hb dX0_doesSit_99 rfl (lv_at hl 3 rfl) ?_
                refine lv_iconst (v := 1) hx hb dX0_doesSit_100 (by decide) ?_
                refine lv_iadd hx hb dX0_doesSit_101 ?_
                refine top_i (y := nI (t + 1)) (nI_1 _) ?_
                refine lv_aload_n hx hb dX0_doesSit_102 rfl (lv_at hl 2 rfl) ?_
                refine gf_get (i := i) E hK I hg hi 0 (by decide) q272 rfl dX0_doesSit_103 ?_
                refine x_ast (i := (t + 1)) E hK I 2 rfl rfl rfl dX0_doesSit_106 (by simp only [xLn]; omega) (fun H locs I => ?_)
                refine lv_iinc (v := nI (t + 1)) (lv' := [(3, .int (nI (t + 1))), (2, .int (nI t)), (0, .ref o), (1, .ref (g.2.2.2.1 i))]) hx hb dX0_doesSit_107 hl (k := 3) rfl (nI_1 _) (by decide) rfl (fun ls hl => ?_)
                refine lv_goto (tgt := 22) hx hb dX0_doesSit_110 (by decide) ?_
                have hj : xJn σ g i T = some t := by rw [hn]; exact ffo_t ht (by simp [xPair, c48, c58, c80])
                refine lv_iload_n hx hb dX0_doesSit_22 rfl (lv_at hl 0 rfl) ?_
                refine lv_aload_n hx hb dX0_doesSit_23 rfl (lv_at hl 2 rfl) ?_
                refine x_get (v := .int (nI T)) E hK I 0 rfl q138 (congrArg Value.int ((up_k (by decide) _ _ _ _).trans ((up_k (by decide) _ _ _ _).trans h0))) dX0_doesSit_24 ?_
                refine lv_iconst (v := 1) hx hb dX0_doesSit_27 (by decide) ?_
                refine lv_isub hx hb dX0_doesSit_28 ?_
                refine lv_icmp_ge (tgt := 113) hx hb dX0_doesSit_29 (by decide) (fun c29 => ?_) (fun c29 => ?_)
                · exact T113 _ _ ls (x_as I (by simp [xTk, hz, hj, c40])) (lv_as (lv_sub (l' := [(0, .ref o), (1, .ref (g.2.2.2.1 i)), (2, .int (nI t))]) hl [2, 3, 1] rfl) (by simp [xAt, hz, hj, oI, c40]))
                · refine lv_iload_n hx hb dX0_doesSit_32 rfl (lv_at hl 1 rfl) ?_
                  refine lv_if_ge (tgt := 113) hx hb dX0_doesSit_33 (by decide) (fun c33 => ?_) (fun c33 => absurd c33 (not_not_intro (nI_pos' (by omega))))
                  exact T113 _ _ ls (x_as I (by simp [xTk, hz, hj, c40])) (lv_as (lv_sub (l' := [(0, .ref o), (1, .ref (g.2.2.2.1 i)), (2, .int (nI t))]) hl [2, 3, 1] rfl) (by simp [xAt, hz, hj, oI, c40]))
    exact L22 0 (Nat.zero_le _) rfl _ _ ls I (lv_sub (l' := [(0, .ref o), (1, .ref (g.2.2.2.1 i)), (2, .int (oI (xBest σ g i T))), (3, .int 0)]) hl [2, 3, 1, 0] rfl)
  · obtain ⟨b, hb'⟩ := oI_ge c7
    have hbl := xBest_lt hb'
    refine lv_aload_n hx hb dX0_doesSit_10 rfl (lv_at hl 1 rfl) ?_
    refine x_get E hK I 9 rfl q148 rfl dX0_doesSit_11 ?_
    refine lv_iload_n hx hb dX0_doesSit_14 rfl (lv_at hl 0 rfl) ?_
    refine top_i (y := nI b) (by rw [hb']; rfl) ?_
    refine lv_aload_n hx hb dX0_doesSit_15 rfl (lv_at hl 2 rfl) ?_
    refine gf_get (i := i) E hK I hg hi 0 (by decide) q272 rfl dX0_doesSit_16 ?_
    refine x_ast (i := b) E hK I 2 rfl rfl rfl dX0_doesSit_19 (by simp only [xLn]; omega) (fun H locs I => ?_)
    refine lv_iconst (v := 0) hx hb dX0_doesSit_20 (by decide) ?_
    refine lv_istore_n (lv' := [(3, .int 0), (2, .int (oI (xBest σ g i T))), (0, .ref o), (1, .ref (g.2.2.2.1 i))]) hx hb dX0_doesSit_21 rfl hl (by decide) rfl (fun ls hl => ?_)
    refine lv_iload_n hx hb dX0_doesSit_22 rfl (lv_at hl 0 rfl) ?_
    refine lv_aload_n hx hb dX0_doesSit_23 rfl (lv_at hl 2 rfl) ?_
    refine x_get (v := .int (nI T)) E hK I 0 rfl q138 (congrArg Value.int ((up_k (by decide) _ _ _ _).trans h0)) dX0_doesSit_24 ?_
    refine lv_iconst (v := 1) hx hb dX0_doesSit_27 (by decide) ?_
    refine lv_isub hx hb dX0_doesSit_28 ?_
    refine lv_icmp_ge (tgt := 113) hx hb dX0_doesSit_29 (by decide) (fun c29 => ?_) (fun c29 => ?_)
    · exact T113 _ _ ls (x_as I (by simp [xTk, hb'])) (lv_as (lv_sub (l' := [(0, .ref o), (1, .ref (g.2.2.2.1 i)), (2, .int (oI (xBest σ g i T)))]) hl [2, 3, 1] rfl) (by simp [xAt, hb', oI]))
    · refine lv_iload_n hx hb dX0_doesSit_32 rfl (lv_at hl 1 rfl) ?_
      refine lv_if_ge (tgt := 113) hx hb dX0_doesSit_33 (by decide) (fun c33 => ?_) (fun c33 => absurd c33 (not_not_intro (by rw [hb']; exact nI_pos' (by omega))))
      exact T113 _ _ ls (x_as I (by simp [xTk, hb'])) (lv_as (lv_sub (l' := [(0, .ref o), (1, .ref (g.2.2.2.1 i)), (2, .int (oI (xBest σ g i T)))]) hl [2, 3, 1] rfl) (by simp [xAt, hb', oI]))
theorem dc_x_doesSit : yX0_doesSit.cls = RX0 ∧ yX0_doesSit.cls ≠ "java/lang/invoke/MethodHandle" ∧ yX0_doesSit.cls ≠ "java/lang/invoke/VarHandle" ∧ (parseMethodDescriptor yX0_doesSit.desc).map (fun d => d.parameters.length) = some 1 := by decide +kernel
theorem go_x_doesSit : GoodIn lw_all (wsV RX0 174 RX0 yX0_doesSit (ws_ yX0_doesSit cX0_doesSit 4 (some .boolean))) := lw_V q486 q488 qs10 q71 q489
def xSitS (σ : Sg) (g : GS) (i q n : Nat) : Sg := up (up (xDoes σ g i n) 11 i (-1)) 13 i (nI q)
def xSit (σ : Sg) (g : GS) (i q n : Nat) : Sg := if (xAt σ g i n).isSome then up (up (xSitS σ g i q n) 14 i (nI q + gSt g i (!decide (nI (cnt (xWt (xSitS σ g i q n)) g.1) ≤ 0)))) 11 i 3 else xDoes σ g i n
theorem x_sitsDown (l : Launch) (D : va_G) (ty : Nat → ClassId) (o : Nat) (ad : Nat → Nat) (em : Nat) (g : GS) (ex : va_W) (Cy : (Nat → Prop) → State → Prop) (hC : CxOk (CxX em Cy)) (hg : gOk g) (σ : Sg) (i : Nat) (q : Nat) (hi : i < g.1) (T : Nat) (hT : T ≤ 6) (h0 : σ 0 0 = nI T) : xKi l yX0_sitsDown cX0_sitsDown 4 .boolean 7 D ty (CxX em Cy) o ad (gE ty o (ad 8) em g ex) σ [.ref (g.2.2.2.1 i), .int (nI q)] (fun r τ => r = bI (xAt σ g i T).isSome ∧ τ = xSit σ g i q T) := by
  refine Ki.of (by decide) (Nat.le_of_ble_eq_true rfl) ?_
  intro p e s m below meth c A ls args E hK hA hX hlk hr I hl
  have hx := E.1
  have hb := E.2.1
  have hl : lv_has ls 4 [(0, .ref o), (1, .ref (g.2.2.2.1 i)), (2, .int (nI q))] := hl
  have hg8 := hg.1
  refine lv_aload_n hx hb dX0_sitsDown_0 rfl (lv_at hl 0 rfl) ?_
  refine lv_aload_n hx hb dX0_sitsDown_1 rfl (lv_at hl 1 rfl) ?_
  refine x_ci hC E hK hA hX I (x_doesSit l D ty o ad em g ex Cy hC hg σ i hi T hT h0) go_x_doesSit dc_x_doesSit ⟨Nat.le_of_ble_eq_true rfl, Nat.le_of_ble_eq_true rfl⟩ ⟨Nat.le_refl 0, Nat.le_refl 0⟩ hl.1 (Nat.le_of_ble_eq_true rfl) rfl dX0_sitsDown_2 (fun r2 σ2 H locs hp I => ?_)
  refine top_i (y := bI (xAt σ g i T).isSome) hp.1 ?_
  have I := x_as I hp.2
  refine b_ne (tgt := 10) hx hb dX0_sitsDown_5 (by decide) (fun c5 => ?_) (fun c5 => ?_)
  · refine lv_aload_n hx hb dX0_sitsDown_10 rfl (lv_at hl 1 rfl) ?_
    refine gf_get (i := i) E hK I hg hi 0 (by decide) q272 rfl dX0_sitsDown_11 ?_
    refine lv_istore_n (lv' := [(3, .int (nI i)), (0, .ref o), (1, .ref (g.2.2.2.1 i)), (2, .int (nI q))]) hx hb dX0_sitsDown_14 rfl hl (by decide) rfl (fun ls hl => ?_)
    refine lv_aload_n hx hb dX0_sitsDown_15 rfl (lv_at hl 1 rfl) ?_
    refine x_get E hK I 11 rfl q150 rfl dX0_sitsDown_16 ?_
    refine lv_iload_n hx hb dX0_sitsDown_19 rfl (lv_at hl 0 rfl) ?_
    refine lv_iconst (v := (-1)) hx hb dX0_sitsDown_20 (by decide) ?_
    refine x_ast (i := i) E hK I 3 rfl rfl rfl dX0_sitsDown_21 (by simp only [xLn]; omega) (fun H locs I => ?_)
    refine lv_aload_n hx hb dX0_sitsDown_22 rfl (lv_at hl 1 rfl) ?_
    refine x_get E hK I 13 rfl q152 rfl dX0_sitsDown_23 ?_
    refine lv_iload_n hx hb dX0_sitsDown_26 rfl (lv_at hl 0 rfl) ?_
    refine lv_iload_n hx hb dX0_sitsDown_27 rfl (lv_at hl 3 rfl) ?_
    refine x_ast (i := i) E hK I 5 rfl rfl rfl dX0_sitsDown_28 (by simp only [xLn]; omega) (fun H locs I => ?_)
    refine lv_aload_n hx hb dX0_sitsDown_29 rfl (lv_at hl 1 rfl) ?_
    refine x_get E hK I 14 rfl q153 rfl dX0_sitsDown_30 ?_
    refine lv_iload_n hx hb dX0_sitsDown_33 rfl (lv_at hl 0 rfl) ?_
    refine lv_iload_n hx hb dX0_sitsDown_34 rfl (lv_at hl 3 rfl) ?_
    refine lv_aload_n hx hb dX0_sitsDown_35 rfl (lv_at hl 2 rfl) ?_
    refine lv_aload_n hx hb dX0_sitsDown_36 rfl (lv_at hl 1 rfl) ?_
    obtain ⟨s1, hs1⟩ : ∃ z, z = up (up (xDoes σ g i T) 11 i (-1)) 13 i (nI q) := ⟨_, rfl⟩
    have I := x_as I hs1.symm
    refine x_ci hC E hK hA hX I (x_waitingNow l D ty o ad em g ex Cy hC hg s1) go_x_waitingNow dc_x_waitingNow ⟨Nat.le_of_ble_eq_true rfl, Nat.le_of_ble_eq_true rfl⟩ ⟨Nat.le_refl 0, Nat.le_refl 0⟩ hl.1 (Nat.le_of_ble_eq_true rfl) rfl dX0_sitsDown_37 (fun r37 σ37 H locs hp I => ?_)
    refine top_i (y := nI (cnt (xWt s1) g.1)) hp.1 ?_
    have I := x_as I hp.2
    refine lv_if_le (tgt := 47) hx hb dX0_sitsDown_40 (by decide) (fun c40 => ?_) (fun c40 => ?_)
    · refine lv_iconst (v := 0) hx hb dX0_sitsDown_47 (by decide) ?_
      refine g_stays (i := i) q518 hC hg E hK hA hX I hi false ⟨Nat.le_of_ble_eq_true rfl, Nat.le_of_ble_eq_true rfl⟩ ⟨Nat.le_refl 0, Nat.le_refl 0⟩ hl.1 (Nat.le_of_ble_eq_true rfl) dX0_sitsDown_48 (fun H locs I => ?_)
      refine lv_iadd hx hb dX0_sitsDown_51 ?_
      refine x_ast (i := i) E hK I 6 rfl rfl rfl dX0_sitsDown_52 (by simp only [xLn]; omega) (fun H locs I => ?_)
      refine lv_aload_n hx hb dX0_sitsDown_53 rfl (lv_at hl 1 rfl) ?_
      refine x_get E hK I 11 rfl q150 rfl dX0_sitsDown_54 ?_
      refine lv_iload_n hx hb dX0_sitsDown_57 rfl (lv_at hl 0 rfl) ?_
      refine lv_iconst (v := 3) hx hb dX0_sitsDown_58 (by decide) ?_
      refine x_ast (i := i) E hK I 3 rfl rfl rfl dX0_sitsDown_59 (by simp only [xLn]; omega) (fun H locs I => ?_)
      refine lv_iconst (v := 1) hx hb dX0_sitsDown_60 (by decide) ?_
      exact r_z (b := true) E hlk hr I (Nat.le_refl 0) (Nat.le_refl 0) dX0_sitsDown_61 rfl (⟨by rw [c5], by rw [xSit, c5]; simp only [if_true]; rw [xSitS, ← hs1]; simp [c40]⟩)
    · refine lv_iconst (v := 1) hx hb dX0_sitsDown_43 (by decide) ?_
      refine lv_goto (tgt := 48) hx hb dX0_sitsDown_44 (by decide) ?_
      refine g_stays (i := i) q518 hC hg E hK hA hX I hi true ⟨Nat.le_of_ble_eq_true rfl, Nat.le_of_ble_eq_true rfl⟩ ⟨Nat.le_refl 0, Nat.le_refl 0⟩ hl.1 (Nat.le_of_ble_eq_true rfl) dX0_sitsDown_48 (fun H locs I => ?_)
      refine lv_iadd hx hb dX0_sitsDown_51 ?_
      refine x_ast (i := i) E hK I 6 rfl rfl rfl dX0_sitsDown_52 (by simp only [xLn]; omega) (fun H locs I => ?_)
      refine lv_aload_n hx hb dX0_sitsDown_53 rfl (lv_at hl 1 rfl) ?_
      refine x_get E hK I 11 rfl q150 rfl dX0_sitsDown_54 ?_
      refine lv_iload_n hx hb dX0_sitsDown_57 rfl (lv_at hl 0 rfl) ?_
      refine lv_iconst (v := 3) hx hb dX0_sitsDown_58 (by decide) ?_
      refine x_ast (i := i) E hK I 3 rfl rfl rfl dX0_sitsDown_59 (by simp only [xLn]; omega) (fun H locs I => ?_)
      refine lv_iconst (v := 1) hx hb dX0_sitsDown_60 (by decide) ?_
      exact r_z (b := true) E hlk hr I (Nat.le_refl 0) (Nat.le_refl 0) dX0_sitsDown_61 rfl (⟨by rw [c5], by rw [xSit, c5]; simp only [if_true]; rw [xSitS, ← hs1]; simp [c40]⟩)
  · refine lv_iconst (v := 0) hx hb dX0_sitsDown_8 (by decide) ?_
    exact r_z (b := false) E hlk hr I (Nat.le_refl 0) (Nat.le_refl 0) dX0_sitsDown_9 rfl (⟨by rw [c5], by rw [xSit, c5]; rfl⟩)
theorem dc_x_sitsDown : yX0_sitsDown.cls = RX0 ∧ yX0_sitsDown.cls ≠ "java/lang/invoke/MethodHandle" ∧ yX0_sitsDown.cls ≠ "java/lang/invoke/VarHandle" ∧ (parseMethodDescriptor yX0_sitsDown.desc).map (fun d => d.parameters.length) = some 2 := by decide +kernel
theorem go_x_sitsDown : GoodIn lw_all (wsV RX0 195 RX0 yX0_sitsDown (ws_ yX0_sitsDown cX0_sitsDown 4 (some .boolean))) := lw_V q510 q512 qs16 q71 q513
