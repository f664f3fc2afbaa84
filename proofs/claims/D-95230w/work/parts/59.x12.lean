set_option maxRecDepth 100000
set_option maxHeartbeats 4000000
def xPlR (σ : Sg) (v : Int32) : Int32 := if 0 ≤ v then σ 17 v.toNatClampNeg else σ 18 0
def xPlan (σ : Sg) (g : GS) (T : Nat) : Sg := xTp g T (min 6 g.1) 0 0 (up σ 18 0 (-1))
theorem wi_pl {v : Int32} {n : Nat} (hn : n ≤ 6) (h : wi v (-1) (nI n - 1) = true) (h2 : 0 ≤ v) : ∃ j : Nat, j < n ∧ v = nI j := by
  refine wi_idx (by omega) ?_
  simp only [wi, Bool.and_eq_true, Bool.not_eq_true', decide_eq_false_iff_not] at h ⊢
  exact ⟨Int32.not_lt.mpr h2, h.2⟩
def xcpm (s : Sg) (a b n : Nat) : Sg := fun x y => if y < n then (if x = 5 then 2 else if x = 6 then seatAt a b y else s x y) else s x y
theorem xcpm_0 (s : Sg) (a b : Nat) : s = xcpm s a b 0 := by funext x y; simp [xcpm]
theorem xcpm_s (s : Sg) (a b n : Nat) {v : Int32} (hv : v = seatAt a b n) : up (up (xcpm s a b n) 5 n 2) 6 n v = xcpm s a b (n + 1) := by
  subst hv
  funext x y
  by_cases hb : y = n
  · subst hb
    by_cases h1 : x = 5
    · simp [xcpm, up, h1]
    · by_cases h2 : x = 6
      · simp [xcpm, up, h2]
      · simp [xcpm, up, h1, h2]
  · simp [xcpm, up, hb, lt_s1 hb]
theorem xcpm_k {k : Nat} (h : k ≠ 5 ∧ k ≠ 6) (s : Sg) (a b n : Nat) : xcpm s a b n k = s k := by
  funext y; simp [xcpm, h.1, h.2]
def xMix (σ : Sg) (a b c : Nat) : Sg := xcpm (up σ 0 0 (nI (a + b + c))) a b (a + b + c)
theorem xMix_k {k : Nat} (h : k ≠ 5 ∧ k ≠ 6 ∧ k ≠ 0) (σ : Sg) (a b c : Nat) : xMix σ a b c k = σ k := by
  unfold xMix
  rw [xcpm_k ⟨h.1, h.2.1⟩, up_rk h.2.2]
theorem xMix_T (σ : Sg) (a b c : Nat) : xMix σ a b c 0 0 = nI (a + b + c) := by
  unfold xMix
  rw [xcpm_k (by decide), up_s]
def xMixD (s : Sg) (g : GS) (i : Nat) : Sg := xTo (xMix s (i / 49) (i / 7 % 7) (i % 7)) g (mixN i) 399 (-9)
def xMX (x : Int32) (g : GS) (i : Nat) (z : Sg × Int32 × Int32) : Sg × Int32 × Int32 := if 6 < nI (mixN i) then z else (if x < mixW i then z else (xMixD z.1 g i, iMax z.2.1 (xSum (xMixD z.1 g i) g g.1), (if xSum (xMixD z.1 g i) g g.1 ≤ z.2.1 then z.2.2 else nI i)))
def xMix0 (σ : Sg) : Sg := up (xCpy (xCpy σ 5 20) 6 21) 4 0 (-9)
def xMixA (σ : Sg) (x : Int32) (g : GS) : Sg × Int32 × Int32 := fo (xMX x g) 343 (xMix0 σ, -1, 0)
def xMixE (σ : Sg) (s : Sg) : Sg := xCpy (xCpy (up (up s 0 0 (σ 0 0)) 4 0 (σ 4 0)) 20 5) 21 6
theorem x_plan (l : Launch) (D : va_G) (ty : Nat → ClassId) (o : Nat) (ad : Nat → Nat) (em : Nat) (g : GS) (ex : va_W) (Cy : (Nat → Prop) → State → Prop) (hC : CxOk (CxX em Cy)) (hg : gOk g) (σ : Sg) (v : Int32) (T : Nat) (hT : T ≤ 6) (h0 : σ 0 0 = nI T) : xKi l yX0_plan cX0_plan 2 .int 15 D ty (CxX em Cy) o ad (gE ty o (ad 8) em g ex) σ [.int v] (fun r τ => r = (if wi v (-1) (nI (min 6 g.1) - 1) then (if σ 0 0 = 0 then (-3) else xPlR (xPlan σ g T) v) else (-1)) ∧ τ = if wi v (-1) (nI (min 6 g.1) - 1) = true ∧ ¬ σ 0 0 = 0 then xPlan σ g T else σ) := by
  refine Ki.of (by decide) (Nat.le_of_ble_eq_true rfl) ?_
  intro p e s m below meth c A ls args E hK hA hX hlk hr I hl
  have hx := E.1
  have hb := E.2.1
  have hl : lv_has ls 2 [(0, .ref o), (1, .int v)] := hl
  have hg8 := hg.1
  refine lv_iload_n hx hb dX0_plan_0 rfl (lv_at hl 1 rfl) ?_
  refine lv_i2l hx hb dX0_plan_1 rfl ?_
  refine lv_ldc2 (v := (-1)) hx hb E.2.2.2.1 (E.2.2.2.2 _ q573) dX0_plan_2 ?_
  refine top_l (y := (-1 : Int32).toInt64) (by decide) ?_
  refine lv_bipush (v := 6) hx hb dX0_plan_5 (by decide) ?_
  refine lv_aload_n hx hb dX0_plan_7 rfl (lv_at hl 0 rfl) ?_
  refine x_get E hK I 8 rfl q147 rfl dX0_plan_8 ?_
  refine g_size hC E hK hA hX I ⟨Nat.le_of_ble_eq_true rfl, Nat.le_of_ble_eq_true rfl⟩ ⟨Nat.le_refl 0, Nat.le_refl 0⟩ hl.1 (Nat.le_of_ble_eq_true rfl) dX0_plan_11 (fun H locs I => ?_)
  refine va_mmin hx hb (E.2.2.1.trans hl.1.symm) E.2.2.2.1 (E.2.2.2.2 _ q574) (E.2.2.2.2 _ q394) (E.2.2.2.2 _ q89) (E.2.2.2.2 _ q395) (Nat.le_of_ble_eq_true rfl) (Nat.le_of_ble_eq_true rfl) (Nat.le_refl 0) (Nat.le_refl 0) dX0_plan_16 ?_
  refine top_i (y := (iMin 6 (nI g.1))) rfl ?_
  refine top_i (y := nI (min 6 g.1)) (iMin6 hg8) ?_
  refine lv_iconst (v := 1) hx hb dX0_plan_19 (by decide) ?_
  refine lv_isub hx hb dX0_plan_20 ?_
  refine lv_i2l hx hb dX0_plan_21 rfl ?_
  refine c_Si E (x_in l v (-1) ((nI (min 6 g.1)) - 1)) go_x_in ⟨rfl, rfl⟩ dc_x_in ⟨Nat.le_of_ble_eq_true rfl, Nat.le_of_ble_eq_true rfl⟩ ⟨Nat.le_refl 0, Nat.le_refl 0⟩ hl.1 (Nat.le_of_ble_eq_true rfl) rfl dX0_plan_22 (fun r22 hp => ?_)
  refine top_i (y := bI (wi v (-1) ((nI (min 6 g.1)) - 1))) hp ?_
  refine b_ne (tgt := 30) hx hb dX0_plan_25 (by decide) (fun c25 => ?_) (fun c25 => ?_)
  · refine lv_aload_n hx hb dX0_plan_30 rfl (lv_at hl 0 rfl) ?_
    refine x_get E hK I 0 rfl q138 rfl dX0_plan_31 ?_
    refine lv_if_ne (tgt := 40) hx hb dX0_plan_34 (by decide) (fun c34 => ?_) (fun c34 => ?_)
    · refine lv_aload_n hx hb dX0_plan_40 rfl (lv_at hl 0 rfl) ?_
      refine lv_iconst (v := (-1)) hx hb dX0_plan_41 (by decide) ?_
      refine x_put E hK I 18 rfl rfl q157 rfl rfl rfl dX0_plan_42 (fun H locs I => ?_)
      have hcs : min 6 g.1 = 0 ∨ min 6 g.1 = 1 ∨ min 6 g.1 = 2 ∨ min 6 g.1 = 3 ∨ min 6 g.1 = 4 ∨ min 6 g.1 = 5 ∨ min 6 g.1 = 6 := by omega
      rcases hcs with hr6 | hr6 | hr6 | hr6 | hr6 | hr6 | hr6
      · refine lv_aload_n hx hb dX0_plan_45 rfl (lv_at hl 0 rfl) ?_
        refine lv_iconst (v := 0) hx hb dX0_plan_46 (by decide) ?_
        refine lv_iconst (v := 0) hx hb dX0_plan_47 (by decide) ?_
        refine x_cv hC E hK hA hX I (x_tp0 l D ty o ad em g ex Cy hC hg (up σ 18 0 (-1)) 0 0 (by omega) T hT (by rw [up_k (by decide)]; exact h0)) go_x_tp0 dc_x_tp0 ⟨Nat.le_of_ble_eq_true rfl, Nat.le_of_ble_eq_true rfl⟩ ⟨Nat.le_refl 0, Nat.le_refl 0⟩ hl.1 (Nat.le_of_ble_eq_true rfl) rfl dX0_plan_48 (fun σ48 H locs hp I => ?_)
        have I := x_as I hp
        obtain ⟨s1, hs1⟩ : ∃ z, z = xTp g T 0 0 0 (up σ 18 0 (-1)) := ⟨_, rfl⟩
        have I := x_as I hs1.symm
        have hP : s1 = xPlan σ g T := by rw [hs1, xPlan, hr6]
        refine lv_iload_n hx hb dX0_plan_51 rfl (lv_at hl 1 rfl) ?_
        refine lv_if_ge (tgt := 62) hx hb dX0_plan_52 (by decide) (fun c52 => ?_) (fun c52 => ?_)
        · obtain ⟨j, hj, ej⟩ := wi_pl (v := v) (n := min 6 g.1) (by omega) c25 c52
          subst ej
          refine lv_aload_n hx hb dX0_plan_62 rfl (lv_at hl 0 rfl) ?_
          refine x_get E hK I 17 rfl q156 rfl dX0_plan_63 ?_
          refine lv_iload_n hx hb dX0_plan_66 rfl (lv_at hl 1 rfl) ?_
          refine x_ald (i := j) E hK I 9 rfl rfl rfl dX0_plan_67 (by simp only [xLn]; omega) ?_
          exact r_i E hlk hr I (Nat.le_refl 0) (Nat.le_refl 0) dX0_plan_68 (⟨by simp only [c25, c34, if_true, if_false]; rw [← hP]; simp [xPlR, nI_clamp (show j < 2 ^ 31 by omega), c52], by simp only [c25, c34, and_self, not_false_eq_true, if_true]; exact hP⟩)
        · refine lv_aload_n hx hb dX0_plan_55 rfl (lv_at hl 0 rfl) ?_
          refine x_get E hK I 18 rfl q157 rfl dX0_plan_56 ?_
          refine lv_goto (tgt := 68) hx hb dX0_plan_59 (by decide) ?_
          exact r_i E hlk hr I (Nat.le_refl 0) (Nat.le_refl 0) dX0_plan_68 (⟨by simp only [c25, c34, if_true, if_false]; rw [← hP]; simp [xPlR, c52], by simp only [c25, c34, and_self, not_false_eq_true, if_true]; exact hP⟩)
      · refine lv_aload_n hx hb dX0_plan_45 rfl (lv_at hl 0 rfl) ?_
        refine lv_iconst (v := 0) hx hb dX0_plan_46 (by decide) ?_
        refine lv_iconst (v := 0) hx hb dX0_plan_47 (by decide) ?_
        refine x_cv hC E hK hA hX I (x_tp1 l D ty o ad em g ex Cy hC hg (up σ 18 0 (-1)) 0 0 (by omega) T hT (by rw [up_k (by decide)]; exact h0)) go_x_tp1 dc_x_tp1 ⟨Nat.le_of_ble_eq_true rfl, Nat.le_of_ble_eq_true rfl⟩ ⟨Nat.le_refl 0, Nat.le_refl 0⟩ hl.1 (Nat.le_of_ble_eq_true rfl) rfl dX0_plan_48 (fun σ48 H locs hp I => ?_)
        have I := x_as I hp
        obtain ⟨s1, hs1⟩ : ∃ z, z = xTp g T 1 0 0 (up σ 18 0 (-1)) := ⟨_, rfl⟩
        have I := x_as I hs1.symm
        have hP : s1 = xPlan σ g T := by rw [hs1, xPlan, hr6]
        refine lv_iload_n hx hb dX0_plan_51 rfl (lv_at hl 1 rfl) ?_
        refine lv_if_ge (tgt := 62) hx hb dX0_plan_52 (by decide) (fun c52 => ?_) (fun c52 => ?_)
        · obtain ⟨j, hj, ej⟩ := wi_pl (v := v) (n := min 6 g.1) (by omega) c25 c52
          subst ej
          refine lv_aload_n hx hb dX0_plan_62 rfl (lv_at hl 0 rfl) ?_
          refine x_get E hK I 17 rfl q156 rfl dX0_plan_63 ?_
          refine lv_iload_n hx hb dX0_plan_66 rfl (lv_at hl 1 rfl) ?_
          refine x_ald (i := j) E hK I 9 rfl rfl rfl dX0_plan_67 (by simp only [xLn]; omega) ?_
          exact r_i E hlk hr I (Nat.le_refl 0) (Nat.le_refl 0) dX0_plan_68 (⟨by simp only [c25, c34, if_true, if_false]; rw [← hP]; simp [xPlR, nI_clamp (show j < 2 ^ 31 by omega), c52], by simp only [c25, c34, and_self, not_false_eq_true, if_true]; exact hP⟩)
        · refine lv_aload_n hx hb dX0_plan_55 rfl (lv_at hl 0 rfl) ?_
          refine x_get E hK I 18 rfl q157 rfl dX0_plan_56 ?_
          refine lv_goto (tgt := 68) hx hb dX0_plan_59 (by decide) ?_
          exact r_i E hlk hr I (Nat.le_refl 0) (Nat.le_refl 0) dX0_plan_68 (⟨by simp only [c25, c34, if_true, if_false]; rw [← hP]; simp [xPlR, c52], by simp only [c25, c34, and_self, not_false_eq_true, if_true]; exact hP⟩)
      · refine lv_aload_n hx hb dX0_plan_45 rfl (lv_at hl 0 rfl) ?_
        refine lv_iconst (v := 0) hx hb dX0_plan_46 (by decide) ?_
        refine lv_iconst (v := 0) hx hb dX0_plan_47 (by decide) ?_
        refine x_cv hC E hK hA hX I (x_tp2 l D ty o ad em g ex Cy hC hg (up σ 18 0 (-1)) 0 0 (by omega) T hT (by rw [up_k (by decide)]; exact h0)) go_x_tp2 dc_x_tp2 ⟨Nat.le_of_ble_eq_true rfl, Nat.le_of_ble_eq_true rfl⟩ ⟨Nat.le_refl 0, Nat.le_refl 0⟩ hl.1 (Nat.le_of_ble_eq_true rfl) rfl dX0_plan_48 (fun σ48 H locs hp I => ?_)
        have I := x_as I hp
        obtain ⟨s1, hs1⟩ : ∃ z, z = xTp g T 2 0 0 (up σ 18 0 (-1)) := ⟨_, rfl⟩
        have I := x_as I hs1.symm
        have hP : s1 = xPlan σ g T := by rw [hs1, xPlan, hr6]
        refine lv_iload_n hx hb dX0_plan_51 rfl (lv_at hl 1 rfl) ?_
        refine lv_if_ge (tgt := 62) hx hb dX0_plan_52 (by decide) (fun c52 => ?_) (fun c52 => ?_)
        · obtain ⟨j, hj, ej⟩ := wi_pl (v := v) (n := min 6 g.1) (by omega) c25 c52
          subst ej
          refine lv_aload_n hx hb dX0_plan_62 rfl (lv_at hl 0 rfl) ?_
          refine x_get E hK I 17 rfl q156 rfl dX0_plan_63 ?_
          refine lv_iload_n hx hb dX0_plan_66 rfl (lv_at hl 1 rfl) ?_
          refine x_ald (i := j) E hK I 9 rfl rfl rfl dX0_plan_67 (by simp only [xLn]; omega) ?_
          exact r_i E hlk hr I (Nat.le_refl 0) (Nat.le_refl 0) dX0_plan_68 (⟨by simp only [c25, c34, if_true, if_false]; rw [← hP]; simp [xPlR, nI_clamp (show j < 2 ^ 31 by omega), c52], by simp only [c25, c34, and_self, not_false_eq_true, if_true]; exact hP⟩)
        · refine lv_aload_n hx hb dX0_plan_55 rfl (lv_at hl 0 rfl) ?_
          refine x_get E hK I 18 rfl q157 rfl dX0_plan_56 ?_
          refine lv_goto (tgt := 68) hx hb dX0_plan_59 (by decide) ?_
          exact r_i E hlk hr I (Nat.le_refl 0) (Nat.le_refl 0) dX0_plan_68 (⟨by simp only [c25, c34, if_true, if_false]; rw [← hP]; simp [xPlR, c52], by simp only [c25, c34, and_self, not_false_eq_true, if_true]; exact hP⟩)
      · refine lv_aload_n hx hb dX0_plan_45 rfl (lv_at hl 0 rfl) ?_
        refine lv_iconst (v := 0) hx hb dX0_plan_46 (by decide) ?_
        refine lv_iconst (v := 0) hx hb dX0_plan_47 (by decide) ?_
        refine x_cv hC E hK hA hX I (x_tp3 l D ty o ad em g ex Cy hC hg (up σ 18 0 (-1)) 0 0 (by omega) T hT (by rw [up_k (by decide)]; exact h0)) go_x_tp3 dc_x_tp3 ⟨Nat.le_of_ble_eq_true rfl, Nat.le_of_ble_eq_true rfl⟩ ⟨Nat.le_refl 0, Nat.le_refl 0⟩ hl.1 (Nat.le_of_ble_eq_true rfl) rfl dX0_plan_48 (fun σ48 H locs hp I => ?_)
        have I := x_as I hp
        obtain ⟨s1, hs1⟩ : ∃ z, z = xTp g T 3 0 0 (up σ 18 0 (-1)) := ⟨_, rfl⟩
        have I := x_as I hs1.symm
        have hP : s1 = xPlan σ g T := by rw [hs1, xPlan, hr6]
        refine lv_iload_n hx hb dX0_plan_51 rfl (lv_at hl 1 rfl) ?_
        refine lv_if_ge (tgt := 62) hx hb dX0_plan_52 (by decide) (fun c52 => ?_) (fun c52 => ?_)
        · obtain ⟨j, hj, ej⟩ := wi_pl (v := v) (n := min 6 g.1) (by omega) c25 c52
          subst ej
          refine lv_aload_n hx hb dX0_plan_62 rfl (lv_at hl 0 rfl) ?_
          refine x_get E hK I 17 rfl q156 rfl dX0_plan_63 ?_
          refine lv_iload_n hx hb dX0_plan_66 rfl (lv_at hl 1 rfl) ?_
          refine x_ald (i := j) E hK I 9 rfl rfl rfl dX0_plan_67 (by simp only [xLn]; omega) ?_
          exact r_i E hlk hr I (Nat.le_refl 0) (Nat.le_refl 0) dX0_plan_68 (⟨by simp only [c25, c34, if_true, if_false]; rw [← hP]; simp [xPlR, nI_clamp (show j < 2 ^ 31 by omega), c52], by simp only [c25, c34, and_self, not_false_eq_true, if_true]; exact hP⟩)
        · refine lv_aload_n hx hb dX0_plan_55 rfl (lv_at hl 0 rfl) ?_
          refine x_get E hK I 18 rfl q157 rfl dX0_plan_56 ?_
          refine lv_goto (tgt := 68) hx hb dX0_plan_59 (by decide) ?_
          exact r_i E hlk hr I (Nat.le_refl 0) (Nat.le_refl 0) dX0_plan_68 (⟨by simp only [c25, c34, if_true, if_false]; rw [← hP]; simp [xPlR, c52], by simp only [c25, c34, and_self, not_false_eq_true, if_true]; exact hP⟩)
      · refine lv_aload_n hx hb dX0_plan_45 rfl (lv_at hl 0 rfl) ?_
        refine lv_iconst (v := 0) hx hb dX0_plan_46 (by decide) ?_
        refine lv_iconst (v := 0) hx hb dX0_plan_47 (by decide) ?_
        refine x_cv hC E hK hA hX I (x_tp4 l D ty o ad em g ex Cy hC hg (up σ 18 0 (-1)) 0 0 (by omega) T hT (by rw [up_k (by decide)]; exact h0)) go_x_tp4 dc_x_tp4 ⟨Nat.le_of_ble_eq_true rfl, Nat.le_of_ble_eq_true rfl⟩ ⟨Nat.le_refl 0, Nat.le_refl 0⟩ hl.1 (Nat.le_of_ble_eq_true rfl) rfl dX0_plan_48 (fun σ48 H locs hp I => ?_)
        have I := x_as I hp
        obtain ⟨s1, hs1⟩ : ∃ z, z = xTp g T 4 0 0 (up σ 18 0 (-1)) := ⟨_, rfl⟩
        have I := x_as I hs1.symm
        have hP : s1 = xPlan σ g T := by rw [hs1, xPlan, hr6]
        refine lv_iload_n hx hb dX0_plan_51 rfl (lv_at hl 1 rfl) ?_
        refine lv_if_ge (tgt := 62) hx hb dX0_plan_52 (by decide) (fun c52 => ?_) (fun c52 => ?_)
        · obtain ⟨j, hj, ej⟩ := wi_pl (v := v) (n := min 6 g.1) (by omega) c25 c52
          subst ej
          refine lv_aload_n hx hb dX0_plan_62 rfl (lv_at hl 0 rfl) ?_
          refine x_get E hK I 17 rfl q156 rfl dX0_plan_63 ?_
          refine lv_iload_n hx hb dX0_plan_66 rfl (lv_at hl 1 rfl) ?_
          refine x_ald (i := j) E hK I 9 rfl rfl rfl dX0_plan_67 (by simp only [xLn]; omega) ?_
          exact r_i E hlk hr I (Nat.le_refl 0) (Nat.le_refl 0) dX0_plan_68 (⟨by simp only [c25, c34, if_true, if_false]; rw [← hP]; simp [xPlR, nI_clamp (show j < 2 ^ 31 by omega), c52], by simp only [c25, c34, and_self, not_false_eq_true, if_true]; exact hP⟩)
        · refine lv_aload_n hx hb dX0_plan_55 rfl (lv_at hl 0 rfl) ?_
          refine x_get E hK I 18 rfl q157 rfl dX0_plan_56 ?_
          refine lv_goto (tgt := 68) hx hb dX0_plan_59 (by decide) ?_
          exact r_i E hlk hr I (Nat.le_refl 0) (Nat.le_refl 0) dX0_plan_68 (⟨by simp only [c25, c34, if_true, if_false]; rw [← hP]; simp [xPlR, c52], by simp only [c25, c34, and_self, not_false_eq_true, if_true]; exact hP⟩)
      · refine lv_aload_n hx hb dX0_plan_45 rfl (lv_at hl 0 rfl) ?_
        refine lv_iconst (v := 0) hx hb dX0_plan_46 (by decide) ?_
        refine lv_iconst (v := 0) hx hb dX0_plan_47 (by decide) ?_
        refine x_cv hC E hK hA hX I (x_tp5 l D ty o ad em g ex Cy hC hg (up σ 18 0 (-1)) 0 0 (by omega) T hT (by rw [up_k (by decide)]; exact h0)) go_x_tp5 dc_x_tp5 ⟨Nat.le_of_ble_eq_true rfl, Nat.le_of_ble_eq_true rfl⟩ ⟨Nat.le_refl 0, Nat.le_refl 0⟩ hl.1 (Nat.le_of_ble_eq_true rfl) rfl dX0_plan_48 (fun σ48 H locs hp I => ?_)
        have I := x_as I hp
        obtain ⟨s1, hs1⟩ : ∃ z, z = xTp g T 5 0 0 (up σ 18 0 (-1)) := ⟨_, rfl⟩
        have I := x_as I hs1.symm
        have hP : s1 = xPlan σ g T := by rw [hs1, xPlan, hr6]
        refine lv_iload_n hx hb dX0_plan_51 rfl (lv_at hl 1 rfl) ?_
        refine lv_if_ge (tgt := 62) hx hb dX0_plan_52 (by decide) (fun c52 => ?_) (fun c52 => ?_)
        · obtain ⟨j, hj, ej⟩ := wi_pl (v := v) (n := min 6 g.1) (by omega) c25 c52
          subst ej
          refine lv_aload_n hx hb dX0_plan_62 rfl (lv_at hl 0 rfl) ?_
          refine x_get E hK I 17 rfl q156 rfl dX0_plan_63 ?_
          refine lv_iload_n hx hb dX0_plan_66 rfl (lv_at hl 1 rfl) ?_
          refine x_ald (i := j) E hK I 9 rfl rfl rfl dX0_plan_67 (by simp only [xLn]; omega) ?_
          exact r_i E hlk hr I (Nat.le_refl 0) (Nat.le_refl 0) dX0_plan_68 (⟨by simp only [c25, c34, if_true, if_false]; rw [← hP]; simp [xPlR, nI_clamp (show j < 2 ^ 31 by omega), c52], by simp only [c25, c34, and_self, not_false_eq_true, if_true]; exact hP⟩)
        · refine lv_aload_n hx hb dX0_plan_55 rfl (lv_at hl 0 rfl) ?_
          refine x_get E hK I 18 rfl q157 rfl dX0_plan_56 ?_
          refine lv_goto (tgt := 68) hx hb dX0_plan_59 (by decide) ?_
          exact r_i E hlk hr I (Nat.le_refl 0) (Nat.le_refl 0) dX0_plan_68 (⟨by simp only [c25, c34, if_true, if_false]; rw [← hP]; simp [xPlR, c52], by simp only [c25, c34, and_self, not_false_eq_true, if_true]; exact hP⟩)
      · refine lv_aload_n hx hb dX0_plan_45 rfl (lv_at hl 0 rfl) ?_
        refine lv_iconst (v := 0) hx hb dX0_plan_46 (by decide) ?_
        refine lv_iconst (v := 0) hx hb dX0_plan_47 (by decide) ?_
        refine x_cv hC E hK hA hX I (x_tp6 l D ty o ad em g ex Cy hC hg (up σ 18 0 (-1)) 0 0 (by omega) T hT (by rw [up_k (by decide)]; exact h0)) go_x_tp6 dc_x_tp6 ⟨Nat.le_of_ble_eq_true rfl, Nat.le_of_ble_eq_true rfl⟩ ⟨Nat.le_refl 0, Nat.le_refl 0⟩ hl.1 (Nat.le_of_ble_eq_true rfl) rfl dX0_plan_48 (fun σ48 H locs hp I => ?_)
        have I := x_as I hp
        obtain ⟨s1, hs1⟩ : ∃ z, z = xTp g T 6 0 0 (up σ 18 0 (-1)) := ⟨_, rfl⟩
        have I := x_as I hs1.symm
        have hP : s1 = xPlan σ g T := by rw [hs1, xPlan, hr6]
        refine lv_iload_n hx hb dX0_plan_51 rfl (lv_at hl 1 rfl) ?_
        refine lv_if_ge (tgt := 62) hx hb dX0_plan_52 (by decide) (fun c52 => ?_) (fun c52 => ?_)
        · obtain ⟨j, hj, ej⟩ := wi_pl (v := v) (n := min 6 g.1) (by omega) c25 c52
          subst ej
          refine lv_aload_n hx hb dX0_plan_62 rfl (lv_at hl 0 rfl) ?_
          refine x_get E hK I 17 rfl q156 rfl dX0_plan_63 ?_
          refine lv_iload_n hx hb dX0_plan_66 rfl (lv_at hl 1 rfl) ?_
          refine x_ald (i := j) E hK I 9 rfl rfl rfl dX0_plan_67 (by simp only [xLn]; omega) ?_
          exact r_i E hlk hr I (Nat.le_refl 0) (Nat.le_refl 0) dX0_plan_68 (⟨by simp only [c25, c34, if_true, if_false]; rw [← hP]; simp [xPlR, nI_clamp (show j < 2 ^ 31 by omega), c52], by simp only [c25, c34, and_self, not_false_eq_true, if_true]; exact hP⟩)
        · refine lv_aload_n hx hb dX0_plan_55 rfl (lv_at hl 0 rfl) ?_
          refine x_get E hK I 18 rfl q157 rfl dX0_plan_56 ?_
          refine lv_goto (tgt := 68) hx hb dX0_plan_59 (by decide) ?_
          exact r_i E hlk hr I (Nat.le_refl 0) (Nat.le_refl 0) dX0_plan_68 (⟨by simp only [c25, c34, if_true, if_false]; rw [← hP]; simp [xPlR, c52], by simp only [c25, c34, and_self, not_false_eq_true, if_true]; exact hP⟩)
    · refine lv_bipush (v := (-3)) hx hb dX0_plan_37 (by decide) ?_
      exact r_i E hlk hr I (Nat.le_refl 0) (Nat.le_refl 0) dX0_plan_39 (⟨by simp [c25, c34], by simp [c25, c34]⟩)
  · refine lv_iconst (v := (-1)) hx hb dX0_plan_28 (by decide) ?_
    exact r_i E hlk hr I (Nat.le_refl 0) (Nat.le_refl 0) dX0_plan_29 (⟨by simp [c25], by simp [c25]⟩)
theorem dc_x_plan : yX0_plan.cls = RX0 ∧ yX0_plan.cls ≠ "java/lang/invoke/MethodHandle" ∧ yX0_plan.cls ≠ "java/lang/invoke/VarHandle" ∧ (parseMethodDescriptor yX0_plan.desc).map (fun d => d.parameters.length) = some 1 := by decide +kernel
theorem x_layMix (l : Launch) (D : va_G) (ty : Nat → ClassId) (o : Nat) (ad : Nat → Nat) (ex : va_W) (Cx : (Nat → Prop) → State → Prop) (hC : CxOk Cx) (σ : Sg) (a : Nat) (b : Nat) (d : Nat) (hs : a + b + d ≤ 6) : xKv l yX0_layMix cX0_layMix 5 1 D ty Cx o ad ex σ [.int (nI a), .int (nI b), .int (nI d)] (fun τ => τ = xMix σ a b d) := by
  refine Kv.of (by decide) (Nat.le_of_ble_eq_true rfl) ?_
  intro p e s m below meth c A ls args E hK hA hX hlk hr hnm I hl
  have hx := E.1
  have hb := E.2.1
  have hl : lv_has ls 5 [(0, .ref o), (1, .int (nI a)), (2, .int (nI b)), (3, .int (nI d))] := hl
  refine nameQ (fun Q hQ => ?_)
  refine lv_aload_n hx hb dX0_layMix_0 rfl (lv_at hl 0 rfl) ?_
  refine lv_iload_n hx hb dX0_layMix_1 rfl (lv_at hl 1 rfl) ?_
  refine lv_iload_n hx hb dX0_layMix_2 rfl (lv_at hl 2 rfl) ?_
  refine lv_iadd hx hb dX0_layMix_3 ?_
  refine lv_iload_n hx hb dX0_layMix_4 rfl (lv_at hl 3 rfl) ?_
  refine lv_iadd hx hb dX0_layMix_5 ?_
  refine top_i (y := nI (a + b + d)) (by rw [nI_add, nI_add]) ?_
  refine x_put E hK I 0 rfl rfl q138 rfl rfl rfl dX0_layMix_6 (fun H locs I => ?_)
  refine lv_iconst (v := 0) hx hb dX0_layMix_9 (by decide) ?_
  refine lv_istore (lv' := [(4, .int 0), (0, .ref o), (1, .int (nI a)), (2, .int (nI b)), (3, .int (nI d))]) hx hb dX0_layMix_10 hl (by decide) rfl (fun ls hl => ?_)
  have L12 : ∀ i, i ≤ (a + b + d) → ∀ (H : Heap) (locs : List Loc) (ls : Array Slot), gI s D A (xW ty o ad ex (xcpm (up σ 0 0 (nI (a + b + d))) a b i)) H locs → lv_has ls 5 [(0, .ref o), (1, .int (nI a)), (2, .int (nI b)), (3, .int (nI d)), (4, .int (nI i))] → W p l e (rmL 1) s m args below meth c H locs 0 0 Q (F0 m 12 ls []) := by
    refine dn_ind (a + b + d) ?_ ?_
    · intro H locs ls I hl
      refine lv_iload hx hb dX0_layMix_12 (lv_at hl 4 rfl) ?_
      refine lv_aload_n hx hb dX0_layMix_14 rfl (lv_at hl 0 rfl) ?_
      refine x_get (v := .int (nI (a + b + d))) E hK I 0 rfl q138 (congrArg Value.int (by rw [xcpm_k (by decide), up_s])) dX0_layMix_15 ?_
      refine lv_icmp_ge (tgt := 66) hx hb dX0_layMix_18 (by decide) (fun c18 => ?_) (fun c18 => absurd c18 (fun h => h (Int32.le_refl _)))
      subst hQ
      exact r_v E hlk hr I (Nat.le_refl 0) (Nat.le_refl 0) dX0_layMix_66 (rfl)
    · intro i hi ih12 H locs ls I hl
      refine lv_iload hx hb dX0_layMix_12 (lv_at hl 4 rfl) ?_
      refine lv_aload_n hx hb dX0_layMix_14 rfl (lv_at hl 0 rfl) ?_
      refine x_get (v := .int (nI (a + b + d))) E hK I 0 rfl q138 (congrArg Value.int (by rw [xcpm_k (by decide), up_s])) dX0_layMix_15 ?_
      refine lv_icmp_ge (tgt := 66) hx hb dX0_layMix_18 (by decide) (fun c18 => absurd c18 (nI_ge hi (by omega))) (fun c18 => ?_)
      refine lv_aload_n hx hb dX0_layMix_21 rfl (lv_at hl 0 rfl) ?_
      refine x_get E hK I 5 rfl q143 rfl dX0_layMix_22 ?_
      refine lv_iload hx hb dX0_layMix_25 (lv_at hl 4 rfl) ?_
      refine lv_iconst (v := 2) hx hb dX0_layMix_27 (by decide) ?_
      refine x_ast (i := i) E hK I 0 rfl rfl rfl dX0_layMix_28 (by simp only [xLn]; omega) (fun H locs I => ?_)
      refine lv_aload_n hx hb dX0_layMix_29 rfl (lv_at hl 0 rfl) ?_
      refine x_get E hK I 6 rfl q144 rfl dX0_layMix_30 ?_
      refine lv_iload hx hb dX0_layMix_33 (lv_at hl 4 rfl) ?_
      refine lv_iload hx hb dX0_layMix_35 (lv_at hl 4 rfl) ?_
      refine lv_iload_n hx hb dX0_layMix_37 rfl (lv_at hl 1 rfl) ?_
      refine lv_icmp_ge (tgt := 45) hx hb dX0_layMix_38 (by decide) (fun c38 => ?_) (fun c38 => ?_)
      · refine lv_iload hx hb dX0_layMix_45 (lv_at hl 4 rfl) ?_
        refine lv_iload_n hx hb dX0_layMix_47 rfl (lv_at hl 1 rfl) ?_
        refine lv_iload_n hx hb dX0_layMix_48 rfl (lv_at hl 2 rfl) ?_
        refine lv_iadd hx hb dX0_layMix_49 ?_
        refine top_i (y := nI (a + b)) (nI_add _ _) ?_
        refine lv_icmp_ge (tgt := 57) hx hb dX0_layMix_50 (by decide) (fun c50 => ?_) (fun c50 => ?_)
        · refine lv_bipush (v := 6) hx hb dX0_layMix_57 (by decide) ?_
          refine x_ast (i := i) E hK I 1 rfl rfl rfl dX0_layMix_59 (by simp only [xLn]; omega) (fun H locs I => ?_)
          refine lv_iinc (v := nI (i + 1)) (lv' := [(4, .int (nI (i + 1))), (0, .ref o), (1, .int (nI a)), (2, .int (nI b)), (3, .int (nI d))]) hx hb dX0_layMix_60 hl (k := 4) rfl (nI_1 _) (by decide) rfl (fun ls hl => ?_)
          refine lv_goto (tgt := 12) hx hb dX0_layMix_63 (by decide) ?_
          exact ih12 _ _ ls (x_as I (xcpm_s _ _ _ _ (by simp [seatAt, (show ¬ i < a from fun h => nI_ge h (by omega) c38), (show ¬ i < a + b from fun h => nI_ge h (by omega) c50)]))) (lv_as (lv_sub (l' := [(0, .ref o), (1, .int (nI a)), (2, .int (nI b)), (3, .int (nI d)), (4, .int (nI (i + 1)))]) hl [1, 2, 3, 4, 0] rfl) (rfl))
        · refine lv_iconst (v := 4) hx hb dX0_layMix_53 (by decide) ?_
          refine lv_goto (tgt := 59) hx hb dX0_layMix_54 (by decide) ?_
          refine x_ast (i := i) E hK I 1 rfl rfl rfl dX0_layMix_59 (by simp only [xLn]; omega) (fun H locs I => ?_)
          refine lv_iinc (v := nI (i + 1)) (lv' := [(4, .int (nI (i + 1))), (0, .ref o), (1, .int (nI a)), (2, .int (nI b)), (3, .int (nI d))]) hx hb dX0_layMix_60 hl (k := 4) rfl (nI_1 _) (by decide) rfl (fun ls hl => ?_)
          refine lv_goto (tgt := 12) hx hb dX0_layMix_63 (by decide) ?_
          exact ih12 _ _ ls (x_as I (xcpm_s _ _ _ _ (by simp [seatAt, (show ¬ i < a from fun h => nI_ge h (by omega) c38), nle_lt (show i < 2 ^ 31 by omega) c50]))) (lv_as (lv_sub (l' := [(0, .ref o), (1, .int (nI a)), (2, .int (nI b)), (3, .int (nI d)), (4, .int (nI (i + 1)))]) hl [1, 2, 3, 4, 0] rfl) (rfl))
      · refine lv_iconst (v := 2) hx hb dX0_layMix_41 (by decide) ?_
        refine lv_goto (tgt := 59) hx hb dX0_layMix_42 (by decide) ?_
        refine x_ast (i := i) E hK I 1 rfl rfl rfl dX0_layMix_59 (by simp only [xLn]; omega) (fun H locs I => ?_)
        refine lv_iinc (v := nI (i + 1)) (lv' := [(4, .int (nI (i + 1))), (0, .ref o), (1, .int (nI a)), (2, .int (nI b)), (3, .int (nI d))]) hx hb dX0_layMix_60 hl (k := 4) rfl (nI_1 _) (by decide) rfl (fun ls hl => ?_)
        refine lv_goto (tgt := 12) hx hb dX0_layMix_63 (by decide) ?_
        exact ih12 _ _ ls (x_as I (xcpm_s _ _ _ _ (by simp [seatAt, nle_lt (show i < 2 ^ 31 by omega) c38]))) (lv_as (lv_sub (l' := [(0, .ref o), (1, .int (nI a)), (2, .int (nI b)), (3, .int (nI d)), (4, .int (nI (i + 1)))]) hl [1, 2, 3, 4, 0] rfl) (rfl))
  exact L12 0 (Nat.zero_le _) _ _ ls (x_as I (xcpm_0 _ _ _)) (lv_as (lv_sub (l' := [(0, .ref o), (1, .int (nI a)), (2, .int (nI b)), (3, .int (nI d)), (4, .int 0)]) hl [1, 2, 3, 4, 0] rfl) (rfl))
theorem dc_x_layMix : yX0_layMix.cls = RX0 ∧ yX0_layMix.cls ≠ "java/lang/invoke/MethodHandle" ∧ yX0_layMix.cls ≠ "java/lang/invoke/VarHandle" ∧ (parseMethodDescriptor yX0_layMix.desc).map (fun d => d.parameters.length) = some 3 := by decide +kernel
theorem go_x_layMix : GoodIn lw_all (wsV RX0 271 RX0 yX0_layMix (ws_ yX0_layMix cX0_layMix 5 none)) := lw_V q603 q605 qs26 q71 q606
theorem x_mix (l : Launch) (D : va_G) (ty : Nat → ClassId) (o : Nat) (ad : Nat → Nat) (em : Nat) (g : GS) (ex : va_W) (Cy : (Nat → Prop) → State → Prop) (hC : CxOk (CxX em Cy)) (hg : gOk g) (σ : Sg) (x : Int32) (w : Int32) : xKi l yX0_mix cX0_mix 12 .int 12 D ty (CxX em Cy) o ad (gE ty o (ad 8) em g ex) σ [.int x, .int w] (fun r τ => r = (if wi x 2 24 = true ∧ wi w 0 3 = true then (if σ 0 0 = 0 then (-3) else mMXR (xMixA σ x g) w) else (-2)) ∧ τ = if (wi x 2 24 = true ∧ wi w 0 3 = true) ∧ ¬ σ 0 0 = 0 then xMixE σ (xMixA σ x g).1 else σ) := by
  refine Ki.of (by decide) (Nat.le_of_ble_eq_true rfl) ?_
  intro p e s m below meth c A ls args E hK hA hX hlk hr I hl
  have hx := E.1
  have hb := E.2.1
  have hl : lv_has ls 12 [(0, .ref o), (1, .int x), (2, .int w)] := hl
  refine nameQ (fun Q hQ => ?_)
  have hg8 := hg.1
  refine lv_iload_n hx hb dX0_mix_0 rfl (lv_at hl 1 rfl) ?_
  refine lv_i2l hx hb dX0_mix_1 rfl ?_
  refine lv_ldc2 (v := 2) hx hb E.2.2.2.1 (E.2.2.2.2 _ q228) dX0_mix_2 ?_
  refine top_l (y := (2 : Int32).toInt64) (by decide) ?_
  refine lv_ldc2 (v := 24) hx hb E.2.2.2.1 (E.2.2.2.2 _ q601) dX0_mix_5 ?_
  refine top_l (y := (24 : Int32).toInt64) (by decide) ?_
  refine c_Si E (x_in l x 2 24) go_x_in ⟨rfl, rfl⟩ dc_x_in ⟨Nat.le_of_ble_eq_true rfl, Nat.le_of_ble_eq_true rfl⟩ ⟨Nat.le_refl 0, Nat.le_refl 0⟩ hl.1 (Nat.le_of_ble_eq_true rfl) rfl dX0_mix_8 (fun r8 hp => ?_)
  refine top_i (y := bI (wi x 2 24)) hp ?_
  refine b_eq (tgt := 26) hx hb dX0_mix_11 (by decide) (fun c11 => ?_) (fun c11 => ?_)
  · refine lv_bipush (v := (-2)) hx hb dX0_mix_26 (by decide) ?_
    subst hQ
    exact r_i E hlk hr I (Nat.le_refl 0) (Nat.le_refl 0) dX0_mix_28 (⟨by simp [c11], by simp [c11]⟩)
  · refine lv_iload_n hx hb dX0_mix_14 rfl (lv_at hl 2 rfl) ?_
    refine lv_i2l hx hb dX0_mix_15 rfl ?_
    refine lv_lconst (v := 0) hx hb dX0_mix_16 (by decide) ?_
    refine top_l (y := (0 : Int32).toInt64) (by decide) ?_
    refine lv_ldc2 (v := 3) hx hb E.2.2.2.1 (E.2.2.2.2 _ q602) dX0_mix_17 ?_
    refine top_l (y := (3 : Int32).toInt64) (by decide) ?_
    refine c_Si E (x_in l w 0 3) go_x_in ⟨rfl, rfl⟩ dc_x_in ⟨Nat.le_of_ble_eq_true rfl, Nat.le_of_ble_eq_true rfl⟩ ⟨Nat.le_refl 0, Nat.le_refl 0⟩ hl.1 (Nat.le_of_ble_eq_true rfl) rfl dX0_mix_20 (fun r20 hp => ?_)
    refine top_i (y := bI (wi w 0 3)) hp ?_
    refine b_ne (tgt := 29) hx hb dX0_mix_23 (by decide) (fun c23 => ?_) (fun c23 => ?_)
    · refine lv_aload_n hx hb dX0_mix_29 rfl (lv_at hl 0 rfl) ?_
      refine x_get E hK I 0 rfl q138 rfl dX0_mix_30 ?_
      refine lv_if_ne (tgt := 39) hx hb dX0_mix_33 (by decide) (fun c33 => ?_) (fun c33 => ?_)
      · refine lv_aload_n hx hb dX0_mix_39 rfl (lv_at hl 0 rfl) ?_
        refine x_get E hK I 0 rfl q138 rfl dX0_mix_40 ?_
        refine lv_istore_n (lv' := [(3, .int (σ 0 0)), (0, .ref o), (1, .int x), (2, .int w)]) hx hb dX0_mix_43 rfl hl (by decide) rfl (fun ls hl => ?_)
        refine lv_aload_n hx hb dX0_mix_44 rfl (lv_at hl 1 rfl) ?_
        refine x_get E hK I 4 rfl q142 rfl dX0_mix_45 ?_
        refine lv_istore (lv' := [(4, .int (σ 4 0)), (3, .int (σ 0 0)), (0, .ref o), (1, .int x), (2, .int w)]) hx hb dX0_mix_48 hl (by decide) rfl (fun ls hl => ?_)
        refine lv_aload_n hx hb dX0_mix_50 rfl (lv_at hl 2 rfl) ?_
        refine x_get E hK I 5 rfl q143 rfl dX0_mix_51 ?_
        refine lv_iconst (v := 0) hx hb dX0_mix_54 (by decide) ?_
        refine lv_aload_n hx hb dX0_mix_55 rfl (lv_at hl 2 rfl) ?_
        refine x_get E hK I 20 rfl q159 rfl dX0_mix_56 ?_
        refine lv_iconst (v := 0) hx hb dX0_mix_59 (by decide) ?_
        refine lv_bipush (v := 6) hx hb dX0_mix_60 (by decide) ?_
        refine x_copy E hK I 0 11 rfl rfl rfl rfl hl.1 (Nat.le_of_ble_eq_true rfl) (Nat.le_of_ble_eq_true rfl) (Nat.le_of_ble_eq_true rfl) dX0_mix_62 (fun H locs I => ?_)
        refine lv_aload_n hx hb dX0_mix_65 rfl (lv_at hl 2 rfl) ?_
        refine x_get E hK I 6 rfl q144 rfl dX0_mix_66 ?_
        refine lv_iconst (v := 0) hx hb dX0_mix_69 (by decide) ?_
        refine lv_aload_n hx hb dX0_mix_70 rfl (lv_at hl 2 rfl) ?_
        refine x_get E hK I 21 rfl q160 rfl dX0_mix_71 ?_
        refine lv_iconst (v := 0) hx hb dX0_mix_74 (by decide) ?_
        refine lv_bipush (v := 6) hx hb dX0_mix_75 (by decide) ?_
        refine x_copy E hK I 1 12 rfl rfl rfl rfl hl.1 (Nat.le_of_ble_eq_true rfl) (Nat.le_of_ble_eq_true rfl) (Nat.le_of_ble_eq_true rfl) dX0_mix_77 (fun H locs I => ?_)
        refine lv_aload_n hx hb dX0_mix_80 rfl (lv_at hl 2 rfl) ?_
        refine lv_bipush (v := (-9)) hx hb dX0_mix_81 (by decide) ?_
        refine x_put E hK I 4 rfl rfl q142 rfl rfl rfl dX0_mix_83 (fun H locs I => ?_)
        obtain ⟨s1, hs1⟩ : ∃ z, z = up (xCpy (xCpy σ 5 20) 6 21) 4 0 (-9) := ⟨_, rfl⟩
        have I := x_as I hs1.symm
        refine lv_iconst (v := (-1)) hx hb dX0_mix_86 (by decide) ?_
        refine lv_istore (lv' := [(5, .int (-1)), (4, .int (σ 4 0)), (3, .int (σ 0 0)), (0, .ref o), (1, .int x), (2, .int w)]) hx hb dX0_mix_87 hl (by decide) rfl (fun ls hl => ?_)
        refine lv_iconst (v := 0) hx hb dX0_mix_89 (by decide) ?_
        refine lv_istore (lv' := [(6, .int 0), (5, .int (-1)), (4, .int (σ 4 0)), (3, .int (σ 0 0)), (0, .ref o), (1, .int x), (2, .int w)]) hx hb dX0_mix_90 hl (by decide) rfl (fun ls hl => ?_)
        refine lv_iconst (v := 0) hx hb dX0_mix_92 (by decide) ?_
        refine lv_istore (lv' := [(7, .int 0), (6, .int 0), (5, .int (-1)), (4, .int (σ 4 0)), (3, .int (σ 0 0)), (0, .ref o), (1, .int x), (2, .int w)]) hx hb dX0_mix_93 hl (by decide) rfl (fun ls hl => ?_)
        have L95 : ∀ i, i ≤ 343 → ∀ (H : Heap) (locs : List Loc) (ls : Array Slot), gI s D A (gW ty o ad em g ex ((fo (xMX x g) i (s1, -1, 0)).1)) H locs → lv_has ls 12 [(0, .ref o), (1, .int x), (2, .int w), (3, .int (σ 0 0)), (4, .int (σ 4 0)), (5, .int ((fo (xMX x g) i (s1, -1, 0)).2.1)), (6, .int ((fo (xMX x g) i (s1, -1, 0)).2.2)), (7, .int (nI i))] → W p l e (rmL 12) s m args below meth c H locs 0 0 Q (F0 m 95 ls []) := by
          refine dn_ind 343 ?_ ?_
          · intro H locs ls I hl
            refine lv_iload hx hb dX0_mix_95 (lv_at hl 7 rfl) ?_
            refine lv_sipush (v := 343) hx hb dX0_mix_97 (by decide) ?_
            refine top_i (y := nI 343) (by decide) ?_
            refine lv_icmp_ge (tgt := 208) hx hb dX0_mix_100 (by decide) (fun c100 => ?_) (fun c100 => absurd c100 (fun h => h (Int32.le_refl _)))
            have hA0 : fo (xMX x g) 343 (s1, -1, 0) = xMixA σ x g := by rw [hs1, xMixA, xMix0]
            have I := x_as I (show _ = (xMixA σ x g).1 by rw [hA0])
            rw [hA0] at hl
            refine lv_aload_n hx hb dX0_mix_208 rfl (lv_at hl 0 rfl) ?_
            refine lv_iload_n hx hb dX0_mix_209 rfl (lv_at hl 3 rfl) ?_
            refine x_put E hK I 0 rfl rfl q138 rfl rfl rfl dX0_mix_210 (fun H locs I => ?_)
            refine lv_aload_n hx hb dX0_mix_213 rfl (lv_at hl 0 rfl) ?_
            refine lv_iload hx hb dX0_mix_214 (lv_at hl 4 rfl) ?_
            refine x_put E hK I 4 rfl rfl q142 rfl rfl rfl dX0_mix_216 (fun H locs I => ?_)
            refine lv_aload_n hx hb dX0_mix_219 rfl (lv_at hl 0 rfl) ?_
            refine x_get E hK I 20 rfl q159 rfl dX0_mix_220 ?_
            refine lv_iconst (v := 0) hx hb dX0_mix_223 (by decide) ?_
            refine lv_aload_n hx hb dX0_mix_224 rfl (lv_at hl 0 rfl) ?_
            refine x_get E hK I 5 rfl q143 rfl dX0_mix_225 ?_
            refine lv_iconst (v := 0) hx hb dX0_mix_228 (by decide) ?_
            refine lv_bipush (v := 6) hx hb dX0_mix_229 (by decide) ?_
            refine x_copy E hK I 11 0 rfl rfl rfl rfl hl.1 (Nat.le_of_ble_eq_true rfl) (Nat.le_of_ble_eq_true rfl) (Nat.le_of_ble_eq_true rfl) dX0_mix_231 (fun H locs I => ?_)
            refine lv_aload_n hx hb dX0_mix_234 rfl (lv_at hl 0 rfl) ?_
            refine x_get E hK I 21 rfl q160 rfl dX0_mix_235 ?_
            refine lv_iconst (v := 0) hx hb dX0_mix_238 (by decide) ?_
            refine lv_aload_n hx hb dX0_mix_239 rfl (lv_at hl 0 rfl) ?_
            refine x_get E hK I 6 rfl q144 rfl dX0_mix_240 ?_
            refine lv_iconst (v := 0) hx hb dX0_mix_243 (by decide) ?_
            refine lv_bipush (v := 6) hx hb dX0_mix_244 (by decide) ?_
            refine x_copy E hK I 12 1 rfl rfl rfl rfl hl.1 (Nat.le_of_ble_eq_true rfl) (Nat.le_of_ble_eq_true rfl) (Nat.le_of_ble_eq_true rfl) dX0_mix_246 (fun H locs I => ?_)
            refine lv_iload_n hx hb dX0_mix_249 rfl (lv_at hl 2 rfl) ?_
            refine lv_if_ne (tgt := 258) hx hb dX0_mix_250 (by decide) (fun c250 => ?_) (fun c250 => ?_)
            · refine lv_iload_n hx hb dX0_mix_258 rfl (lv_at hl 2 rfl) ?_
              refine lv_iconst (v := 1) hx hb dX0_mix_259 (by decide) ?_
              refine lv_icmp_ne (tgt := 271) hx hb dX0_mix_260 (by decide) (fun c260 => ?_) (fun c260 => ?_)
              · refine lv_iload_n hx hb dX0_mix_271 rfl (lv_at hl 2 rfl) ?_
                refine lv_iconst (v := 2) hx hb dX0_mix_272 (by decide) ?_
                refine lv_icmp_ne (tgt := 287) hx hb dX0_mix_273 (by decide) (fun c273 => ?_) (fun c273 => ?_)
                · refine lv_iload hx hb dX0_mix_287 (lv_at hl 6 rfl) ?_
                  refine lv_bipush (v := 7) hx hb dX0_mix_289 (by decide) ?_
                  refine lv_irem hx hb dX0_mix_291 (by decide) ?_
                  subst hQ
                  exact r_i E hlk hr I (Nat.le_refl 0) (Nat.le_refl 0) dX0_mix_292 (⟨by simp only [c11, c23, c33, if_true, if_false, and_self]; simp [mMXR, c250, c260, c273], by simp only [c11, c23, c33, and_self, not_false_eq_true, if_true]; rfl⟩)
                · refine lv_iload hx hb dX0_mix_276 (lv_at hl 6 rfl) ?_
                  refine lv_bipush (v := 7) hx hb dX0_mix_278 (by decide) ?_
                  refine lv_idiv hx hb dX0_mix_280 (by decide) ?_
                  refine lv_bipush (v := 7) hx hb dX0_mix_281 (by decide) ?_
                  refine lv_irem hx hb dX0_mix_283 (by decide) ?_
                  refine lv_goto (tgt := 292) hx hb dX0_mix_284 (by decide) ?_
                  subst hQ
                  exact r_i E hlk hr I (Nat.le_refl 0) (Nat.le_refl 0) dX0_mix_292 (⟨by simp only [c11, c23, c33, if_true, if_false, and_self]; simp [mMXR, c250, c260, c273], by simp only [c11, c23, c33, and_self, not_false_eq_true, if_true]; rfl⟩)
              · refine lv_iload hx hb dX0_mix_263 (lv_at hl 6 rfl) ?_
                refine lv_bipush (v := 49) hx hb dX0_mix_265 (by decide) ?_
                refine lv_idiv hx hb dX0_mix_267 (by decide) ?_
                refine lv_goto (tgt := 292) hx hb dX0_mix_268 (by decide) ?_
                subst hQ
                exact r_i E hlk hr I (Nat.le_refl 0) (Nat.le_refl 0) dX0_mix_292 (⟨by simp only [c11, c23, c33, if_true, if_false, and_self]; simp [mMXR, c250, c260], by simp only [c11, c23, c33, and_self, not_false_eq_true, if_true]; rfl⟩)
            · refine lv_iload hx hb dX0_mix_253 (lv_at hl 5 rfl) ?_
              refine lv_goto (tgt := 292) hx hb dX0_mix_255 (by decide) ?_
              subst hQ
              exact r_i E hlk hr I (Nat.le_refl 0) (Nat.le_refl 0) dX0_mix_292 (⟨by simp only [c11, c23, c33, if_true, if_false, and_self]; simp [mMXR, c250], by simp only [c11, c23, c33, and_self, not_false_eq_true, if_true]; rfl⟩)
          · intro i hi ih95 H locs ls I hl
            refine lv_iload hx hb dX0_mix_95 (lv_at hl 7 rfl) ?_
            refine lv_sipush (v := 343) hx hb dX0_mix_97 (by decide) ?_
            refine top_i (y := nI 343) (by decide) ?_
            refine lv_icmp_ge (tgt := 208) hx hb dX0_mix_100 (by decide) (fun c100 => absurd c100 (nI_ge hi (by omega))) (fun c100 => ?_)
            refine lv_iload hx hb dX0_mix_103 (lv_at hl 7 rfl) ?_
            refine lv_bipush (v := 49) hx hb dX0_mix_105 (by decide) ?_
            refine lv_idiv hx hb dX0_mix_107 (by decide) ?_
            refine top_i (y := nI (i / 49)) (pk_div (d := 49) (by omega) (by decide) (by decide)) ?_
            refine lv_istore (lv' := [(8, .int (nI (i / 49))), (0, .ref o), (1, .int x), (2, .int w), (3, .int (σ 0 0)), (4, .int (σ 4 0)), (5, .int ((fo (xMX x g) i (s1, -1, 0)).2.1)), (6, .int ((fo (xMX x g) i (s1, -1, 0)).2.2)), (7, .int (nI i))]) hx hb dX0_mix_108 hl (by decide) rfl (fun ls hl => ?_)
            refine lv_iload hx hb dX0_mix_110 (lv_at hl 8 rfl) ?_
            refine lv_bipush (v := 7) hx hb dX0_mix_112 (by decide) ?_
            refine lv_idiv hx hb dX0_mix_114 (by decide) ?_
            refine top_i (y := nI (i / 7)) (pk_div (d := 7) (by omega) (by decide) (by decide)) ?_
            refine lv_bipush (v := 7) hx hb dX0_mix_115 (by decide) ?_
            refine lv_irem hx hb dX0_mix_117 (by decide) ?_
            refine top_i (y := nI (i / 7 % 7)) (pk_rem (d := 7) (by omega) (by decide) (by decide)) ?_
            refine lv_istore (lv' := [(9, .int (nI (i / 7 % 7))), (8, .int (nI (i / 49))), (0, .ref o), (1, .int x), (2, .int w), (3, .int (σ 0 0)), (4, .int (σ 4 0)), (5, .int ((fo (xMX x g) i (s1, -1, 0)).2.1)), (6, .int ((fo (xMX x g) i (s1, -1, 0)).2.2)), (7, .int (nI i))]) hx hb dX0_mix_118 hl (by decide) rfl (fun ls hl => ?_)
            refine lv_iload hx hb dX0_mix_120 (lv_at hl 9 rfl) ?_
            refine lv_bipush (v := 7) hx hb dX0_mix_122 (by decide) ?_
            refine lv_irem hx hb dX0_mix_124 (by decide) ?_
            refine top_i (y := nI (i % 7)) (pk_rem (d := 7) (by omega) (by decide) (by decide)) ?_
            refine lv_istore (lv' := [(10, .int (nI (i % 7))), (9, .int (nI (i / 7 % 7))), (8, .int (nI (i / 49))), (0, .ref o), (1, .int x), (2, .int w), (3, .int (σ 0 0)), (4, .int (σ 4 0)), (5, .int ((fo (xMX x g) i (s1, -1, 0)).2.1)), (6, .int ((fo (xMX x g) i (s1, -1, 0)).2.2)), (7, .int (nI i))]) hx hb dX0_mix_125 hl (by decide) rfl (fun ls hl => ?_)
            refine lv_iload hx hb dX0_mix_127 (lv_at hl 2 rfl) ?_
            refine lv_iload hx hb dX0_mix_129 (lv_at hl 1 rfl) ?_
            refine lv_iadd hx hb dX0_mix_131 ?_
            refine lv_iload hx hb dX0_mix_132 (lv_at hl 0 rfl) ?_
            refine lv_iadd hx hb dX0_mix_134 ?_
            refine top_i (y := nI (mixN i)) (by rw [nI_add, nI_add]; rfl) ?_
            refine lv_bipush (v := 6) hx hb dX0_mix_135 (by decide) ?_
            refine lv_icmp_gt (tgt := 202) hx hb dX0_mix_137 (by decide) (fun c137 => ?_) (fun c137 => ?_)
            · refine lv_iinc (v := nI (i + 1)) (lv' := [(7, .int (nI (i + 1))), (10, .int (nI (i % 7))), (9, .int (nI (i / 7 % 7))), (8, .int (nI (i / 49))), (0, .ref o), (1, .int x), (2, .int w), (3, .int (σ 0 0)), (4, .int (σ 4 0)), (5, .int ((fo (xMX x g) i (s1, -1, 0)).2.1)), (6, .int ((fo (xMX x g) i (s1, -1, 0)).2.2))]) hx hb dX0_mix_202 hl (k := 10) rfl (nI_1 _) (by decide) rfl (fun ls hl => ?_)
              refine lv_goto (tgt := 95) hx hb dX0_mix_205 (by decide) ?_
              exact ih95 _ _ ls (x_as I (by simp only [fo, xMX, c137, if_true, if_false])) (lv_as (lv_sub (l' := [(0, .ref o), (1, .int x), (2, .int w), (3, .int (σ 0 0)), (4, .int (σ 4 0)), (5, .int ((fo (xMX x g) i (s1, -1, 0)).2.1)), (6, .int ((fo (xMX x g) i (s1, -1, 0)).2.2)), (7, .int (nI (i + 1)))]) hl [4, 5, 6, 7, 8, 9, 10, 0] rfl) (by simp only [fo, xMX, c137, if_true, if_false]))
            · refine lv_iconst (v := 2) hx hb dX0_mix_140 (by decide) ?_
              refine lv_iload hx hb dX0_mix_141 (lv_at hl 2 rfl) ?_
              refine lv_imul hx hb dX0_mix_143 ?_
              refine lv_iconst (v := 4) hx hb dX0_mix_144 (by decide) ?_
              refine lv_iload hx hb dX0_mix_145 (lv_at hl 1 rfl) ?_
              refine lv_imul hx hb dX0_mix_147 ?_
              refine lv_iadd hx hb dX0_mix_148 ?_
              refine lv_bipush (v := 6) hx hb dX0_mix_149 (by decide) ?_
              refine lv_iload hx hb dX0_mix_151 (lv_at hl 0 rfl) ?_
              refine lv_imul hx hb dX0_mix_153 ?_
              refine lv_iadd hx hb dX0_mix_154 ?_
              refine top_i (y := mixW i) (rfl) ?_
              refine lv_iload_n hx hb dX0_mix_155 rfl (lv_at hl 4 rfl) ?_
              refine lv_icmp_gt (tgt := 202) hx hb dX0_mix_156 (by decide) (fun c156 => ?_) (fun c156 => ?_)
              · refine lv_iinc (v := nI (i + 1)) (lv' := [(7, .int (nI (i + 1))), (10, .int (nI (i % 7))), (9, .int (nI (i / 7 % 7))), (8, .int (nI (i / 49))), (0, .ref o), (1, .int x), (2, .int w), (3, .int (σ 0 0)), (4, .int (σ 4 0)), (5, .int ((fo (xMX x g) i (s1, -1, 0)).2.1)), (6, .int ((fo (xMX x g) i (s1, -1, 0)).2.2))]) hx hb dX0_mix_202 hl (k := 10) rfl (nI_1 _) (by decide) rfl (fun ls hl => ?_)
                refine lv_goto (tgt := 95) hx hb dX0_mix_205 (by decide) ?_
                exact ih95 _ _ ls (x_as I (by simp only [fo, xMX, c137, c156, if_true, if_false])) (lv_as (lv_sub (l' := [(0, .ref o), (1, .int x), (2, .int w), (3, .int (σ 0 0)), (4, .int (σ 4 0)), (5, .int ((fo (xMX x g) i (s1, -1, 0)).2.1)), (6, .int ((fo (xMX x g) i (s1, -1, 0)).2.2)), (7, .int (nI (i + 1)))]) hl [4, 5, 6, 7, 8, 9, 10, 0] rfl) (by simp only [fo, xMX, c137, c156, if_true, if_false]))
              · have hN : mixN i ≤ 6 := nlt_le (a := 6) (by unfold mixN; omega) c137
                refine lv_aload_n hx hb dX0_mix_159 rfl (lv_at hl 3 rfl) ?_
                refine lv_iload hx hb dX0_mix_160 (lv_at hl 2 rfl) ?_
                refine lv_iload hx hb dX0_mix_162 (lv_at hl 1 rfl) ?_
                refine lv_iload hx hb dX0_mix_164 (lv_at hl 0 rfl) ?_
                refine x_cv hC E hK hA hX I (x_layMix l D ty o ad (gE ty o (ad 8) em g ex) (CxX em Cy) hC ((fo (xMX x g) i (s1, -1, 0)).1) (i / 49) (i / 7 % 7) (i % 7) hN) go_x_layMix dc_x_layMix ⟨Nat.le_of_ble_eq_true rfl, Nat.le_of_ble_eq_true rfl⟩ ⟨Nat.le_refl 0, Nat.le_refl 0⟩ hl.1 (Nat.le_of_ble_eq_true rfl) rfl dX0_mix_166 (fun σ166 H locs hp I => ?_)
                have I := x_as I hp
                refine lv_aload_n hx hb dX0_mix_169 rfl (lv_at hl 3 rfl) ?_
                refine lv_bipush (v := (-9)) hx hb dX0_mix_170 (by decide) ?_
                refine x_ci hC E hK hA hX I (x_coinOfDay l D ty o ad em g ex Cy hC hg (xMix ((fo (xMX x g) i (s1, -1, 0)).1) (i / 49) (i / 7 % 7) (i % 7)) (-9) (mixN i) hN (xMix_T _ _ _ _)) go_x_coinOfDay dc_x_coinOfDay ⟨Nat.le_of_ble_eq_true rfl, Nat.le_of_ble_eq_true rfl⟩ ⟨Nat.le_refl 0, Nat.le_refl 0⟩ hl.1 (Nat.le_of_ble_eq_true rfl) rfl dX0_mix_172 (fun r172 σ172 H locs hp I => ?_)
                refine top_i (y := xSum (xTo (xMix ((fo (xMX x g) i (s1, -1, 0)).1) (i / 49) (i / 7 % 7) (i % 7)) g (mixN i) 399 (-9)) g g.1) hp.1 ?_
                have I := x_as I hp.2
                have I := x_as I (show _ = xMixD (fo (xMX x g) i (s1, -1, 0)).1 g i from rfl)
                refine top_i (y := xSum (xMixD (fo (xMX x g) i (s1, -1, 0)).1 g i) g g.1) (rfl) ?_
                refine lv_istore (lv' := [(11, .int (xSum (xMixD (fo (xMX x g) i (s1, -1, 0)).1 g i) g g.1)), (10, .int (nI (i % 7))), (9, .int (nI (i / 7 % 7))), (8, .int (nI (i / 49))), (0, .ref o), (1, .int x), (2, .int w), (3, .int (σ 0 0)), (4, .int (σ 4 0)), (5, .int ((fo (xMX x g) i (s1, -1, 0)).2.1)), (6, .int ((fo (xMX x g) i (s1, -1, 0)).2.2)), (7, .int (nI i))]) hx hb dX0_mix_175 hl (by decide) rfl (fun ls hl => ?_)
                refine lv_iload hx hb dX0_mix_177 (lv_at hl 0 rfl) ?_
                refine lv_iload hx hb dX0_mix_179 (lv_at hl 9 rfl) ?_
                refine lv_icmp_le (tgt := 189) hx hb dX0_mix_181 (by decide) (fun c181 => ?_) (fun c181 => ?_)
                · refine lv_iload hx hb dX0_mix_189 (lv_at hl 10 rfl) ?_
                  refine lv_istore (lv' := [(6, .int ((fo (xMX x g) i (s1, -1, 0)).2.2)), (11, .int (xSum (xMixD (fo (xMX x g) i (s1, -1, 0)).1 g i) g g.1)), (10, .int (nI (i % 7))), (9, .int (nI (i / 7 % 7))), (8, .int (nI (i / 49))), (0, .ref o), (1, .int x), (2, .int w), (3, .int (σ 0 0)), (4, .int (σ 4 0)), (5, .int ((fo (xMX x g) i (s1, -1, 0)).2.1)), (7, .int (nI i))]) hx hb dX0_mix_191 hl (by decide) rfl (fun ls hl => ?_)
                  refine lv_iload hx hb dX0_mix_193 (lv_at hl 10 rfl) ?_
                  refine lv_iload hx hb dX0_mix_195 (lv_at hl 1 rfl) ?_
                  refine va_mmax hx hb (E.2.2.1.trans hl.1.symm) E.2.2.2.1 (E.2.2.2.2 _ q588) (E.2.2.2.2 _ q358) (E.2.2.2.2 _ q89) (E.2.2.2.2 _ q359) (Nat.le_of_ble_eq_true rfl) (Nat.le_of_ble_eq_true rfl) (Nat.le_refl 0) (Nat.le_refl 0) dX0_mix_197 ?_
                  refine top_i (y := (iMax ((fo (xMX x g) i (s1, -1, 0)).2.1) (xSum (xMixD (fo (xMX x g) i (s1, -1, 0)).1 g i) g g.1))) rfl ?_
                  refine lv_istore (lv' := [(5, .int (iMax ((fo (xMX x g) i (s1, -1, 0)).2.1) (xSum (xMixD (fo (xMX x g) i (s1, -1, 0)).1 g i) g g.1))), (6, .int ((fo (xMX x g) i (s1, -1, 0)).2.2)), (11, .int (xSum (xMixD (fo (xMX x g) i (s1, -1, 0)).1 g i) g g.1)), (10, .int (nI (i % 7))), (9, .int (nI (i / 7 % 7))), (8, .int (nI (i / 49))), (0, .ref o), (1, .int x), (2, .int w), (3, .int (σ 0 0)), (4, .int (σ 4 0)), (7, .int (nI i))]) hx hb dX0_mix_200 hl (by decide) rfl (fun ls hl => ?_)
                  refine lv_iinc (v := nI (i + 1)) (lv' := [(7, .int (nI (i + 1))), (5, .int (iMax ((fo (xMX x g) i (s1, -1, 0)).2.1) (xSum (xMixD (fo (xMX x g) i (s1, -1, 0)).1 g i) g g.1))), (6, .int ((fo (xMX x g) i (s1, -1, 0)).2.2)), (11, .int (xSum (xMixD (fo (xMX x g) i (s1, -1, 0)).1 g i) g g.1)), (10, .int (nI (i % 7))), (9, .int (nI (i / 7 % 7))), (8, .int (nI (i / 49))), (0, .ref o), (1, .int x), (2, .int w), (3, .int (σ 0 0)), (4, .int (σ 4 0))]) hx hb dX0_mix_202 hl (k := 11) rfl (nI_1 _) (by decide) rfl (fun ls hl => ?_)
                  refine lv_goto (tgt := 95) hx hb dX0_mix_205 (by decide) ?_
                  exact ih95 _ _ ls (x_as I (by simp only [fo, xMX, c137, c156, c181, if_true, if_false])) (lv_as (lv_sub (l' := [(0, .ref o), (1, .int x), (2, .int w), (3, .int (σ 0 0)), (4, .int (σ 4 0)), (5, .int (iMax ((fo (xMX x g) i (s1, -1, 0)).2.1) (xSum (xMixD (fo (xMX x g) i (s1, -1, 0)).1 g i) g g.1))), (6, .int ((fo (xMX x g) i (s1, -1, 0)).2.2)), (7, .int (nI (i + 1)))]) hl [7, 8, 9, 10, 11, 1, 2, 0] rfl) (by simp only [fo, xMX, c137, c156, c181, if_true, if_false]))
                · refine lv_iload hx hb dX0_mix_184 (lv_at hl 11 rfl) ?_
                  refine lv_goto (tgt := 191) hx hb dX0_mix_186 (by decide) ?_
                  refine lv_istore (lv' := [(6, .int (nI i)), (11, .int (xSum (xMixD (fo (xMX x g) i (s1, -1, 0)).1 g i) g g.1)), (10, .int (nI (i % 7))), (9, .int (nI (i / 7 % 7))), (8, .int (nI (i / 49))), (0, .ref o), (1, .int x), (2, .int w), (3, .int (σ 0 0)), (4, .int (σ 4 0)), (5, .int ((fo (xMX x g) i (s1, -1, 0)).2.1)), (7, .int (nI i))]) hx hb dX0_mix_191 hl (by decide) rfl (fun ls hl => ?_)
                  refine lv_iload hx hb dX0_mix_193 (lv_at hl 10 rfl) ?_
                  refine lv_iload hx hb dX0_mix_195 (lv_at hl 1 rfl) ?_
                  refine va_mmax hx hb (E.2.2.1.trans hl.1.symm) E.2.2.2.1 (E.2.2.2.2 _ q588) (E.2.2.2.2 _ q358) (E.2.2.2.2 _ q89) (E.2.2.2.2 _ q359) (Nat.le_of_ble_eq_true rfl) (Nat.le_of_ble_eq_true rfl) (Nat.le_refl 0) (Nat.le_refl 0) dX0_mix_197 ?_
                  refine top_i (y := (iMax ((fo (xMX x g) i (s1, -1, 0)).2.1) (xSum (xMixD (fo (xMX x g) i (s1, -1, 0)).1 g i) g g.1))) rfl ?_
                  refine lv_istore (lv' := [(5, .int (iMax ((fo (xMX x g) i (s1, -1, 0)).2.1) (xSum (xMixD (fo (xMX x g) i (s1, -1, 0)).1 g i) g g.1))), (6, .int (nI i)), (11, .int (xSum (xMixD (fo (xMX x g) i (s1, -1, 0)).1 g i) g g.1)), (10, .int (nI (i % 7))), (9, .int (nI (i / 7 % 7))), (8, .int (nI (i / 49))), (0, .ref o), (1, .int x), (2, .int w), (3, .int (σ 0 0)), (4, .int (σ 4 0)), (7, .int (nI i))]) hx hb dX0_mix_200 hl (by decide) rfl (fun ls hl => ?_)
                  refine lv_iinc (v := nI (i + 1)) (lv' := [(7, .int (nI (i + 1))), (5, .int (iMax ((fo (xMX x g) i (s1, -1, 0)).2.1) (xSum (xMixD (fo (xMX x g) i (s1, -1, 0)).1 g i) g g.1))), (6, .int (nI i)), (11, .int (xSum (xMixD (fo (xMX x g) i (s1, -1, 0)).1 g i) g g.1)), (10, .int (nI (i % 7))), (9, .int (nI (i / 7 % 7))), (8, .int (nI (i / 49))), (0, .ref o), (1, .int x), (2, .int w), (3, .int (σ 0 0)), (4, .int (σ 4 0))]) hx hb dX0_mix_202 hl (k := 11) rfl (nI_1 _) (by decide) rfl (fun ls hl => ?_)
                  refine lv_goto (tgt := 95) hx hb dX0_mix_205 (by decide) ?_
                  exact ih95 _ _ ls (x_as I (by simp only [fo, xMX, c137, c156, c181, if_true, if_false])) (lv_as (lv_sub (l' := [(0, .ref o), (1, .int x), (2, .int w), (3, .int (σ 0 0)), (4, .int (σ 4 0)), (5, .int (iMax ((fo (xMX x g) i (s1, -1, 0)).2.1) (xSum (xMixD (fo (xMX x g) i (s1, -1, 0)).1 g i) g g.1))), (6, .int (nI i)), (7, .int (nI (i + 1)))]) hl [7, 8, 9, 10, 11, 1, 2, 0] rfl) (by simp only [fo, xMX, c137, c156, c181, if_true, if_false]))
        exact L95 0 (Nat.zero_le _) _ _ ls (x_as I (rfl)) (lv_as (lv_sub (l' := [(0, .ref o), (1, .int x), (2, .int w), (3, .int (σ 0 0)), (4, .int (σ 4 0)), (5, .int (-1)), (6, .int 0), (7, .int 0)]) hl [5, 6, 7, 4, 3, 2, 1, 0] rfl) (rfl))
      · refine lv_bipush (v := (-3)) hx hb dX0_mix_36 (by decide) ?_
        subst hQ
        exact r_i E hlk hr I (Nat.le_refl 0) (Nat.le_refl 0) dX0_mix_38 (⟨by simp [c11, c23, c33], by simp [c11, c23, c33]⟩)
    · refine lv_bipush (v := (-2)) hx hb dX0_mix_26 (by decide) ?_
      subst hQ
      exact r_i E hlk hr I (Nat.le_refl 0) (Nat.le_refl 0) dX0_mix_28 (⟨by simp [c11, c23], by simp [c11, c23]⟩)
theorem dc_x_mix : yX0_mix.cls = RX0 ∧ yX0_mix.cls ≠ "java/lang/invoke/MethodHandle" ∧ yX0_mix.cls ≠ "java/lang/invoke/VarHandle" ∧ (parseMethodDescriptor yX0_mix.desc).map (fun d => d.parameters.length) = some 2 := by decide +kernel
