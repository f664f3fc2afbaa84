set_option maxRecDepth 100000
set_option maxHeartbeats 4000000
def lNa (x : Int64) : Nat := x.toInt.natAbs
theorem i64_b {z : Int} (h : z.natAbs < 2 ^ 63) : z.bmod (2 ^ 64) = z := by
  apply Int.bmod_eq_of_le <;> omega
theorem l_rem {x y : Int64} (hx : lNa x < 2 ^ 63) : lNa (x - x / y * y) = lNa x % lNa y := by
  unfold lNa at *
  have h1 : (x / y).toInt = x.toInt.tdiv y.toInt := by
    rw [Int64.toInt_div]
    apply i64_b
    rw [Int.natAbs_tdiv]
    exact Nat.lt_of_le_of_lt (Nat.div_le_self _ _) hx
  have h2 : (x / y * y).toInt = x.toInt.tdiv y.toInt * y.toInt := by
    rw [Int64.toInt_mul, h1]
    apply i64_b
    rw [Int.natAbs_mul, Int.natAbs_tdiv]
    exact Nat.lt_of_le_of_lt (Nat.div_mul_le_self _ _) hx
  have h3 : x.toInt - x.toInt.tdiv y.toInt * y.toInt = x.toInt.tmod y.toInt := by
    have := Int.mul_tdiv_add_tmod x.toInt y.toInt
    rw [Int.mul_comm] at this
    omega
  have h4 : (x - x / y * y).toInt = x.toInt.tmod y.toInt := by
    rw [Int64.toInt_sub, h2, h3]
    apply i64_b
    rw [Int.natAbs_tmod]
    exact Nat.lt_of_le_of_lt (Nat.mod_le _ _) hx
  rw [h4, Int.natAbs_tmod]
theorem lNa_0 {x : Int64} (h : lNa x = 0) : x = 0 := by
  apply Int64.toInt_inj.mp
  have : x.toInt = 0 := Int.natAbs_eq_zero.mp h
  rw [this]; rfl
theorem lNa_p {x : Int64} (h : ¬ x = 0) : 0 < lNa x := by
  rcases Nat.eq_zero_or_pos (lNa x) with h1 | h1
  · exact absurd (lNa_0 h1) h
  · exact h1
theorem lAb_lN {x : Int64} (hx : lNa x < 2 ^ 63) : lAb x = lN (lNa x) := by
  apply Int64.toInt_inj.mp
  rw [pk_lT hx]
  unfold lAb lNa at *
  by_cases h : 0 < x
  · rw [if_pos h]
    have h1 : (0 : Int64).toInt < x.toInt := Int64.lt_iff_toInt_lt.mp h
    have h0 : (0 : Int64).toInt = 0 := rfl
    omega
  · rw [if_neg h, Int64.toInt_neg]
    have h1 : ¬ (0 : Int64).toInt < x.toInt := fun q => h (Int64.lt_iff_toInt_lt.mpr q)
    have h0 : (0 : Int64).toInt = 0 := rfl
    rw [i64_b (by rw [Int.natAbs_neg]; exact hx)]
    omega
theorem lNa_lN {b : Nat} (hb : b < 2 ^ 63) : lNa (lN b) = b := by
  unfold lNa
  rw [pk_lT hb]; rfl
abbrev gcP (l : Launch) (k : Nat) (a b : Int64) : Prop := Pl l yX0_common cX0_common 4 (rmL k) [.long a, .long b] (fun r => r = lN (Nat.gcd (lNa a) (lNa b)))
theorem go_x_common : GoodIn lw_all (va_wsS RX0 9 yX0_common (ws_ yX0_common cX0_common 4 (some .long))) := lw_S q636 q637 q71 q638
theorem dc_x_common : yX0_common.cls ≠ "java/lang/invoke/MethodHandle" ∧ yX0_common.cls ≠ "java/lang/invoke/VarHandle" ∧ (parseMethodDescriptor yX0_common.desc).map (fun d => d.parameters.length) = some 2 := by decide +kernel
theorem x_common_b (l : Launch) (k : Nat) (a b : Int64) (ha : lNa a < 2 ^ 63) (hH : ¬ b = 0 → gcP l k b (a - a / b * b)) : gcP l (k + 1) a b := by
  refine Pl.of (by decide) (Nat.le_of_ble_eq_true rfl) ?_
  intro p e s m below meth c ls args E hlk hr hl
  have hx := E.1
  have hb := E.2.1
  have hl : lv_has ls 4 [(0, .long a), (2, .long b)] := hl
  refine lv_lload_n hx hb dX0_common_0 rfl (lv_at hl 1 rfl) ?_
  refine lv_lconst (v := 0) hx hb dX0_common_1 (by decide) ?_
  refine l_ne (tgt := 13) hx hb dX0_common_2 dX0_common_3 (by decide) (fun c3 => ?_) (fun c3 => ?_)
  · refine lv_lload_n hx hb dX0_common_13 rfl (lv_at hl 1 rfl) ?_
    refine lv_lload_n hx hb dX0_common_14 rfl (lv_at hl 0 rfl) ?_
    refine lv_lload_n hx hb dX0_common_15 rfl (lv_at hl 1 rfl) ?_
    refine lv_lrem hx hb dX0_common_16 (c3) ?_
    refine c_Sl (rm := rmL k) E (hH c3) go_x_common ⟨rfl, rfl⟩ dc_x_common ⟨Nat.le_refl _, by simp only [rmL]; omega⟩ ⟨Nat.le_refl 0, Nat.le_refl 0⟩ hl.1 (Nat.le_of_ble_eq_true rfl) rfl dX0_common_17 (fun r14 hp => ?_)
    refine top_l (y := lN (Nat.gcd (lNa b) (lNa (a - a / b * b)))) hp ?_
    exact s_l E hlk hr dX0_common_20 (by rw [l_rem ha, Nat.gcd_comm (lNa b), ← Nat.gcd_rec, Nat.gcd_comm])
  · refine lv_lload_n hx hb dX0_common_6 rfl (lv_at hl 0 rfl) ?_
    refine va_mabs_long hx hb (E.2.2.1.trans hl.1.symm) E.2.2.2.1 (E.2.2.2.2 _ q639) (E.2.2.2.2 _ q640) (E.2.2.2.2 _ q89) (E.2.2.2.2 _ q641) (by simp only [rmL]; omega) (by simp only [rmL, List.map_nil, List.sum_nil]; omega) (Nat.le_refl 0) (Nat.le_refl 0) dX0_common_7 ?_
    refine top_l (y := (lAb a)) rfl ?_
    refine lv_goto (tgt := 20) hx hb dX0_common_10 (by decide) ?_
    exact s_l E hlk hr dX0_common_20 (by subst c3; rw [lAb_lN ha]; simp [lNa])
theorem x_common (l : Launch) : ∀ (n : Nat) (a b : Int64) (k : Nat), lNa a < 2 ^ 63 → lNa b < 2 ^ 63 → lNa b < 2 ^ n → 2 * n + 1 ≤ k → gcP l k a b
  | 0, a, b, k, ha, hb, hn, hk => by
    obtain ⟨k, rfl⟩ : ∃ j, k = j + 1 := ⟨k - 1, by omega⟩
    refine x_common_b l k a b ha (fun h => absurd (lNa_p h) (by simp at hn; omega))
  | n + 1, a, b, k, ha, hb, hn, hk => by
    obtain ⟨k, rfl⟩ : ∃ j, k = j + 1 + 1 := ⟨k - 2, by omega⟩
    refine x_common_b l (k + 1) a b ha (fun h => ?_)
    have hp := lNa_p h
    have e1 := l_rem (y := b) ha
    have l1 : lNa (a - a / b * b) < lNa b := by rw [e1]; exact Nat.mod_lt _ hp
    by_cases hc : lNa (a - a / b * b) < 2 ^ n
    · exact x_common l n b _ (k + 1) hb (by omega) hc (by omega)
    · refine x_common_b l k b _ hb (fun h2 => ?_)
      have e2 := l_rem (y := a - a / b * b) hb
      have e3 : lNa b % lNa (a - a / b * b) = lNa b - lNa (a - a / b * b) := by
        rw [Nat.mod_eq_sub_mod (by omega), Nat.mod_eq_of_lt]
        have : 2 ^ (n + 1) = 2 * 2 ^ n := by rw [Nat.pow_succ]; omega
        omega
      have e4 : 2 ^ (n + 1) = 2 * 2 ^ n := by rw [Nat.pow_succ]; omega
      refine x_common l n _ _ k (by omega) (by omega) (by omega) (by omega)
theorem x_told (l : Launch) (x : Int64) (b : Nat) (w : Int32) (hx1 : lNa x < 2 ^ 63) (hb0 : b < 2 ^ 60) (hbp : 0 < b) : Pl l yX0_told cX0_told 5 (rmL 122) [.long x, .long (lN b), .int w] (fun r => r = (if w = 0 then x / lN (Nat.gcd (lNa x) b) else lN b / lN (Nat.gcd (lNa x) b))) := by
  refine Pl.of (by decide) (Nat.le_of_ble_eq_true rfl) ?_
  intro p e s m below meth c ls args E hlk hr hl
  have hx := E.1
  have hb := E.2.1
  have hl : lv_has ls 5 [(0, .long x), (2, .long (lN b)), (4, .int w)] := hl
  refine lv_iload hx hb dX0_told_0 (lv_at hl 2 rfl) ?_
  refine lv_if_ne (tgt := 9) hx hb dX0_told_2 (by decide) (fun c2 => ?_) (fun c2 => ?_)
  · refine lv_lload_n hx hb dX0_told_9 rfl (lv_at hl 1 rfl) ?_
    refine lv_lload_n hx hb dX0_told_10 rfl (lv_at hl 0 rfl) ?_
    refine lv_lload_n hx hb dX0_told_11 rfl (lv_at hl 1 rfl) ?_
    refine c_Sl (rm := rmL 121) E (x_common l 60 x (lN b) 121 hx1 (by rw [lNa_lN (by omega)]; omega) (by rw [lNa_lN (by omega)]; exact hb0) (by omega)) go_x_common ⟨rfl, rfl⟩ dc_x_common ⟨Nat.le_of_ble_eq_true rfl, Nat.le_of_ble_eq_true rfl⟩ ⟨Nat.le_refl 0, Nat.le_refl 0⟩ hl.1 (Nat.le_of_ble_eq_true rfl) rfl dX0_told_12 (fun r12 hp => ?_)
    refine top_l (y := lN (Nat.gcd (lNa x) b)) (hp.trans (by rw [lNa_lN (by omega)])) ?_
    have hg1 : 0 < Nat.gcd (lNa x) b := Nat.gcd_pos_of_pos_right _ hbp
    have hg2 : Nat.gcd (lNa x) b < 2 ^ 63 := Nat.lt_of_le_of_lt (Nat.gcd_le_right _ hbp) (by omega)
    refine lv_ldiv hx hb dX0_told_15 (lN_ne0 hg2 hg1) ?_
    exact s_l E hlk hr dX0_told_16 (by simp [c2])
  · refine lv_lload_n hx hb dX0_told_5 rfl (lv_at hl 0 rfl) ?_
    refine lv_goto (tgt := 10) hx hb dX0_told_6 (by decide) ?_
    refine lv_lload_n hx hb dX0_told_10 rfl (lv_at hl 0 rfl) ?_
    refine lv_lload_n hx hb dX0_told_11 rfl (lv_at hl 1 rfl) ?_
    refine c_Sl (rm := rmL 121) E (x_common l 60 x (lN b) 121 hx1 (by rw [lNa_lN (by omega)]; omega) (by rw [lNa_lN (by omega)]; exact hb0) (by omega)) go_x_common ⟨rfl, rfl⟩ dc_x_common ⟨Nat.le_of_ble_eq_true rfl, Nat.le_of_ble_eq_true rfl⟩ ⟨Nat.le_refl 0, Nat.le_refl 0⟩ hl.1 (Nat.le_of_ble_eq_true rfl) rfl dX0_told_12 (fun r12 hp => ?_)
    refine top_l (y := lN (Nat.gcd (lNa x) b)) (hp.trans (by rw [lNa_lN (by omega)])) ?_
    have hg1 : 0 < Nat.gcd (lNa x) b := Nat.gcd_pos_of_pos_right _ hbp
    have hg2 : Nat.gcd (lNa x) b < 2 ^ 63 := Nat.lt_of_le_of_lt (Nat.gcd_le_right _ hbp) (by omega)
    refine lv_ldiv hx hb dX0_told_15 (lN_ne0 hg2 hg1) ?_
    exact s_l E hlk hr dX0_told_16 (by simp [c2])
theorem dc_x_told : yX0_told.cls ≠ "java/lang/invoke/MethodHandle" ∧ yX0_told.cls ≠ "java/lang/invoke/VarHandle" ∧ (parseMethodDescriptor yX0_told.desc).map (fun d => d.parameters.length) = some 3 := by decide +kernel
theorem go_x_told : GoodIn lw_all (va_wsS RX0 297 yX0_told (ws_ yX0_told cX0_told 5 (some .long))) := lw_S q633 q634 q71 q635
def nxR (n : Nat) (x d a b w : Int32) : Int64 := if w = 0 then axS n x d a b (2 ^ n) / lN (Nat.gcd (lNa (axS n x d a b (2 ^ n))) (100 ^ n)) else lN (100 ^ n) / lN (Nat.gcd (lNa (axS n x d a b (2 ^ n))) (100 ^ n))
def axOK (x d a b : Int32) : Prop := ∀ n, n ≤ 8 → lNa (axS n x d a b (2 ^ n)) < 2 ^ 63
theorem hpow2 : ∀ n, n ≤ 8 → 0 < 100 ^ n ∧ 100 ^ n < 2 ^ 60 := by decide +kernel
theorem x_names (l : Launch) (D : va_G) (ty : Nat → ClassId) (o : Nat) (ad : Nat → Nat) (ex : va_W) (Cx : (Nat → Prop) → State → Prop) (hC : CxOk Cx) (σ : Sg) (k : Int32) (x : Int32) (d : Int32) (a : Int32) (b : Int32) (w : Int32) (hO : mBook x d a b = true → axOK x d a b) : xKl l yX0_names cX0_names 7 123 D ty Cx o ad ex σ [.int k, .int x, .int d, .int a, .int b, .int w] (fun r τ => r = (if wi k 0 8 && mBook x d a b && wi w 0 1 then nxR (k).toNatClampNeg x d a b w else (-9223372036854775808)) ∧ τ = σ) := by
  refine Kl.of (by decide) (Nat.le_of_ble_eq_true rfl) ?_
  intro p e s m below meth c A ls args E hK hA hX hlk hr I hl
  have hx := E.1
  have hb := E.2.1
  have hl : lv_has ls 7 [(0, .ref o), (1, .int k), (2, .int x), (3, .int d), (4, .int a), (5, .int b), (6, .int w)] := hl
  refine lv_iload_n hx hb dX0_names_0 rfl (lv_at hl 1 rfl) ?_
  refine lv_i2l hx hb dX0_names_1 rfl ?_
  refine lv_lconst (v := 0) hx hb dX0_names_2 (by decide) ?_
  refine top_l (y := (0 : Int32).toInt64) (by decide) ?_
  refine lv_ldc2 (v := 8) hx hb E.2.2.2.1 (E.2.2.2.2 _ q615) dX0_names_3 ?_
  refine top_l (y := (8 : Int32).toInt64) (by decide) ?_
  refine c_Si E (x_in l k 0 8) go_x_in ⟨rfl, rfl⟩ dc_x_in ⟨Nat.le_of_ble_eq_true rfl, Nat.le_of_ble_eq_true rfl⟩ ⟨Nat.le_refl 0, Nat.le_refl 0⟩ hl.1 (Nat.le_of_ble_eq_true rfl) rfl dX0_names_6 (fun r6 hp => ?_)
  refine top_i (y := bI (wi k 0 8)) hp ?_
  refine b_eq (tgt := 35) hx hb dX0_names_9 (by decide) (fun c9 => ?_) (fun c9 => ?_)
  · refine lv_ldc2 (v := (-9223372036854775808)) hx hb E.2.2.2.1 (E.2.2.2.2 _ q568) dX0_names_35 ?_
    exact r_l E hlk hr I (Nat.le_refl 0) (Nat.le_refl 0) dX0_names_38 (⟨by simp [c9], rfl⟩)
  · refine lv_iload_n hx hb dX0_names_12 rfl (lv_at hl 2 rfl) ?_
    refine lv_iload_n hx hb dX0_names_13 rfl (lv_at hl 3 rfl) ?_
    refine lv_iload hx hb dX0_names_14 (lv_at hl 4 rfl) ?_
    refine lv_iload hx hb dX0_names_16 (lv_at hl 5 rfl) ?_
    refine c_Si E (x_isBook l x d a b) go_x_isBook ⟨rfl, rfl⟩ dc_x_isBook ⟨Nat.le_of_ble_eq_true rfl, Nat.le_of_ble_eq_true rfl⟩ ⟨Nat.le_refl 0, Nat.le_refl 0⟩ hl.1 (Nat.le_of_ble_eq_true rfl) rfl dX0_names_18 (fun r18 hp => ?_)
    refine top_i (y := bI (mBook x d a b)) hp ?_
    refine b_eq (tgt := 35) hx hb dX0_names_21 (by decide) (fun c21 => ?_) (fun c21 => ?_)
    · refine lv_ldc2 (v := (-9223372036854775808)) hx hb E.2.2.2.1 (E.2.2.2.2 _ q568) dX0_names_35 ?_
      exact r_l E hlk hr I (Nat.le_refl 0) (Nat.le_refl 0) dX0_names_38 (⟨by simp [c9, c21], rfl⟩)
    · refine lv_iload hx hb dX0_names_24 (lv_at hl 6 rfl) ?_
      refine lv_i2l hx hb dX0_names_26 rfl ?_
      refine lv_lconst (v := 0) hx hb dX0_names_27 (by decide) ?_
      refine top_l (y := (0 : Int32).toInt64) (by decide) ?_
      refine lv_lconst (v := 1) hx hb dX0_names_28 (by decide) ?_
      refine top_l (y := (1 : Int32).toInt64) (by decide) ?_
      refine c_Si E (x_in l w 0 1) go_x_in ⟨rfl, rfl⟩ dc_x_in ⟨Nat.le_of_ble_eq_true rfl, Nat.le_of_ble_eq_true rfl⟩ ⟨Nat.le_refl 0, Nat.le_refl 0⟩ hl.1 (Nat.le_of_ble_eq_true rfl) rfl dX0_names_29 (fun r29 hp => ?_)
      refine top_i (y := bI (wi w 0 1)) hp ?_
      refine b_ne (tgt := 39) hx hb dX0_names_32 (by decide) (fun c32 => ?_) (fun c32 => ?_)
      · obtain ⟨j, hj, ej⟩ := wi_nat (n := 8) (by decide) c9
        subst ej
        refine lv_iload_n hx hb dX0_names_39 rfl (lv_at hl 1 rfl) ?_
        refine lv_iload_n hx hb dX0_names_40 rfl (lv_at hl 2 rfl) ?_
        refine lv_iload_n hx hb dX0_names_41 rfl (lv_at hl 3 rfl) ?_
        refine lv_iload hx hb dX0_names_42 (lv_at hl 4 rfl) ?_
        refine lv_iload hx hb dX0_names_44 (lv_at hl 5 rfl) ?_
        refine c_Sl E (x_awaited l j x d a b (by omega)) go_x_awaited ⟨rfl, rfl⟩ dc_x_awaited ⟨Nat.le_of_ble_eq_true rfl, Nat.le_of_ble_eq_true rfl⟩ ⟨Nat.le_refl 0, Nat.le_refl 0⟩ hl.1 (Nat.le_of_ble_eq_true rfl) rfl dX0_names_46 (fun r46 hp => ?_)
        refine top_l (y := axS j x d a b (2 ^ j)) hp ?_
        refine lv_iload_n hx hb dX0_names_49 rfl (lv_at hl 1 rfl) ?_
        refine c_Sl E (x_hundreds l j (by omega) 9 (by omega)) go_x_hundreds ⟨rfl, rfl⟩ dc_x_hundreds ⟨Nat.le_of_ble_eq_true rfl, Nat.le_of_ble_eq_true rfl⟩ ⟨Nat.le_refl 0, Nat.le_refl 0⟩ hl.1 (Nat.le_of_ble_eq_true rfl) rfl dX0_names_50 (fun r50 hp => ?_)
        refine top_l (y := hun j) hp ?_
        refine top_l (y := lN (100 ^ j)) (hun_lN j hj) ?_
        refine lv_iload hx hb dX0_names_53 (lv_at hl 6 rfl) ?_
        refine c_Sl E (x_told l (axS j x d a b (2 ^ j)) (100 ^ j) w (hO c21 j hj) (hpow2 j hj).2 (hpow2 j hj).1) go_x_told ⟨rfl, rfl⟩ dc_x_told ⟨Nat.le_of_ble_eq_true rfl, Nat.le_of_ble_eq_true rfl⟩ ⟨Nat.le_refl 0, Nat.le_refl 0⟩ hl.1 (Nat.le_of_ble_eq_true rfl) rfl dX0_names_55 (fun r55 hp => ?_)
        refine top_l (y := (if w = 0 then (axS j x d a b (2 ^ j)) / lN (Nat.gcd (lNa (axS j x d a b (2 ^ j))) (100 ^ j)) else lN (100 ^ j) / lN (Nat.gcd (lNa (axS j x d a b (2 ^ j))) (100 ^ j)))) hp ?_
        exact r_l E hlk hr I (Nat.le_refl 0) (Nat.le_refl 0) dX0_names_58 (⟨by simp only [c9, c21, c32, Bool.and_self, if_true, nI_clamp (show j < 2 ^ 31 by omega)]; rfl, rfl⟩)
      · refine lv_ldc2 (v := (-9223372036854775808)) hx hb E.2.2.2.1 (E.2.2.2.2 _ q568) dX0_names_35 ?_
        exact r_l E hlk hr I (Nat.le_refl 0) (Nat.le_refl 0) dX0_names_38 (⟨by simp [c9, c21, c32], rfl⟩)
theorem dc_x_names : yX0_names.cls = RX0 ∧ yX0_names.cls ≠ "java/lang/invoke/MethodHandle" ∧ yX0_names.cls ≠ "java/lang/invoke/VarHandle" ∧ (parseMethodDescriptor yX0_names.desc).map (fun d => d.parameters.length) = some 6 := by decide +kernel
def tkX (x d a b : Int32) (i : Nat) (z : Int32 × Int64) : Int32 × Int64 := (if axS (i + 1) x d a b (2 ^ (i + 1)) * hun (7 - i) ≤ z.2 then z.1 else nI (i + 1), lMax z.2 (axS (i + 1) x d a b (2 ^ (i + 1)) * hun (7 - i)))
theorem x_take (l : Launch) (D : va_G) (ty : Nat → ClassId) (o : Nat) (ad : Nat → Nat) (ex : va_W) (Cx : (Nat → Prop) → State → Prop) (hC : CxOk Cx) (σ : Sg) (x : Int32) (d : Int32) (a : Int32) (b : Int32) : xKi l yX0_take cX0_take 11 .int 10 D ty Cx o ad ex σ [.int x, .int d, .int a, .int b] (fun r τ => r = (if mBook x d a b then (fo (tkX x d a b) 8 (0, 0)).1 else (-2)) ∧ τ = σ) := by
  refine Ki.of (by decide) (Nat.le_of_ble_eq_true rfl) ?_
  intro p e s m below meth c A ls args E hK hA hX hlk hr I hl
  have hx := E.1
  have hb := E.2.1
  have hl : lv_has ls 11 [(0, .ref o), (1, .int x), (2, .int d), (3, .int a), (4, .int b)] := hl
  refine nameQ (fun Q hQ => ?_)
  refine lv_iload_n hx hb dX0_take_0 rfl (lv_at hl 1 rfl) ?_
  refine lv_iload_n hx hb dX0_take_1 rfl (lv_at hl 2 rfl) ?_
  refine lv_iload_n hx hb dX0_take_2 rfl (lv_at hl 3 rfl) ?_
  refine lv_iload hx hb dX0_take_3 (lv_at hl 4 rfl) ?_
  refine c_Si E (x_isBook l x d a b) go_x_isBook ⟨rfl, rfl⟩ dc_x_isBook ⟨Nat.le_of_ble_eq_true rfl, Nat.le_of_ble_eq_true rfl⟩ ⟨Nat.le_refl 0, Nat.le_refl 0⟩ hl.1 (Nat.le_of_ble_eq_true rfl) rfl dX0_take_5 (fun r5 hp => ?_)
  refine top_i (y := bI (mBook x d a b)) hp ?_
  refine b_ne (tgt := 14) hx hb dX0_take_8 (by decide) (fun c8 => ?_) (fun c8 => ?_)
  · refine lv_iconst (v := 0) hx hb dX0_take_14 (by decide) ?_
    refine lv_istore (lv' := [(5, .int 0), (0, .ref o), (1, .int x), (2, .int d), (3, .int a), (4, .int b)]) hx hb dX0_take_15 hl (by decide) rfl (fun ls hl => ?_)
    refine lv_lconst (v := 0) hx hb dX0_take_17 (by decide) ?_
    refine lv_lstore (lv' := [(6, .long 0), (5, .int 0), (0, .ref o), (1, .int x), (2, .int d), (3, .int a), (4, .int b)]) hx hb dX0_take_18 hl (by decide) rfl (fun ls hl => ?_)
    refine lv_iconst (v := 1) hx hb dX0_take_20 (by decide) ?_
    refine lv_istore (lv' := [(8, .int 1), (6, .long 0), (5, .int 0), (0, .ref o), (1, .int x), (2, .int d), (3, .int a), (4, .int b)]) hx hb dX0_take_21 hl (by decide) rfl (fun ls hl => ?_)
    have L23 : ∀ i, i ≤ 8 → ∀ (H : Heap) (locs : List Loc) (ls : Array Slot), gI s D A (xW ty o ad ex σ) H locs → lv_has ls 11 [(0, .ref o), (1, .int x), (2, .int d), (3, .int a), (4, .int b), (5, .int ((fo (tkX x d a b) i (0, 0)).1)), (6, .long ((fo (tkX x d a b) i (0, 0)).2)), (8, .int (nI (i + 1)))] → W p l e (rmL 10) s m args below meth c H locs 0 0 Q (F0 m 23 ls []) := by
      refine dn_ind 8 ?_ ?_
      · intro H locs ls I hl
        refine lv_iload hx hb dX0_take_23 (lv_at hl 7 rfl) ?_
        refine lv_bipush (v := 8) hx hb dX0_take_25 (by decide) ?_
        refine lv_icmp_gt (tgt := 83) hx hb dX0_take_27 (by decide) (fun c27 => ?_) (fun c27 => absurd c27 (fun h => h (by decide)))
        refine lv_iload hx hb dX0_take_83 (lv_at hl 5 rfl) ?_
        subst hQ
        exact r_i E hlk hr I (Nat.le_refl 0) (Nat.le_refl 0) dX0_take_85 (⟨by simp only [c8, if_true], rfl⟩)
      · intro i hi ih23 H locs ls I hl
        refine lv_iload hx hb dX0_take_23 (lv_at hl 7 rfl) ?_
        refine lv_bipush (v := 8) hx hb dX0_take_25 (by decide) ?_
        refine lv_icmp_gt (tgt := 83) hx hb dX0_take_27 (by decide) (fun c27 => absurd c27 (nI_nlt (a := 8) (by omega) (by omega))) (fun c27 => ?_)
        refine lv_iload hx hb dX0_take_30 (lv_at hl 7 rfl) ?_
        refine lv_iload_n hx hb dX0_take_32 rfl (lv_at hl 1 rfl) ?_
        refine lv_iload_n hx hb dX0_take_33 rfl (lv_at hl 2 rfl) ?_
        refine lv_iload_n hx hb dX0_take_34 rfl (lv_at hl 3 rfl) ?_
        refine lv_iload hx hb dX0_take_35 (lv_at hl 4 rfl) ?_
        refine c_Sl E (x_awaited l (i + 1) x d a b (by omega)) go_x_awaited ⟨rfl, rfl⟩ dc_x_awaited ⟨Nat.le_of_ble_eq_true rfl, Nat.le_of_ble_eq_true rfl⟩ ⟨Nat.le_refl 0, Nat.le_refl 0⟩ hl.1 (Nat.le_of_ble_eq_true rfl) rfl dX0_take_37 (fun r37 hp => ?_)
        refine top_l (y := axS (i + 1) x d a b (2 ^ (i + 1))) hp ?_
        refine lv_bipush (v := 8) hx hb dX0_take_40 (by decide) ?_
        refine lv_iload hx hb dX0_take_42 (lv_at hl 7 rfl) ?_
        refine lv_isub hx hb dX0_take_44 ?_
        refine top_i (y := nI (7 - i)) ((pk_sub (a := 8) (b := i + 1) (by omega)).trans (by rw [show 8 - (i + 1) = 7 - i by omega])) ?_
        refine c_Sl E (x_hundreds l (7 - i) (by omega) 9 (by omega)) go_x_hundreds ⟨rfl, rfl⟩ dc_x_hundreds ⟨Nat.le_of_ble_eq_true rfl, Nat.le_of_ble_eq_true rfl⟩ ⟨Nat.le_refl 0, Nat.le_refl 0⟩ hl.1 (Nat.le_of_ble_eq_true rfl) rfl dX0_take_45 (fun r45 hp => ?_)
        refine top_l (y := hun (7 - i)) hp ?_
        refine lv_lmul hx hb dX0_take_48 ?_
        refine lv_lstore (lv' := [(9, .long ((axS (i + 1) x d a b (2 ^ (i + 1))) * (hun (7 - i)))), (0, .ref o), (1, .int x), (2, .int d), (3, .int a), (4, .int b), (5, .int ((fo (tkX x d a b) i (0, 0)).1)), (6, .long ((fo (tkX x d a b) i (0, 0)).2)), (8, .int (nI (i + 1)))]) hx hb dX0_take_49 hl (by decide) rfl (fun ls hl => ?_)
        refine lv_lload hx hb dX0_take_51 (lv_at hl 0 rfl) ?_
        refine lv_lload hx hb dX0_take_53 (lv_at hl 7 rfl) ?_
        refine l_le (tgt := 64) hx hb dX0_take_55 dX0_take_56 (by decide) (fun c56 => ?_) (fun c56 => ?_)
        · refine lv_iload hx hb dX0_take_64 (lv_at hl 6 rfl) ?_
          refine lv_istore (lv' := [(5, .int ((fo (tkX x d a b) i (0, 0)).1)), (9, .long ((axS (i + 1) x d a b (2 ^ (i + 1))) * (hun (7 - i)))), (0, .ref o), (1, .int x), (2, .int d), (3, .int a), (4, .int b), (6, .long ((fo (tkX x d a b) i (0, 0)).2)), (8, .int (nI (i + 1)))]) hx hb dX0_take_66 hl (by decide) rfl (fun ls hl => ?_)
          refine lv_lload hx hb dX0_take_68 (lv_at hl 7 rfl) ?_
          refine lv_lload hx hb dX0_take_70 (lv_at hl 1 rfl) ?_
          refine va_mmax_long hx hb (E.2.2.1.trans hl.1.symm) E.2.2.2.1 (E.2.2.2.2 _ q646) (E.2.2.2.2 _ q647) (E.2.2.2.2 _ q89) (E.2.2.2.2 _ q648) (Nat.le_of_ble_eq_true rfl) (Nat.le_of_ble_eq_true rfl) (Nat.le_refl 0) (Nat.le_refl 0) dX0_take_72 ?_
          refine top_l (y := (lMax ((fo (tkX x d a b) i (0, 0)).2) ((axS (i + 1) x d a b (2 ^ (i + 1))) * (hun (7 - i))))) rfl ?_
          refine lv_lstore (lv' := [(6, .long (lMax ((fo (tkX x d a b) i (0, 0)).2) ((axS (i + 1) x d a b (2 ^ (i + 1))) * (hun (7 - i))))), (5, .int ((fo (tkX x d a b) i (0, 0)).1)), (9, .long ((axS (i + 1) x d a b (2 ^ (i + 1))) * (hun (7 - i)))), (0, .ref o), (1, .int x), (2, .int d), (3, .int a), (4, .int b), (8, .int (nI (i + 1)))]) hx hb dX0_take_75 hl (by decide) rfl (fun ls hl => ?_)
          refine lv_iinc (v := nI ((i + 1) + 1)) (lv' := [(8, .int (nI ((i + 1) + 1))), (6, .long (lMax ((fo (tkX x d a b) i (0, 0)).2) ((axS (i + 1) x d a b (2 ^ (i + 1))) * (hun (7 - i))))), (5, .int ((fo (tkX x d a b) i (0, 0)).1)), (9, .long ((axS (i + 1) x d a b (2 ^ (i + 1))) * (hun (7 - i)))), (0, .ref o), (1, .int x), (2, .int d), (3, .int a), (4, .int b)]) hx hb dX0_take_77 hl (k := 8) rfl (nI_1 _) (by decide) rfl (fun ls hl => ?_)
          refine lv_goto (tgt := 23) hx hb dX0_take_80 (by decide) ?_
          exact ih23 _ _ ls (x_as I (rfl)) (lv_as (lv_sub (l' := [(0, .ref o), (1, .int x), (2, .int d), (3, .int a), (4, .int b), (5, .int ((fo (tkX x d a b) i (0, 0)).1)), (6, .long (lMax ((fo (tkX x d a b) i (0, 0)).2) ((axS (i + 1) x d a b (2 ^ (i + 1))) * (hun (7 - i))))), (8, .int (nI ((i + 1) + 1)))]) hl [4, 5, 6, 7, 8, 2, 1, 0] rfl) (by simp [fo, tkX, c56]))
        · refine lv_iload hx hb dX0_take_59 (lv_at hl 8 rfl) ?_
          refine lv_goto (tgt := 66) hx hb dX0_take_61 (by decide) ?_
          refine lv_istore (lv' := [(5, .int (nI (i + 1))), (9, .long ((axS (i + 1) x d a b (2 ^ (i + 1))) * (hun (7 - i)))), (0, .ref o), (1, .int x), (2, .int d), (3, .int a), (4, .int b), (6, .long ((fo (tkX x d a b) i (0, 0)).2)), (8, .int (nI (i + 1)))]) hx hb dX0_take_66 hl (by decide) rfl (fun ls hl => ?_)
          refine lv_lload hx hb dX0_take_68 (lv_at hl 7 rfl) ?_
          refine lv_lload hx hb dX0_take_70 (lv_at hl 1 rfl) ?_
          refine va_mmax_long hx hb (E.2.2.1.trans hl.1.symm) E.2.2.2.1 (E.2.2.2.2 _ q646) (E.2.2.2.2 _ q647) (E.2.2.2.2 _ q89) (E.2.2.2.2 _ q648) (Nat.le_of_ble_eq_true rfl) (Nat.le_of_ble_eq_true rfl) (Nat.le_refl 0) (Nat.le_refl 0) dX0_take_72 ?_
          refine top_l (y := (lMax ((fo (tkX x d a b) i (0, 0)).2) ((axS (i + 1) x d a b (2 ^ (i + 1))) * (hun (7 - i))))) rfl ?_
          refine lv_lstore (lv' := [(6, .long (lMax ((fo (tkX x d a b) i (0, 0)).2) ((axS (i + 1) x d a b (2 ^ (i + 1))) * (hun (7 - i))))), (5, .int (nI (i + 1))), (9, .long ((axS (i + 1) x d a b (2 ^ (i + 1))) * (hun (7 - i)))), (0, .ref o), (1, .int x), (2, .int d), (3, .int a), (4, .int b), (8, .int (nI (i + 1)))]) hx hb dX0_take_75 hl (by decide) rfl (fun ls hl => ?_)
          refine lv_iinc (v := nI ((i + 1) + 1)) (lv' := [(8, .int (nI ((i + 1) + 1))), (6, .long (lMax ((fo (tkX x d a b) i (0, 0)).2) ((axS (i + 1) x d a b (2 ^ (i + 1))) * (hun (7 - i))))), (5, .int (nI (i + 1))), (9, .long ((axS (i + 1) x d a b (2 ^ (i + 1))) * (hun (7 - i)))), (0, .ref o), (1, .int x), (2, .int d), (3, .int a), (4, .int b)]) hx hb dX0_take_77 hl (k := 8) rfl (nI_1 _) (by decide) rfl (fun ls hl => ?_)
          refine lv_goto (tgt := 23) hx hb dX0_take_80 (by decide) ?_
          exact ih23 _ _ ls (x_as I (rfl)) (lv_as (lv_sub (l' := [(0, .ref o), (1, .int x), (2, .int d), (3, .int a), (4, .int b), (5, .int (nI (i + 1))), (6, .long (lMax ((fo (tkX x d a b) i (0, 0)).2) ((axS (i + 1) x d a b (2 ^ (i + 1))) * (hun (7 - i))))), (8, .int (nI ((i + 1) + 1)))]) hl [4, 5, 6, 7, 8, 2, 1, 0] rfl) (by simp [fo, tkX, c56]))
    exact L23 0 (Nat.zero_le _) _ _ ls (x_as I (rfl)) (lv_as (lv_sub (l' := [(0, .ref o), (1, .int x), (2, .int d), (3, .int a), (4, .int b), (5, .int 0), (6, .long 0), (8, .int 1)]) hl [3, 4, 5, 6, 7, 2, 1, 0] rfl) (rfl))
  · refine lv_bipush (v := (-2)) hx hb dX0_take_11 (by decide) ?_
    subst hQ
    exact r_i E hlk hr I (Nat.le_refl 0) (Nat.le_refl 0) dX0_take_13 (⟨by simp [c8], rfl⟩)
theorem dc_x_take : yX0_take.cls = RX0 ∧ yX0_take.cls ≠ "java/lang/invoke/MethodHandle" ∧ yX0_take.cls ≠ "java/lang/invoke/VarHandle" ∧ (parseMethodDescriptor yX0_take.desc).map (fun d => d.parameters.length) = some 4 := by decide +kernel
