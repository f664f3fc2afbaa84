set_option maxRecDepth 100000
set_option maxHeartbeats 4000000
def mAg (σ : Sg) (k : Nat) (a i n : Int32) : Int32 := if σ 2 k = (-9) then 1 else if σ 2 k = a then (if 0 ≤ n then (if i < 0 then 3 else if σ 3 k < i then 3 else if n ≤ σ 3 k - i then 0 else 3) else 4) else 2
theorem m_against (l : Launch) (D : va_G) (ty : Nat → ClassId) (o : Nat) (ad : Nat → Nat) (σ : Sg) (k : Nat) (a : Int32) (i : Int32) (n : Int32) (hk : k < 4) : mKi l yX1_against cX1_against 5 .int 1 D ty o ad σ [.int (nI k), .int a, .int i, .int n] (fun r τ => r = mAg σ k a i n ∧ τ = σ) := by
  refine Ki.of (by decide) (Nat.le_of_ble_eq_true rfl) ?_
  intro p e s m below meth c A ls args E hK hA hX hlk hr I hl
  have hx := E.1
  have hb := E.2.1
  have hl : lv_has ls 5 [(0, .ref o), (1, .int (nI k)), (2, .int a), (3, .int i), (4, .int n)] := hl
  refine lv_aload_n hx hb dX1_against_0 rfl (lv_at hl 0 rfl) ?_
  refine m_get E hK I 2 rfl q1117 rfl dX1_against_1 ?_
  refine lv_iload_n hx hb dX1_against_4 rfl (lv_at hl 1 rfl) ?_
  refine m_ald (i := k) E hK I 0 rfl rfl rfl dX1_against_5 (by simp only [mLn]; omega) ?_
  refine lv_bipush (v := (-9)) hx hb dX1_against_6 (by decide) ?_
  refine lv_icmp_eq (tgt := 23) hx hb dX1_against_8 (by decide) (fun c8 => ?_) (fun c8 => ?_)
  · refine lv_aload_n hx hb dX1_against_23 rfl (lv_at hl 0 rfl) ?_
    refine m_get E hK I 2 rfl q1117 rfl dX1_against_24 ?_
    refine lv_iload_n hx hb dX1_against_27 rfl (lv_at hl 1 rfl) ?_
    refine m_ald (i := k) E hK I 0 rfl rfl rfl dX1_against_28 (by simp only [mLn]; omega) ?_
    refine lv_bipush (v := (-9)) hx hb dX1_against_29 (by decide) ?_
    refine lv_icmp_ne (tgt := 36) hx hb dX1_against_31 (by decide) (fun c31 => absurd c31 (not_not_intro c8)) (fun c31 => ?_)
    refine lv_iconst (v := 1) hx hb dX1_against_34 (by decide) ?_
    exact r_i E hlk hr I (Nat.le_refl 0) (Nat.le_refl 0) dX1_against_35 (⟨by rw [mAg, if_pos c8], rfl⟩)
  · refine lv_aload_n hx hb dX1_against_11 rfl (lv_at hl 0 rfl) ?_
    refine m_get E hK I 2 rfl q1117 rfl dX1_against_12 ?_
    refine lv_iload_n hx hb dX1_against_15 rfl (lv_at hl 1 rfl) ?_
    refine m_ald (i := k) E hK I 0 rfl rfl rfl dX1_against_16 (by simp only [mLn]; omega) ?_
    refine lv_iload_n hx hb dX1_against_17 rfl (lv_at hl 2 rfl) ?_
    refine lv_icmp_eq (tgt := 23) hx hb dX1_against_18 (by decide) (fun c18 => ?_) (fun c18 => ?_)
    · refine lv_aload_n hx hb dX1_against_23 rfl (lv_at hl 0 rfl) ?_
      refine m_get E hK I 2 rfl q1117 rfl dX1_against_24 ?_
      refine lv_iload_n hx hb dX1_against_27 rfl (lv_at hl 1 rfl) ?_
      refine m_ald (i := k) E hK I 0 rfl rfl rfl dX1_against_28 (by simp only [mLn]; omega) ?_
      refine lv_bipush (v := (-9)) hx hb dX1_against_29 (by decide) ?_
      refine lv_icmp_ne (tgt := 36) hx hb dX1_against_31 (by decide) (fun c31 => ?_) (fun c31 => absurd c31 (c8))
      refine lv_iload hx hb dX1_against_36 (lv_at hl 4 rfl) ?_
      refine lv_if_ge (tgt := 43) hx hb dX1_against_38 (by decide) (fun c38 => ?_) (fun c38 => ?_)
      · refine lv_iload_n hx hb dX1_against_43 rfl (lv_at hl 3 rfl) ?_
        refine lv_if_lt (tgt := 70) hx hb dX1_against_44 (by decide) (fun c44 => ?_) (fun c44 => ?_)
        · refine lv_iconst (v := 3) hx hb dX1_against_70 (by decide) ?_
          refine lv_goto (tgt := 75) hx hb dX1_against_71 (by decide) ?_
          exact r_i E hlk hr I (Nat.le_refl 0) (Nat.le_refl 0) dX1_against_75 (⟨by rw [mAg, if_neg c8, if_pos c18]; simp [c38, c44], rfl⟩)
        · refine lv_iload_n hx hb dX1_against_47 rfl (lv_at hl 3 rfl) ?_
          refine lv_aload_n hx hb dX1_against_48 rfl (lv_at hl 0 rfl) ?_
          refine m_get E hK I 3 rfl q1118 rfl dX1_against_49 ?_
          refine lv_iload_n hx hb dX1_against_52 rfl (lv_at hl 1 rfl) ?_
          refine m_ald (i := k) E hK I 1 rfl rfl rfl dX1_against_53 (by simp only [mLn]; omega) ?_
          refine lv_icmp_gt (tgt := 70) hx hb dX1_against_54 (by decide) (fun c54 => ?_) (fun c54 => ?_)
          · refine lv_iconst (v := 3) hx hb dX1_against_70 (by decide) ?_
            refine lv_goto (tgt := 75) hx hb dX1_against_71 (by decide) ?_
            exact r_i E hlk hr I (Nat.le_refl 0) (Nat.le_refl 0) dX1_against_75 (⟨by rw [mAg, if_neg c8, if_pos c18]; simp [c38, c44, c54], rfl⟩)
          · refine lv_iload hx hb dX1_against_57 (lv_at hl 4 rfl) ?_
            refine lv_aload_n hx hb dX1_against_59 rfl (lv_at hl 0 rfl) ?_
            refine m_get E hK I 3 rfl q1118 rfl dX1_against_60 ?_
            refine lv_iload_n hx hb dX1_against_63 rfl (lv_at hl 1 rfl) ?_
            refine m_ald (i := k) E hK I 1 rfl rfl rfl dX1_against_64 (by simp only [mLn]; omega) ?_
            refine lv_iload_n hx hb dX1_against_65 rfl (lv_at hl 3 rfl) ?_
            refine lv_isub hx hb dX1_against_66 ?_
            refine lv_icmp_le (tgt := 74) hx hb dX1_against_67 (by decide) (fun c67 => ?_) (fun c67 => ?_)
            · refine lv_iconst (v := 0) hx hb dX1_against_74 (by decide) ?_
              exact r_i E hlk hr I (Nat.le_refl 0) (Nat.le_refl 0) dX1_against_75 (⟨by rw [mAg, if_neg c8, if_pos c18]; simp [c38, c44, c54, c67], rfl⟩)
            · refine lv_iconst (v := 3) hx hb dX1_against_70 (by decide) ?_
              refine lv_goto (tgt := 75) hx hb dX1_against_71 (by decide) ?_
              exact r_i E hlk hr I (Nat.le_refl 0) (Nat.le_refl 0) dX1_against_75 (⟨by rw [mAg, if_neg c8, if_pos c18]; simp [c38, c44, c54, c67], rfl⟩)
      · refine lv_iconst (v := 4) hx hb dX1_against_41 (by decide) ?_
        exact r_i E hlk hr I (Nat.le_refl 0) (Nat.le_refl 0) dX1_against_42 (⟨by rw [mAg, if_neg c8, if_pos c18]; simp [c38], rfl⟩)
    · refine lv_iconst (v := 2) hx hb dX1_against_21 (by decide) ?_
      exact r_i E hlk hr I (Nat.le_refl 0) (Nat.le_refl 0) dX1_against_22 (⟨by rw [mAg, if_neg c8, if_neg c18], rfl⟩)
theorem dc_m_against : yX1_against.cls = RX1 ∧ yX1_against.cls ≠ "java/lang/invoke/MethodHandle" ∧ yX1_against.cls ≠ "java/lang/invoke/VarHandle" ∧ (parseMethodDescriptor yX1_against.desc).map (fun d => d.parameters.length) = some 4 := by decide +kernel
theorem go_m_against : GoodIn lw_all (wsV RX1 121 RX1 yX1_against (ws_ yX1_against cX1_against 5 (some .int))) := lw_V q1262 q1264 qs34 q75 q1265
def cpy (σ : Sg) (d z n : Nat) : Sg := fun a b => if a = 4 then (if d ≤ b ∧ b < d + n then σ 4 (z + (b - d)) else σ a b) else σ a b
theorem cpy_0 (σ : Sg) (d z : Nat) : σ = cpy σ d z 0 := by
  funext a b
  have : ¬ (d ≤ b ∧ b < d + 0) := by omega
  simp only [cpy, if_neg this, ite_self]
theorem cpy_out {σ : Sg} {d z n b : Nat} (h : b < d ∨ d + n ≤ b) : cpy σ d z n 4 b = σ 4 b := by
  have : ¬ (d ≤ b ∧ b < d + n) := by omega
  simp only [cpy, if_neg this, ite_self]
theorem cpy_f {σ : Sg} {d z n : Nat} (h : z + n < d ∨ d + n ≤ z + n) : up (cpy σ d z n) 4 (d + n) (cpy σ d z n 4 (z + n)) = cpy σ d z (n + 1) := by
  rw [cpy_out h]
  funext a b
  by_cases ha : a = 4
  · subst ha
    by_cases hb : b = d + n
    · subst hb
      have : d ≤ d + n ∧ d + n < d + (n + 1) := by omega
      simp only [cpy, if_pos this, up, if_true]
      congr 1; omega
    · have : (d ≤ b ∧ b < d + (n + 1)) = (d ≤ b ∧ b < d + n) := by apply propext; omega
      simp only [cpy, up, this, if_true, if_neg hb]
  · simp only [cpy, up, if_neg ha]
theorem cpy_b {σ : Sg} {d z n : Nat} (h : z < d + 1 ∨ d + 1 + n ≤ z) : up (cpy σ (d + 1) (z + 1) n) 4 d (cpy σ (d + 1) (z + 1) n 4 z) = cpy σ d z (n + 1) := by
  rw [cpy_out h]
  funext a b
  by_cases ha : a = 4
  · subst ha
    by_cases hb : b = d
    · subst hb
      have : b ≤ b ∧ b < b + (n + 1) := by omega
      simp only [cpy, if_pos this, up, if_true]
      congr 1; omega
    · have : (d ≤ b ∧ b < d + (n + 1)) = (d + 1 ≤ b ∧ b < d + 1 + n) := by apply propext; omega
      simp only [cpy, up, this, if_true, if_neg hb]
      by_cases h2 : d + 1 ≤ b ∧ b < d + 1 + n
      · simp only [if_pos h2]
        congr 1; omega
      · simp only [if_neg h2]
  · simp only [cpy, up, if_neg ha]
def mCp (p q i j n : Int32) : Bool := !decide (i < 0) && !decide (j < 0) && !decide (n < 0) && !decide (p < i) && !decide (q < j) && !decide (p - i < n) && decide (n ≤ q - j)
theorem mCp_nat {a b : Nat} {i j n : Int32} (ha : a ≤ 40) (hb : b ≤ 40) (h : mCp (nI a) (nI b) i j n = true) : ∃ u v w : Nat, i = nI u ∧ j = nI v ∧ n = nI w ∧ u + w ≤ a ∧ v + w ≤ b := by
  simp only [mCp, Bool.and_eq_true, Bool.not_eq_true', decide_eq_false_iff_not, decide_eq_true_eq] at h
  obtain ⟨⟨⟨⟨⟨⟨h1, h2⟩, h3⟩, h4⟩, h5⟩, h6⟩, h7⟩ := h
  obtain ⟨u, hu, rfl⟩ := nI_of h1
  obtain ⟨v, hv, rfl⟩ := nI_of h2
  obtain ⟨w, hw, rfl⟩ := nI_of h3
  have e1 := nlt_le hu h4
  have e2 := nlt_le hv h5
  rw [pk_sub e1] at h6
  rw [pk_sub e2] at h7
  have e3 := nlt_le hw h6
  have e4 := (nI_leI hw (by omega)).mp h7
  exact ⟨u, v, w, rfl, rfl, rfl, by omega, by omega⟩
theorem nI_p {n : Nat} (h : 0 < n) : nI n - 1 = nI (n - 1) := by
  obtain ⟨k, rfl⟩ : ∃ k, n = k + 1 := ⟨n - 1, by omega⟩
  rw [nI_m1]; rfl
theorem m_copy (l : Launch) (D : va_G) (ty : Nat → ClassId) (o : Nat) (ad : Nat → Nat) (σ : Sg) (k : Int32) (i : Int32) (q : Int32) (z : Int32) (n : Int32) (hL : mLong σ) : mKi l yX1_copy cX1_copy 10 .int 3 D ty o ad σ [.int k, .int i, .int q, .int z, .int n] (fun r τ => r = (if wi k 0 3 && wi q 0 3 then (if σ 2 (k).toNatClampNeg = (-9) ∨ σ 2 (q).toNatClampNeg = (-9) then (-10) - 1 else if σ 2 (k).toNatClampNeg = σ 2 (q).toNatClampNeg then (if mCp (σ 3 (k).toNatClampNeg) (σ 3 (q).toNatClampNeg) i z n = true then n else (-10) - 3) else (-10) - 2) else (-1)) ∧ τ = if wi k 0 3 && wi q 0 3 then (if σ 2 (k).toNatClampNeg = (-9) ∨ σ 2 (q).toNatClampNeg = (-9) then up (up σ 0 0 0) 0 0 1 else if σ 2 (k).toNatClampNeg = σ 2 (q).toNatClampNeg then (if mCp (σ 3 (k).toNatClampNeg) (σ 3 (q).toNatClampNeg) i z n = true then cpy (up σ 0 0 0) (40 * (q).toNatClampNeg + (z).toNatClampNeg) (40 * (k).toNatClampNeg + (i).toNatClampNeg) (n).toNatClampNeg else up (up σ 0 0 0) 0 0 3) else up (up σ 0 0 0) 0 0 2) else up σ 0 0 0) := by
  refine Ki.of (by decide) (Nat.le_of_ble_eq_true rfl) ?_
  intro p e s m below meth c A ls args E hK hA hX hlk hr I hl
  have hx := E.1
  have hb := E.2.1
  have hl : lv_has ls 10 [(0, .ref o), (1, .int k), (2, .int i), (3, .int q), (4, .int z), (5, .int n)] := hl
  refine nameQ (fun Q hQ => ?_)
  refine lv_aload_n hx hb dX1_copy_0 rfl (lv_at hl 0 rfl) ?_
  refine lv_iconst (v := 0) hx hb dX1_copy_1 (by decide) ?_
  refine m_put E hK I 0 rfl rfl q1115 rfl rfl rfl dX1_copy_2 (fun H locs I => ?_)
  refine lv_iload_n hx hb dX1_copy_5 rfl (lv_at hl 1 rfl) ?_
  refine c_Si E (m_isSheet l k) go_m_isSheet ⟨rfl, rfl⟩ dc_m_isSheet ⟨Nat.le_of_ble_eq_true rfl, Nat.le_of_ble_eq_true rfl⟩ ⟨Nat.le_refl 0, Nat.le_refl 0⟩ hl.1 (Nat.le_of_ble_eq_true rfl) rfl dX1_copy_6 (fun r6 hp => ?_)
  refine top_i (y := bI (wi k 0 3)) hp ?_
  refine b_eq (tgt := 19) hx hb dX1_copy_9 (by decide) (fun c9 => ?_) (fun c9 => ?_)
  · refine lv_iconst (v := (-1)) hx hb dX1_copy_19 (by decide) ?_
    subst hQ
    exact r_i E hlk hr I (Nat.le_refl 0) (Nat.le_refl 0) dX1_copy_20 (⟨by simp [c9], by simp [c9]⟩)
  · refine lv_iload_n hx hb dX1_copy_12 rfl (lv_at hl 3 rfl) ?_
    refine c_Si E (m_isSheet l q) go_m_isSheet ⟨rfl, rfl⟩ dc_m_isSheet ⟨Nat.le_of_ble_eq_true rfl, Nat.le_of_ble_eq_true rfl⟩ ⟨Nat.le_refl 0, Nat.le_refl 0⟩ hl.1 (Nat.le_of_ble_eq_true rfl) rfl dX1_copy_13 (fun r13 hp => ?_)
    refine top_i (y := bI (wi q 0 3)) hp ?_
    refine b_ne (tgt := 21) hx hb dX1_copy_16 (by decide) (fun c16 => ?_) (fun c16 => ?_)
    · obtain ⟨j, hj, ej⟩ := wi_nat (n := 3) (by decide) c9
      subst ej
      obtain ⟨w0, hw0, ew0⟩ := wi_nat (n := 3) (by decide) c16
      subst ew0
      refine lv_aload_n hx hb dX1_copy_21 rfl (lv_at hl 0 rfl) ?_
      refine m_get E hK I 2 rfl q1117 rfl dX1_copy_22 ?_
      refine lv_iload_n hx hb dX1_copy_25 rfl (lv_at hl 1 rfl) ?_
      refine m_ald (i := j) E hK I 0 rfl rfl rfl dX1_copy_26 (by simp only [mLn]; omega) ?_
      refine lv_bipush (v := (-9)) hx hb dX1_copy_27 (by decide) ?_
      refine lv_icmp_eq (tgt := 43) hx hb dX1_copy_29 (by decide) (fun c29 => ?_) (fun c29 => ?_)
      · refine lv_aload_n hx hb dX1_copy_43 rfl (lv_at hl 0 rfl) ?_
        refine lv_iconst (v := 1) hx hb dX1_copy_44 (by decide) ?_
        refine m_ci E hK hA I (m_fails l D ty o ad (up σ 0 0 0) 1) go_m_fails dc_m_fails ⟨Nat.le_of_ble_eq_true rfl, Nat.le_of_ble_eq_true rfl⟩ ⟨Nat.le_refl 0, Nat.le_refl 0⟩ hl.1 (Nat.le_of_ble_eq_true rfl) rfl dX1_copy_45 (fun r45 σ45 H locs hp I => ?_)
        refine top_i (y := (-10) - 1) hp.1 ?_
        have I := m_as I hp.2
        subst hQ
        exact r_i E hlk hr I (Nat.le_refl 0) (Nat.le_refl 0) dX1_copy_48 (⟨by simp only [up_k (show 2 ≠ 0 by decide), up_k (show 3 ≠ 0 by decide)] at c29; simp only [c9, c16, Bool.and_self, if_true, nI_clamp (show j < 2 ^ 31 by omega), nI_clamp (show w0 < 2 ^ 31 by omega)]; simp [c29], by simp only [up_k (show 2 ≠ 0 by decide), up_k (show 3 ≠ 0 by decide)] at c29; simp only [c9, c16, Bool.and_self, if_true, nI_clamp (show j < 2 ^ 31 by omega), nI_clamp (show w0 < 2 ^ 31 by omega)]; simp [c29]⟩)
      · refine lv_aload_n hx hb dX1_copy_32 rfl (lv_at hl 0 rfl) ?_
        refine m_get E hK I 2 rfl q1117 rfl dX1_copy_33 ?_
        refine lv_iload_n hx hb dX1_copy_36 rfl (lv_at hl 3 rfl) ?_
        refine m_ald (i := w0) E hK I 0 rfl rfl rfl dX1_copy_37 (by simp only [mLn]; omega) ?_
        refine lv_bipush (v := (-9)) hx hb dX1_copy_38 (by decide) ?_
        refine lv_icmp_ne (tgt := 49) hx hb dX1_copy_40 (by decide) (fun c40 => ?_) (fun c40 => ?_)
        · refine lv_aload_n hx hb dX1_copy_49 rfl (lv_at hl 0 rfl) ?_
          refine m_get E hK I 2 rfl q1117 rfl dX1_copy_50 ?_
          refine lv_iload_n hx hb dX1_copy_53 rfl (lv_at hl 1 rfl) ?_
          refine m_ald (i := j) E hK I 0 rfl rfl rfl dX1_copy_54 (by simp only [mLn]; omega) ?_
          refine lv_aload_n hx hb dX1_copy_55 rfl (lv_at hl 0 rfl) ?_
          refine m_get E hK I 2 rfl q1117 rfl dX1_copy_56 ?_
          refine lv_iload_n hx hb dX1_copy_59 rfl (lv_at hl 3 rfl) ?_
          refine m_ald (i := w0) E hK I 0 rfl rfl rfl dX1_copy_60 (by simp only [mLn]; omega) ?_
          refine lv_icmp_eq (tgt := 70) hx hb dX1_copy_61 (by decide) (fun c61 => ?_) (fun c61 => ?_)
          · refine lv_iload_n hx hb dX1_copy_70 rfl (lv_at hl 2 rfl) ?_
            refine lv_if_lt (tgt := 109) hx hb dX1_copy_71 (by decide) (fun c71 => ?_) (fun c71 => ?_)
            · refine lv_iconst (v := 0) hx hb dX1_copy_109 (by decide) ?_
              refine lv_istore (lv' := [(6, .int 0), (0, .ref o), (1, .int (nI j)), (2, .int i), (3, .int (nI w0)), (4, .int z), (5, .int n)]) hx hb dX1_copy_110 hl (by decide) rfl (fun ls hl => ?_)
              refine lv_iload hx hb dX1_copy_112 (lv_at hl 0 rfl) ?_
              refine lv_if_eq (tgt := 144) hx hb dX1_copy_114 (by decide) (fun _ => ?_) (fun h => absurd h (by decide))
              refine lv_aload_n hx hb dX1_copy_144 rfl (lv_at hl 1 rfl) ?_
              refine lv_iconst (v := 3) hx hb dX1_copy_145 (by decide) ?_
              refine m_ci E hK hA I (m_fails l D ty o ad (up σ 0 0 0) 3) go_m_fails dc_m_fails ⟨Nat.le_of_ble_eq_true rfl, Nat.le_of_ble_eq_true rfl⟩ ⟨Nat.le_refl 0, Nat.le_refl 0⟩ hl.1 (Nat.le_of_ble_eq_true rfl) rfl dX1_copy_146 (fun r146 σ146 H locs hp I => ?_)
              refine top_i (y := (-10) - 3) hp.1 ?_
              have I := m_as I hp.2
              subst hQ
              exact r_i E hlk hr I (Nat.le_refl 0) (Nat.le_refl 0) dX1_copy_149 (⟨by simp only [up_k (show 2 ≠ 0 by decide), up_k (show 3 ≠ 0 by decide)] at c29 c40 c61; simp only [c9, c16, Bool.and_self, if_true, nI_clamp (show j < 2 ^ 31 by omega), nI_clamp (show w0 < 2 ^ 31 by omega)]; rw [if_neg (not_or.mpr ⟨c29, c40⟩), if_pos c61]; simp [mCp, c71], by simp only [up_k (show 2 ≠ 0 by decide), up_k (show 3 ≠ 0 by decide)] at c29 c40 c61; simp only [c9, c16, Bool.and_self, if_true, nI_clamp (show j < 2 ^ 31 by omega), nI_clamp (show w0 < 2 ^ 31 by omega)]; rw [if_neg (not_or.mpr ⟨c29, c40⟩), if_pos c61]; simp [mCp, c71]⟩)
            · refine lv_iload hx hb dX1_copy_74 (lv_at hl 4 rfl) ?_
              refine lv_if_lt (tgt := 109) hx hb dX1_copy_76 (by decide) (fun c76 => ?_) (fun c76 => ?_)
              · refine lv_iconst (v := 0) hx hb dX1_copy_109 (by decide) ?_
                refine lv_istore (lv' := [(6, .int 0), (0, .ref o), (1, .int (nI j)), (2, .int i), (3, .int (nI w0)), (4, .int z), (5, .int n)]) hx hb dX1_copy_110 hl (by decide) rfl (fun ls hl => ?_)
                refine lv_iload hx hb dX1_copy_112 (lv_at hl 0 rfl) ?_
                refine lv_if_eq (tgt := 144) hx hb dX1_copy_114 (by decide) (fun _ => ?_) (fun h => absurd h (by decide))
                refine lv_aload_n hx hb dX1_copy_144 rfl (lv_at hl 1 rfl) ?_
                refine lv_iconst (v := 3) hx hb dX1_copy_145 (by decide) ?_
                refine m_ci E hK hA I (m_fails l D ty o ad (up σ 0 0 0) 3) go_m_fails dc_m_fails ⟨Nat.le_of_ble_eq_true rfl, Nat.le_of_ble_eq_true rfl⟩ ⟨Nat.le_refl 0, Nat.le_refl 0⟩ hl.1 (Nat.le_of_ble_eq_true rfl) rfl dX1_copy_146 (fun r146 σ146 H locs hp I => ?_)
                refine top_i (y := (-10) - 3) hp.1 ?_
                have I := m_as I hp.2
                subst hQ
                exact r_i E hlk hr I (Nat.le_refl 0) (Nat.le_refl 0) dX1_copy_149 (⟨by simp only [up_k (show 2 ≠ 0 by decide), up_k (show 3 ≠ 0 by decide)] at c29 c40 c61; simp only [c9, c16, Bool.and_self, if_true, nI_clamp (show j < 2 ^ 31 by omega), nI_clamp (show w0 < 2 ^ 31 by omega)]; rw [if_neg (not_or.mpr ⟨c29, c40⟩), if_pos c61]; simp [mCp, c71, c76], by simp only [up_k (show 2 ≠ 0 by decide), up_k (show 3 ≠ 0 by decide)] at c29 c40 c61; simp only [c9, c16, Bool.and_self, if_true, nI_clamp (show j < 2 ^ 31 by omega), nI_clamp (show w0 < 2 ^ 31 by omega)]; rw [if_neg (not_or.mpr ⟨c29, c40⟩), if_pos c61]; simp [mCp, c71, c76]⟩)
              · refine lv_iload hx hb dX1_copy_79 (lv_at hl 5 rfl) ?_
                refine lv_if_lt (tgt := 109) hx hb dX1_copy_81 (by decide) (fun c81 => ?_) (fun c81 => ?_)
                · refine lv_iconst (v := 0) hx hb dX1_copy_109 (by decide) ?_
                  refine lv_istore (lv' := [(6, .int 0), (0, .ref o), (1, .int (nI j)), (2, .int i), (3, .int (nI w0)), (4, .int z), (5, .int n)]) hx hb dX1_copy_110 hl (by decide) rfl (fun ls hl => ?_)
                  refine lv_iload hx hb dX1_copy_112 (lv_at hl 0 rfl) ?_
                  refine lv_if_eq (tgt := 144) hx hb dX1_copy_114 (by decide) (fun _ => ?_) (fun h => absurd h (by decide))
                  refine lv_aload_n hx hb dX1_copy_144 rfl (lv_at hl 1 rfl) ?_
                  refine lv_iconst (v := 3) hx hb dX1_copy_145 (by decide) ?_
                  refine m_ci E hK hA I (m_fails l D ty o ad (up σ 0 0 0) 3) go_m_fails dc_m_fails ⟨Nat.le_of_ble_eq_true rfl, Nat.le_of_ble_eq_true rfl⟩ ⟨Nat.le_refl 0, Nat.le_refl 0⟩ hl.1 (Nat.le_of_ble_eq_true rfl) rfl dX1_copy_146 (fun r146 σ146 H locs hp I => ?_)
                  refine top_i (y := (-10) - 3) hp.1 ?_
                  have I := m_as I hp.2
                  subst hQ
                  exact r_i E hlk hr I (Nat.le_refl 0) (Nat.le_refl 0) dX1_copy_149 (⟨by simp only [up_k (show 2 ≠ 0 by decide), up_k (show 3 ≠ 0 by decide)] at c29 c40 c61; simp only [c9, c16, Bool.and_self, if_true, nI_clamp (show j < 2 ^ 31 by omega), nI_clamp (show w0 < 2 ^ 31 by omega)]; rw [if_neg (not_or.mpr ⟨c29, c40⟩), if_pos c61]; simp [mCp, c71, c76, c81], by simp only [up_k (show 2 ≠ 0 by decide), up_k (show 3 ≠ 0 by decide)] at c29 c40 c61; simp only [c9, c16, Bool.and_self, if_true, nI_clamp (show j < 2 ^ 31 by omega), nI_clamp (show w0 < 2 ^ 31 by omega)]; rw [if_neg (not_or.mpr ⟨c29, c40⟩), if_pos c61]; simp [mCp, c71, c76, c81]⟩)
                · refine lv_iload_n hx hb dX1_copy_84 rfl (lv_at hl 2 rfl) ?_
                  refine lv_aload_n hx hb dX1_copy_85 rfl (lv_at hl 0 rfl) ?_
                  refine m_get E hK I 3 rfl q1118 rfl dX1_copy_86 ?_
                  refine lv_iload_n hx hb dX1_copy_89 rfl (lv_at hl 1 rfl) ?_
                  refine m_ald (i := j) E hK I 1 rfl rfl rfl dX1_copy_90 (by simp only [mLn]; omega) ?_
                  refine lv_icmp_gt (tgt := 109) hx hb dX1_copy_91 (by decide) (fun c91 => ?_) (fun c91 => ?_)
                  · refine lv_iconst (v := 0) hx hb dX1_copy_109 (by decide) ?_
                    refine lv_istore (lv' := [(6, .int 0), (0, .ref o), (1, .int (nI j)), (2, .int i), (3, .int (nI w0)), (4, .int z), (5, .int n)]) hx hb dX1_copy_110 hl (by decide) rfl (fun ls hl => ?_)
                    refine lv_iload hx hb dX1_copy_112 (lv_at hl 0 rfl) ?_
                    refine lv_if_eq (tgt := 144) hx hb dX1_copy_114 (by decide) (fun _ => ?_) (fun h => absurd h (by decide))
                    refine lv_aload_n hx hb dX1_copy_144 rfl (lv_at hl 1 rfl) ?_
                    refine lv_iconst (v := 3) hx hb dX1_copy_145 (by decide) ?_
                    refine m_ci E hK hA I (m_fails l D ty o ad (up σ 0 0 0) 3) go_m_fails dc_m_fails ⟨Nat.le_of_ble_eq_true rfl, Nat.le_of_ble_eq_true rfl⟩ ⟨Nat.le_refl 0, Nat.le_refl 0⟩ hl.1 (Nat.le_of_ble_eq_true rfl) rfl dX1_copy_146 (fun r146 σ146 H locs hp I => ?_)
                    refine top_i (y := (-10) - 3) hp.1 ?_
                    have I := m_as I hp.2
                    subst hQ
                    exact r_i E hlk hr I (Nat.le_refl 0) (Nat.le_refl 0) dX1_copy_149 (⟨by simp only [up_k (show 2 ≠ 0 by decide), up_k (show 3 ≠ 0 by decide)] at c29 c40 c61 c91; simp only [c9, c16, Bool.and_self, if_true, nI_clamp (show j < 2 ^ 31 by omega), nI_clamp (show w0 < 2 ^ 31 by omega)]; rw [if_neg (not_or.mpr ⟨c29, c40⟩), if_pos c61]; simp [mCp, c71, c76, c81, c91], by simp only [up_k (show 2 ≠ 0 by decide), up_k (show 3 ≠ 0 by decide)] at c29 c40 c61 c91; simp only [c9, c16, Bool.and_self, if_true, nI_clamp (show j < 2 ^ 31 by omega), nI_clamp (show w0 < 2 ^ 31 by omega)]; rw [if_neg (not_or.mpr ⟨c29, c40⟩), if_pos c61]; simp [mCp, c71, c76, c81, c91]⟩)
                  · refine lv_iload hx hb dX1_copy_94 (lv_at hl 4 rfl) ?_
                    refine lv_aload_n hx hb dX1_copy_96 rfl (lv_at hl 0 rfl) ?_
                    refine m_get E hK I 3 rfl q1118 rfl dX1_copy_97 ?_
                    refine lv_iload_n hx hb dX1_copy_100 rfl (lv_at hl 3 rfl) ?_
                    refine m_ald (i := w0) E hK I 1 rfl rfl rfl dX1_copy_101 (by simp only [mLn]; omega) ?_
                    refine lv_icmp_gt (tgt := 109) hx hb dX1_copy_102 (by decide) (fun c102 => ?_) (fun c102 => ?_)
                    · refine lv_iconst (v := 0) hx hb dX1_copy_109 (by decide) ?_
                      refine lv_istore (lv' := [(6, .int 0), (0, .ref o), (1, .int (nI j)), (2, .int i), (3, .int (nI w0)), (4, .int z), (5, .int n)]) hx hb dX1_copy_110 hl (by decide) rfl (fun ls hl => ?_)
                      refine lv_iload hx hb dX1_copy_112 (lv_at hl 0 rfl) ?_
                      refine lv_if_eq (tgt := 144) hx hb dX1_copy_114 (by decide) (fun _ => ?_) (fun h => absurd h (by decide))
                      refine lv_aload_n hx hb dX1_copy_144 rfl (lv_at hl 1 rfl) ?_
                      refine lv_iconst (v := 3) hx hb dX1_copy_145 (by decide) ?_
                      refine m_ci E hK hA I (m_fails l D ty o ad (up σ 0 0 0) 3) go_m_fails dc_m_fails ⟨Nat.le_of_ble_eq_true rfl, Nat.le_of_ble_eq_true rfl⟩ ⟨Nat.le_refl 0, Nat.le_refl 0⟩ hl.1 (Nat.le_of_ble_eq_true rfl) rfl dX1_copy_146 (fun r146 σ146 H locs hp I => ?_)
                      refine top_i (y := (-10) - 3) hp.1 ?_
                      have I := m_as I hp.2
                      subst hQ
                      exact r_i E hlk hr I (Nat.le_refl 0) (Nat.le_refl 0) dX1_copy_149 (⟨by simp only [up_k (show 2 ≠ 0 by decide), up_k (show 3 ≠ 0 by decide)] at c29 c40 c61 c91 c102; simp only [c9, c16, Bool.and_self, if_true, nI_clamp (show j < 2 ^ 31 by omega), nI_clamp (show w0 < 2 ^ 31 by omega)]; rw [if_neg (not_or.mpr ⟨c29, c40⟩), if_pos c61]; simp [mCp, c71, c76, c81, c91, c102], by simp only [up_k (show 2 ≠ 0 by decide), up_k (show 3 ≠ 0 by decide)] at c29 c40 c61 c91 c102; simp only [c9, c16, Bool.and_self, if_true, nI_clamp (show j < 2 ^ 31 by omega), nI_clamp (show w0 < 2 ^ 31 by omega)]; rw [if_neg (not_or.mpr ⟨c29, c40⟩), if_pos c61]; simp [mCp, c71, c76, c81, c91, c102]⟩)
                    · refine lv_iconst (v := 1) hx hb dX1_copy_105 (by decide) ?_
                      refine lv_goto (tgt := 110) hx hb dX1_copy_106 (by decide) ?_
                      refine lv_istore (lv' := [(6, .int 1), (0, .ref o), (1, .int (nI j)), (2, .int i), (3, .int (nI w0)), (4, .int z), (5, .int n)]) hx hb dX1_copy_110 hl (by decide) rfl (fun ls hl => ?_)
                      refine lv_iload hx hb dX1_copy_112 (lv_at hl 0 rfl) ?_
                      refine lv_if_eq (tgt := 144) hx hb dX1_copy_114 (by decide) (fun h => absurd h (by decide)) (fun _ => ?_)
                      refine lv_iload hx hb dX1_copy_117 (lv_at hl 6 rfl) ?_
                      refine lv_aload_n hx hb dX1_copy_119 rfl (lv_at hl 1 rfl) ?_
                      refine m_get E hK I 3 rfl q1118 rfl dX1_copy_120 ?_
                      refine lv_iload_n hx hb dX1_copy_123 rfl (lv_at hl 2 rfl) ?_
                      refine m_ald (i := j) E hK I 1 rfl rfl rfl dX1_copy_124 (by simp only [mLn]; omega) ?_
                      refine lv_iload_n hx hb dX1_copy_125 rfl (lv_at hl 3 rfl) ?_
                      refine lv_isub hx hb dX1_copy_126 ?_
                      refine lv_icmp_gt (tgt := 144) hx hb dX1_copy_127 (by decide) (fun c127 => ?_) (fun c127 => ?_)
                      · refine lv_aload_n hx hb dX1_copy_144 rfl (lv_at hl 1 rfl) ?_
                        refine lv_iconst (v := 3) hx hb dX1_copy_145 (by decide) ?_
                        refine m_ci E hK hA I (m_fails l D ty o ad (up σ 0 0 0) 3) go_m_fails dc_m_fails ⟨Nat.le_of_ble_eq_true rfl, Nat.le_of_ble_eq_true rfl⟩ ⟨Nat.le_refl 0, Nat.le_refl 0⟩ hl.1 (Nat.le_of_ble_eq_true rfl) rfl dX1_copy_146 (fun r146 σ146 H locs hp I => ?_)
                        refine top_i (y := (-10) - 3) hp.1 ?_
                        have I := m_as I hp.2
                        subst hQ
                        exact r_i E hlk hr I (Nat.le_refl 0) (Nat.le_refl 0) dX1_copy_149 (⟨by simp only [up_k (show 2 ≠ 0 by decide), up_k (show 3 ≠ 0 by decide)] at c29 c40 c61 c91 c102 c127; simp only [c9, c16, Bool.and_self, if_true, nI_clamp (show j < 2 ^ 31 by omega), nI_clamp (show w0 < 2 ^ 31 by omega)]; rw [if_neg (not_or.mpr ⟨c29, c40⟩), if_pos c61]; simp [mCp, c71, c76, c81, c91, c102, c127], by simp only [up_k (show 2 ≠ 0 by decide), up_k (show 3 ≠ 0 by decide)] at c29 c40 c61 c91 c102 c127; simp only [c9, c16, Bool.and_self, if_true, nI_clamp (show j < 2 ^ 31 by omega), nI_clamp (show w0 < 2 ^ 31 by omega)]; rw [if_neg (not_or.mpr ⟨c29, c40⟩), if_pos c61]; simp [mCp, c71, c76, c81, c91, c102, c127]⟩)
                      · refine lv_iload hx hb dX1_copy_130 (lv_at hl 6 rfl) ?_
                        refine lv_aload_n hx hb dX1_copy_132 rfl (lv_at hl 1 rfl) ?_
                        refine m_get E hK I 3 rfl q1118 rfl dX1_copy_133 ?_
                        refine lv_iload_n hx hb dX1_copy_136 rfl (lv_at hl 4 rfl) ?_
                        refine m_ald (i := w0) E hK I 1 rfl rfl rfl dX1_copy_137 (by simp only [mLn]; omega) ?_
                        refine lv_iload hx hb dX1_copy_138 (lv_at hl 5 rfl) ?_
                        refine lv_isub hx hb dX1_copy_140 ?_
                        refine lv_icmp_le (tgt := 150) hx hb dX1_copy_141 (by decide) (fun c141 => ?_) (fun c141 => ?_)
                        · obtain ⟨a, ha, ea⟩ := hL j (by omega)
                          obtain ⟨b, hb1, eb⟩ := hL w0 (by omega)
                          have hm : mCp (nI a) (nI b) i z n = true := by rw [← ea, ← eb]; simp only [up_k (show 3 ≠ 0 by decide)] at c91 c102 c127 c141; simp [mCp, c71, c76, c81, c91, c102, c127, c141]
                          obtain ⟨i0, z0, n0, e1, e2, e3, l1, l2⟩ := mCp_nat ha hb1 hm
                          subst e1
                          subst e2
                          subst e3
                          obtain ⟨s1, hs1⟩ : ∃ z, z = up σ 0 0 0 := ⟨_, rfl⟩
                          have I := m_as I hs1.symm
                          refine lv_iload_n hx hb dX1_copy_150 rfl (lv_at hl 3 rfl) ?_
                          refine lv_iload hx hb dX1_copy_151 (lv_at hl 5 rfl) ?_
                          refine lv_icmp_ge (tgt := 160) hx hb dX1_copy_153 (by decide) (fun c153 => ?_) (fun c153 => ?_)
                          · refine lv_iconst (v := 0) hx hb dX1_copy_160 (by decide) ?_
                            refine lv_istore (lv' := [(7, .int 0), (6, .int 1), (0, .ref o), (1, .int (nI j)), (2, .int (nI i0)), (3, .int (nI w0)), (4, .int (nI z0)), (5, .int (nI n0))]) hx hb dX1_copy_161 hl (by decide) rfl (fun ls hl => ?_)
                            refine lv_iconst (v := 0) hx hb dX1_copy_163 (by decide) ?_
                            refine lv_istore (lv' := [(8, .int 0), (7, .int 0), (6, .int 1), (0, .ref o), (1, .int (nI j)), (2, .int (nI i0)), (3, .int (nI w0)), (4, .int (nI z0)), (5, .int (nI n0))]) hx hb dX1_copy_164 hl (by decide) rfl (fun ls hl => ?_)
                            have hzi : z0 ≤ i0 := (nI_leI (by omega) (by omega)).mp c153
                            have L166 : ∀ t, t ≤ n0 → ∀ (H : Heap) (locs : List Loc) (ls : Array Slot), gI s D A (mW ty o ad (cpy s1 (40 * w0 + z0) (40 * j + i0) t)) H locs → lv_has ls 10 [(0, .ref o), (1, .int (nI j)), (2, .int (nI i0)), (3, .int (nI w0)), (4, .int (nI z0)), (5, .int (nI n0)), (7, .int 0), (8, .int (nI t))] → W p l e (rmL 3) s m args below meth c H locs 0 0 Q (F0 m 166 ls []) := by
                              refine dn_ind n0 ?_ ?_
                              · intro H locs ls I hl
                                refine lv_iload hx hb dX1_copy_166 (lv_at hl 7 rfl) ?_
                                refine lv_iload hx hb dX1_copy_168 (lv_at hl 5 rfl) ?_
                                refine lv_icmp_ge (tgt := 227) hx hb dX1_copy_170 (by decide) (fun c170 => ?_) (fun c170 => absurd c170 (fun h => h (Int32.le_refl _)))
                                refine lv_iload hx hb dX1_copy_227 (lv_at hl 5 rfl) ?_
                                subst hQ
                                exact r_i E hlk hr I (Nat.le_refl 0) (Nat.le_refl 0) dX1_copy_229 (⟨by simp only [up_k (show 2 ≠ 0 by decide)] at c29 c40 c61; simp only [c9, c16, Bool.and_self, if_true, nI_clamp (show j < 2 ^ 31 by omega), nI_clamp (show w0 < 2 ^ 31 by omega)]; rw [if_neg (not_or.mpr ⟨c29, c40⟩), if_pos c61, ea, eb, hm, if_pos rfl], by simp only [up_k (show 2 ≠ 0 by decide)] at c29 c40 c61; simp only [c9, c16, Bool.and_self, if_true, nI_clamp (show j < 2 ^ 31 by omega), nI_clamp (show w0 < 2 ^ 31 by omega)]; rw [if_neg (not_or.mpr ⟨c29, c40⟩), if_pos c61, ea, eb, hm, if_pos rfl]; simp only [nI_clamp (show i0 < 2 ^ 31 by omega), nI_clamp (show z0 < 2 ^ 31 by omega), nI_clamp (show n0 < 2 ^ 31 by omega)]; rw [hs1]⟩)
                              · intro t ht ih166 H locs ls I hl
                                refine lv_iload hx hb dX1_copy_166 (lv_at hl 7 rfl) ?_
                                refine lv_iload hx hb dX1_copy_168 (lv_at hl 5 rfl) ?_
                                refine lv_icmp_ge (tgt := 227) hx hb dX1_copy_170 (by decide) (fun c170 => absurd c170 (nI_ge ht (by omega))) (fun c170 => ?_)
                                refine lv_iload hx hb dX1_copy_173 (lv_at hl 6 rfl) ?_
                                refine lv_if_eq (tgt := 188) hx hb dX1_copy_175 (by decide) (fun _ => ?_) (fun h => absurd h (by decide))
                                refine lv_iload hx hb dX1_copy_188 (lv_at hl 7 rfl) ?_
                                refine lv_istore (lv' := [(9, .int (nI t)), (0, .ref o), (1, .int (nI j)), (2, .int (nI i0)), (3, .int (nI w0)), (4, .int (nI z0)), (5, .int (nI n0)), (7, .int 0), (8, .int (nI t))]) hx hb dX1_copy_190 hl (by decide) rfl (fun ls hl => ?_)
                                refine lv_aload_n hx hb dX1_copy_192 rfl (lv_at hl 1 rfl) ?_
                                refine m_get E hK I 4 rfl q1119 rfl dX1_copy_193 ?_
                                refine lv_bipush (v := 40) hx hb dX1_copy_196 (by decide) ?_
                                refine lv_iload_n hx hb dX1_copy_198 rfl (lv_at hl 4 rfl) ?_
                                refine lv_imul hx hb dX1_copy_199 ?_
                                refine lv_iload hx hb dX1_copy_200 (lv_at hl 5 rfl) ?_
                                refine lv_iadd hx hb dX1_copy_202 ?_
                                refine lv_iload hx hb dX1_copy_203 (lv_at hl 0 rfl) ?_
                                refine lv_iadd hx hb dX1_copy_205 ?_
                                refine top_i (y := nI ((40 * w0 + z0) + t)) (by rw [i40, nI_add]) ?_
                                refine lv_aload_n hx hb dX1_copy_206 rfl (lv_at hl 1 rfl) ?_
                                refine m_get E hK I 4 rfl q1119 rfl dX1_copy_207 ?_
                                refine lv_bipush (v := 40) hx hb dX1_copy_210 (by decide) ?_
                                refine lv_iload_n hx hb dX1_copy_212 rfl (lv_at hl 2 rfl) ?_
                                refine lv_imul hx hb dX1_copy_213 ?_
                                refine lv_iload_n hx hb dX1_copy_214 rfl (lv_at hl 3 rfl) ?_
                                refine lv_iadd hx hb dX1_copy_215 ?_
                                refine lv_iload hx hb dX1_copy_216 (lv_at hl 0 rfl) ?_
                                refine lv_iadd hx hb dX1_copy_218 ?_
                                refine top_i (y := nI ((40 * j + i0) + t)) (by rw [i40, nI_add]) ?_
                                refine m_ald (i := ((40 * j + i0) + t)) E hK I 2 rfl rfl rfl dX1_copy_219 (by simp only [mLn]; omega) ?_
                                refine m_ast (i := ((40 * w0 + z0) + t)) E hK I 2 rfl rfl rfl dX1_copy_220 (by simp only [mLn]; omega) (fun H locs I => ?_)
                                refine lv_iinc (v := nI (t + 1)) (lv' := [(8, .int (nI (t + 1))), (9, .int (nI t)), (0, .ref o), (1, .int (nI j)), (2, .int (nI i0)), (3, .int (nI w0)), (4, .int (nI z0)), (5, .int (nI n0)), (7, .int 0)]) hx hb dX1_copy_221 hl (k := 8) rfl (nI_1 _) (by decide) rfl (fun ls hl => ?_)
                                refine lv_goto (tgt := 166) hx hb dX1_copy_224 (by decide) ?_
                                exact ih166 _ _ ls (m_as I (cpy_f (by omega))) (lv_as (lv_sub (l' := [(0, .ref o), (1, .int (nI j)), (2, .int (nI i0)), (3, .int (nI w0)), (4, .int (nI z0)), (5, .int (nI n0)), (7, .int 0), (8, .int (nI (t + 1)))]) hl [2, 3, 4, 5, 6, 7, 8, 0] rfl) (rfl))
                            exact L166 0 (Nat.zero_le _) _ _ ls (m_as I (cpy_0 _ _ _)) (lv_as (lv_sub (l' := [(0, .ref o), (1, .int (nI j)), (2, .int (nI i0)), (3, .int (nI w0)), (4, .int (nI z0)), (5, .int (nI n0)), (7, .int 0), (8, .int 0)]) hl [3, 4, 5, 6, 7, 8, 1, 0] rfl) (rfl))
                          · refine lv_iconst (v := 1) hx hb dX1_copy_156 (by decide) ?_
                            refine lv_goto (tgt := 161) hx hb dX1_copy_157 (by decide) ?_
                            refine lv_istore (lv' := [(7, .int 1), (6, .int 1), (0, .ref o), (1, .int (nI j)), (2, .int (nI i0)), (3, .int (nI w0)), (4, .int (nI z0)), (5, .int (nI n0))]) hx hb dX1_copy_161 hl (by decide) rfl (fun ls hl => ?_)
                            refine lv_iconst (v := 0) hx hb dX1_copy_163 (by decide) ?_
                            refine lv_istore (lv' := [(8, .int 0), (7, .int 1), (6, .int 1), (0, .ref o), (1, .int (nI j)), (2, .int (nI i0)), (3, .int (nI w0)), (4, .int (nI z0)), (5, .int (nI n0))]) hx hb dX1_copy_164 hl (by decide) rfl (fun ls hl => ?_)
                            have hzi : i0 < z0 := nle_lt (by omega) c153
                            have L166 : ∀ t, t ≤ n0 → ∀ (H : Heap) (locs : List Loc) (ls : Array Slot), gI s D A (mW ty o ad (cpy s1 ((40 * w0 + z0) + (n0 - t)) ((40 * j + i0) + (n0 - t)) t)) H locs → lv_has ls 10 [(0, .ref o), (1, .int (nI j)), (2, .int (nI i0)), (3, .int (nI w0)), (4, .int (nI z0)), (5, .int (nI n0)), (7, .int 1), (8, .int (nI t))] → W p l e (rmL 3) s m args below meth c H locs 0 0 Q (F0 m 166 ls []) := by
                              refine dn_ind n0 ?_ ?_
                              · intro H locs ls I hl
                                refine lv_iload hx hb dX1_copy_166 (lv_at hl 7 rfl) ?_
                                refine lv_iload hx hb dX1_copy_168 (lv_at hl 5 rfl) ?_
                                refine lv_icmp_ge (tgt := 227) hx hb dX1_copy_170 (by decide) (fun c170 => ?_) (fun c170 => absurd c170 (fun h => h (Int32.le_refl _)))
                                refine lv_iload hx hb dX1_copy_227 (lv_at hl 5 rfl) ?_
                                subst hQ
                                exact r_i E hlk hr I (Nat.le_refl 0) (Nat.le_refl 0) dX1_copy_229 (⟨by simp only [up_k (show 2 ≠ 0 by decide)] at c29 c40 c61; simp only [c9, c16, Bool.and_self, if_true, nI_clamp (show j < 2 ^ 31 by omega), nI_clamp (show w0 < 2 ^ 31 by omega)]; rw [if_neg (not_or.mpr ⟨c29, c40⟩), if_pos c61, ea, eb, hm, if_pos rfl], by simp only [up_k (show 2 ≠ 0 by decide)] at c29 c40 c61; simp only [c9, c16, Bool.and_self, if_true, nI_clamp (show j < 2 ^ 31 by omega), nI_clamp (show w0 < 2 ^ 31 by omega)]; rw [if_neg (not_or.mpr ⟨c29, c40⟩), if_pos c61, ea, eb, hm, if_pos rfl]; simp only [nI_clamp (show i0 < 2 ^ 31 by omega), nI_clamp (show z0 < 2 ^ 31 by omega), nI_clamp (show n0 < 2 ^ 31 by omega)]; rw [hs1]; rw [Nat.sub_self]; rfl⟩)
                              · intro t ht ih166 H locs ls I hl
                                refine lv_iload hx hb dX1_copy_166 (lv_at hl 7 rfl) ?_
                                refine lv_iload hx hb dX1_copy_168 (lv_at hl 5 rfl) ?_
                                refine lv_icmp_ge (tgt := 227) hx hb dX1_copy_170 (by decide) (fun c170 => absurd c170 (nI_ge ht (by omega))) (fun c170 => ?_)
                                refine lv_iload hx hb dX1_copy_173 (lv_at hl 6 rfl) ?_
                                refine lv_if_eq (tgt := 188) hx hb dX1_copy_175 (by decide) (fun h => absurd h (by decide)) (fun _ => ?_)
                                refine lv_iload hx hb dX1_copy_178 (lv_at hl 5 rfl) ?_
                                refine lv_iconst (v := 1) hx hb dX1_copy_180 (by decide) ?_
                                refine lv_isub hx hb dX1_copy_181 ?_
                                refine lv_iload hx hb dX1_copy_182 (lv_at hl 7 rfl) ?_
                                refine lv_isub hx hb dX1_copy_184 ?_
                                refine lv_goto (tgt := 190) hx hb dX1_copy_185 (by decide) ?_
                                refine top_i (y := nI (n0 - 1 - t)) (by rw [nI_p (by omega), pk_sub (by omega)]) ?_
                                refine lv_istore (lv' := [(9, .int (nI (n0 - 1 - t))), (0, .ref o), (1, .int (nI j)), (2, .int (nI i0)), (3, .int (nI w0)), (4, .int (nI z0)), (5, .int (nI n0)), (7, .int 1), (8, .int (nI t))]) hx hb dX1_copy_190 hl (by decide) rfl (fun ls hl => ?_)
                                refine lv_aload_n hx hb dX1_copy_192 rfl (lv_at hl 1 rfl) ?_
                                refine m_get E hK I 4 rfl q1119 rfl dX1_copy_193 ?_
                                refine lv_bipush (v := 40) hx hb dX1_copy_196 (by decide) ?_
                                refine lv_iload_n hx hb dX1_copy_198 rfl (lv_at hl 4 rfl) ?_
                                refine lv_imul hx hb dX1_copy_199 ?_
                                refine lv_iload hx hb dX1_copy_200 (lv_at hl 5 rfl) ?_
                                refine lv_iadd hx hb dX1_copy_202 ?_
                                refine lv_iload hx hb dX1_copy_203 (lv_at hl 0 rfl) ?_
                                refine lv_iadd hx hb dX1_copy_205 ?_
                                refine top_i (y := nI ((40 * w0 + z0) + (n0 - 1 - t))) (by rw [i40, nI_add]) ?_
                                refine lv_aload_n hx hb dX1_copy_206 rfl (lv_at hl 1 rfl) ?_
                                refine m_get E hK I 4 rfl q1119 rfl dX1_copy_207 ?_
                                refine lv_bipush (v := 40) hx hb dX1_copy_210 (by decide) ?_
                                refine lv_iload_n hx hb dX1_copy_212 rfl (lv_at hl 2 rfl) ?_
                                refine lv_imul hx hb dX1_copy_213 ?_
                                refine lv_iload_n hx hb dX1_copy_214 rfl (lv_at hl 3 rfl) ?_
                                refine lv_iadd hx hb dX1_copy_215 ?_
                                refine lv_iload hx hb dX1_copy_216 (lv_at hl 0 rfl) ?_
                                refine lv_iadd hx hb dX1_copy_218 ?_
                                refine top_i (y := nI ((40 * j + i0) + (n0 - 1 - t))) (by rw [i40, nI_add]) ?_
                                refine m_ald (i := ((40 * j + i0) + (n0 - 1 - t))) E hK I 2 rfl rfl rfl dX1_copy_219 (by simp only [mLn]; omega) ?_
                                refine m_ast (i := ((40 * w0 + z0) + (n0 - 1 - t))) E hK I 2 rfl rfl rfl dX1_copy_220 (by simp only [mLn]; omega) (fun H locs I => ?_)
                                refine lv_iinc (v := nI (t + 1)) (lv' := [(8, .int (nI (t + 1))), (9, .int (nI (n0 - 1 - t))), (0, .ref o), (1, .int (nI j)), (2, .int (nI i0)), (3, .int (nI w0)), (4, .int (nI z0)), (5, .int (nI n0)), (7, .int 1)]) hx hb dX1_copy_221 hl (k := 8) rfl (nI_1 _) (by decide) rfl (fun ls hl => ?_)
                                refine lv_goto (tgt := 166) hx hb dX1_copy_224 (by decide) ?_
                                exact ih166 _ _ ls (m_as I (by rw [show (40 * w0 + z0) + (n0 - t) = (40 * w0 + z0) + (n0 - 1 - t) + 1 by omega, show (40 * j + i0) + (n0 - t) = (40 * j + i0) + (n0 - 1 - t) + 1 by omega, show n0 - (t + 1) = n0 - 1 - t by omega]; exact cpy_b (by omega))) (lv_as (lv_sub (l' := [(0, .ref o), (1, .int (nI j)), (2, .int (nI i0)), (3, .int (nI w0)), (4, .int (nI z0)), (5, .int (nI n0)), (7, .int 1), (8, .int (nI (t + 1)))]) hl [2, 3, 4, 5, 6, 7, 8, 0] rfl) (rfl))
                            exact L166 0 (Nat.zero_le _) _ _ ls (m_as I (cpy_0 _ _ _)) (lv_as (lv_sub (l' := [(0, .ref o), (1, .int (nI j)), (2, .int (nI i0)), (3, .int (nI w0)), (4, .int (nI z0)), (5, .int (nI n0)), (7, .int 1), (8, .int 0)]) hl [3, 4, 5, 6, 7, 8, 1, 0] rfl) (rfl))
                        · refine lv_aload_n hx hb dX1_copy_144 rfl (lv_at hl 1 rfl) ?_
                          refine lv_iconst (v := 3) hx hb dX1_copy_145 (by decide) ?_
                          refine m_ci E hK hA I (m_fails l D ty o ad (up σ 0 0 0) 3) go_m_fails dc_m_fails ⟨Nat.le_of_ble_eq_true rfl, Nat.le_of_ble_eq_true rfl⟩ ⟨Nat.le_refl 0, Nat.le_refl 0⟩ hl.1 (Nat.le_of_ble_eq_true rfl) rfl dX1_copy_146 (fun r146 σ146 H locs hp I => ?_)
                          refine top_i (y := (-10) - 3) hp.1 ?_
                          have I := m_as I hp.2
                          subst hQ
                          exact r_i E hlk hr I (Nat.le_refl 0) (Nat.le_refl 0) dX1_copy_149 (⟨by simp only [up_k (show 2 ≠ 0 by decide), up_k (show 3 ≠ 0 by decide)] at c29 c40 c61 c91 c102 c127 c141; simp only [c9, c16, Bool.and_self, if_true, nI_clamp (show j < 2 ^ 31 by omega), nI_clamp (show w0 < 2 ^ 31 by omega)]; rw [if_neg (not_or.mpr ⟨c29, c40⟩), if_pos c61]; simp [mCp, c71, c76, c81, c91, c102, c127, c141], by simp only [up_k (show 2 ≠ 0 by decide), up_k (show 3 ≠ 0 by decide)] at c29 c40 c61 c91 c102 c127 c141; simp only [c9, c16, Bool.and_self, if_true, nI_clamp (show j < 2 ^ 31 by omega), nI_clamp (show w0 < 2 ^ 31 by omega)]; rw [if_neg (not_or.mpr ⟨c29, c40⟩), if_pos c61]; simp [mCp, c71, c76, c81, c91, c102, c127, c141]⟩)
          · refine lv_aload_n hx hb dX1_copy_64 rfl (lv_at hl 0 rfl) ?_
            refine lv_iconst (v := 2) hx hb dX1_copy_65 (by decide) ?_
            refine m_ci E hK hA I (m_fails l D ty o ad (up σ 0 0 0) 2) go_m_fails dc_m_fails ⟨Nat.le_of_ble_eq_true rfl, Nat.le_of_ble_eq_true rfl⟩ ⟨Nat.le_refl 0, Nat.le_refl 0⟩ hl.1 (Nat.le_of_ble_eq_true rfl) rfl dX1_copy_66 (fun r66 σ66 H locs hp I => ?_)
            refine top_i (y := (-10) - 2) hp.1 ?_
            have I := m_as I hp.2
            subst hQ
            exact r_i E hlk hr I (Nat.le_refl 0) (Nat.le_refl 0) dX1_copy_69 (⟨by simp only [up_k (show 2 ≠ 0 by decide), up_k (show 3 ≠ 0 by decide)] at c29 c40 c61; simp only [c9, c16, Bool.and_self, if_true, nI_clamp (show j < 2 ^ 31 by omega), nI_clamp (show w0 < 2 ^ 31 by omega)]; simp [c29, c40, c61], by simp only [up_k (show 2 ≠ 0 by decide), up_k (show 3 ≠ 0 by decide)] at c29 c40 c61; simp only [c9, c16, Bool.and_self, if_true, nI_clamp (show j < 2 ^ 31 by omega), nI_clamp (show w0 < 2 ^ 31 by omega)]; simp [c29, c40, c61]⟩)
        · refine lv_aload_n hx hb dX1_copy_43 rfl (lv_at hl 0 rfl) ?_
          refine lv_iconst (v := 1) hx hb dX1_copy_44 (by decide) ?_
          refine m_ci E hK hA I (m_fails l D ty o ad (up σ 0 0 0) 1) go_m_fails dc_m_fails ⟨Nat.le_of_ble_eq_true rfl, Nat.le_of_ble_eq_true rfl⟩ ⟨Nat.le_refl 0, Nat.le_refl 0⟩ hl.1 (Nat.le_of_ble_eq_true rfl) rfl dX1_copy_45 (fun r45 σ45 H locs hp I => ?_)
          refine top_i (y := (-10) - 1) hp.1 ?_
          have I := m_as I hp.2
          subst hQ
          exact r_i E hlk hr I (Nat.le_refl 0) (Nat.le_refl 0) dX1_copy_48 (⟨by simp only [up_k (show 2 ≠ 0 by decide), up_k (show 3 ≠ 0 by decide)] at c29 c40; simp only [c9, c16, Bool.and_self, if_true, nI_clamp (show j < 2 ^ 31 by omega), nI_clamp (show w0 < 2 ^ 31 by omega)]; simp [c29, c40], by simp only [up_k (show 2 ≠ 0 by decide), up_k (show 3 ≠ 0 by decide)] at c29 c40; simp only [c9, c16, Bool.and_self, if_true, nI_clamp (show j < 2 ^ 31 by omega), nI_clamp (show w0 < 2 ^ 31 by omega)]; simp [c29, c40]⟩)
    · refine lv_iconst (v := (-1)) hx hb dX1_copy_19 (by decide) ?_
      subst hQ
      exact r_i E hlk hr I (Nat.le_refl 0) (Nat.le_refl 0) dX1_copy_20 (⟨by simp [c9, c16], by simp [c9, c16]⟩)
theorem dc_m_copy : yX1_copy.cls = RX1 ∧ yX1_copy.cls ≠ "java/lang/invoke/MethodHandle" ∧ yX1_copy.cls ≠ "java/lang/invoke/VarHandle" ∧ (parseMethodDescriptor yX1_copy.desc).map (fun d => d.parameters.length) = some 5 := by decide +kernel
