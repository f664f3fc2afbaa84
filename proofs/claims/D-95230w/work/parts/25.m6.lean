set_option maxRecDepth 100000
set_option maxHeartbeats 4000000
theorem wi_nat {v b : Int32} {n : Nat} (hb : b.toInt = n) (h : wi v 0 b = true) : ∃ j : Nat, j ≤ n ∧ v = nI j := by
  simp only [wi, Bool.and_eq_true, Bool.not_eq_true', decide_eq_false_iff_not] at h
  exact nI_of2 hb h.1 (Int32.not_lt.mp h.2)
theorem mGrp_nat {σ : Sg} {g : Int32} {G : Nat} (hG : G ≤ 8) (h16 : σ 16 0 = nI G) (h : mGrp σ g = true) : ∃ j : Nat, j < G ∧ g = nI j := by
  simp only [mGrp, Bool.and_eq_true, Bool.not_eq_true', decide_eq_false_iff_not] at h
  obtain ⟨j, hj, rfl⟩ := nI_of h.1
  refine ⟨j, ?_, rfl⟩
  have h2 := h.2
  rw [h16] at h2
  rcases Nat.lt_or_ge j G with h3 | h3
  · exact h3
  · exact absurd (nI_le h3 hj) h2
def mDayR (s : Sg) (j : Nat) (w : Int32) : Int32 := if w = 0 then (if s 32 j = 3 then 1 else if s 32 j = 4 then 2 else 0) else if w = 1 then s 33 j else if w = 2 then s 34 j else if w = 3 then s 35 j else if w = 4 then s 36 j else s 37 j
theorem m_day (l : Launch) (D : va_G) (ty : Nat → ClassId) (o : Nat) (ad : Nat → Nat) (σ : Sg) (g : Int32) (w : Int32) (T : Nat) (hT : T ≤ 6) (h5 : σ 5 0 = nI T) (G : Nat) (hG : G ≤ 8) (h16 : σ 16 0 = nI G) : mKi l yX1_day cX1_day 4 .int 10 D ty o ad σ [.int g, .int w] (fun r τ => r = (if mGrp σ g then (if wi w 0 5 then mDayR (mNow σ T G) (g).toNatClampNeg w else (-2)) else (-1)) ∧ τ = if mGrp σ g && wi w 0 5 then mNow σ T G else σ) := by
  refine Ki.of (by decide) (Nat.le_of_ble_eq_true rfl) ?_
  intro p e s m below meth c A ls args E hK hA hX hlk hr I hl
  have hx := E.1
  have hb := E.2.1
  have hl : lv_has ls 4 [(0, .ref o), (1, .int g), (2, .int w)] := hl
  refine lv_aload_n hx hb dX1_day_0 rfl (lv_at hl 0 rfl) ?_
  refine lv_iload_n hx hb dX1_day_1 rfl (lv_at hl 1 rfl) ?_
  refine m_ci E hK hA I (m_isGroup l D ty o ad σ g) go_m_isGroup dc_m_isGroup ⟨Nat.le_of_ble_eq_true rfl, Nat.le_of_ble_eq_true rfl⟩ ⟨Nat.le_refl 0, Nat.le_refl 0⟩ hl.1 (Nat.le_of_ble_eq_true rfl) rfl dX1_day_2 (fun r2 σ2 H locs hp I => ?_)
  refine top_i (y := bI (mGrp σ g)) hp.1 ?_
  have I := m_as I hp.2
  refine b_ne (tgt := 10) hx hb dX1_day_5 (by decide) (fun c5 => ?_) (fun c5 => ?_)
  · refine lv_iload_n hx hb dX1_day_10 rfl (lv_at hl 2 rfl) ?_
    refine lv_iconst (v := 0) hx hb dX1_day_11 (by decide) ?_
    refine lv_iconst (v := 5) hx hb dX1_day_12 (by decide) ?_
    refine c_Si E (m_within l w 0 5) go_m_within ⟨rfl, rfl⟩ dc_m_within ⟨Nat.le_of_ble_eq_true rfl, Nat.le_of_ble_eq_true rfl⟩ ⟨Nat.le_refl 0, Nat.le_refl 0⟩ hl.1 (Nat.le_of_ble_eq_true rfl) rfl dX1_day_13 (fun r13 hp => ?_)
    refine top_i (y := bI (wi w 0 5)) hp ?_
    refine b_ne (tgt := 22) hx hb dX1_day_16 (by decide) (fun c16 => ?_) (fun c16 => ?_)
    · obtain ⟨j, hj, ej⟩ := mGrp_nat hG h16 c5
      subst ej
      refine lv_aload_n hx hb dX1_day_22 rfl (lv_at hl 0 rfl) ?_
      refine m_ci E hK hA I (m_coinNow l D ty o ad σ T hT h5 G hG h16) go_m_coinNow dc_m_coinNow ⟨Nat.le_of_ble_eq_true rfl, Nat.le_of_ble_eq_true rfl⟩ ⟨Nat.le_refl 0, Nat.le_refl 0⟩ hl.1 (Nat.le_of_ble_eq_true rfl) rfl dX1_day_23 (fun r23 σ23 H locs hp I => ?_)
      refine top_i (y := sumI (mNow σ T G 36) G) hp.1 ?_
      have I := m_as I hp.2
      refine lv_istore_n (lv' := [(3, .int (sumI (mNow σ T G 36) G)), (0, .ref o), (1, .int (nI j)), (2, .int w)]) hx hb dX1_day_26 rfl hl (by decide) rfl (fun ls hl => ?_)
      obtain ⟨s1, hs1⟩ : ∃ z, z = mNow σ T G := ⟨_, rfl⟩
      have I := m_as I hs1.symm
      refine lv_iload_n hx hb dX1_day_27 rfl (lv_at hl 3 rfl) ?_
      by_cases c28_0 : w = 0
      · refine top_i (y := 0) c28_0 ?_
        refine lv_tableIn (tgt := 64) hx hb dX1_day_28 (by decide) (by decide) rfl (by decide) ?_
        refine lv_aload_n hx hb dX1_day_64 rfl (lv_at hl 1 rfl) ?_
        refine m_get E hK I 32 rfl q1147 rfl dX1_day_65 ?_
        refine lv_iload_n hx hb dX1_day_68 rfl (lv_at hl 2 rfl) ?_
        refine m_ald (i := j) E hK I 17 rfl rfl rfl dX1_day_69 (by simp only [mLn]; omega) ?_
        refine lv_iconst (v := 3) hx hb dX1_day_70 (by decide) ?_
        refine lv_icmp_ne (tgt := 78) hx hb dX1_day_71 (by decide) (fun c71 => ?_) (fun c71 => ?_)
        · refine lv_aload_n hx hb dX1_day_78 rfl (lv_at hl 1 rfl) ?_
          refine m_get E hK I 32 rfl q1147 rfl dX1_day_79 ?_
          refine lv_iload_n hx hb dX1_day_82 rfl (lv_at hl 2 rfl) ?_
          refine m_ald (i := j) E hK I 17 rfl rfl rfl dX1_day_83 (by simp only [mLn]; omega) ?_
          refine lv_iconst (v := 4) hx hb dX1_day_84 (by decide) ?_
          refine lv_icmp_ne (tgt := 92) hx hb dX1_day_85 (by decide) (fun c85 => ?_) (fun c85 => ?_)
          · refine lv_iconst (v := 0) hx hb dX1_day_92 (by decide) ?_
            exact r_i E hlk hr I (Nat.le_refl 0) (Nat.le_refl 0) dX1_day_93 (⟨by simp only [c5, c16, if_true, nI_clamp (show j < 2 ^ 31 by omega), ← hs1]; simp [mDayR, c28_0, c71, c85], by simp only [c5, c16, Bool.and_self, if_true]; exact hs1⟩)
          · refine lv_iconst (v := 2) hx hb dX1_day_88 (by decide) ?_
            refine lv_goto (tgt := 93) hx hb dX1_day_89 (by decide) ?_
            exact r_i E hlk hr I (Nat.le_refl 0) (Nat.le_refl 0) dX1_day_93 (⟨by simp only [c5, c16, if_true, nI_clamp (show j < 2 ^ 31 by omega), ← hs1]; simp [mDayR, c28_0, c71, c85], by simp only [c5, c16, Bool.and_self, if_true]; exact hs1⟩)
        · refine lv_iconst (v := 1) hx hb dX1_day_74 (by decide) ?_
          refine lv_goto (tgt := 93) hx hb dX1_day_75 (by decide) ?_
          exact r_i E hlk hr I (Nat.le_refl 0) (Nat.le_refl 0) dX1_day_93 (⟨by simp only [c5, c16, if_true, nI_clamp (show j < 2 ^ 31 by omega), ← hs1]; simp [mDayR, c28_0, c71], by simp only [c5, c16, Bool.and_self, if_true]; exact hs1⟩)
      by_cases c28_1 : w = 1
      · refine top_i (y := 1) c28_1 ?_
        refine lv_tableIn (tgt := 94) hx hb dX1_day_28 (by decide) (by decide) rfl (by decide) ?_
        refine lv_aload_n hx hb dX1_day_94 rfl (lv_at hl 1 rfl) ?_
        refine m_get E hK I 33 rfl q1148 rfl dX1_day_95 ?_
        refine lv_iload_n hx hb dX1_day_98 rfl (lv_at hl 2 rfl) ?_
        refine m_ald (i := j) E hK I 18 rfl rfl rfl dX1_day_99 (by simp only [mLn]; omega) ?_
        exact r_i E hlk hr I (Nat.le_refl 0) (Nat.le_refl 0) dX1_day_100 (⟨by simp only [c5, c16, if_true, nI_clamp (show j < 2 ^ 31 by omega), ← hs1]; simp [mDayR, c28_1], by simp only [c5, c16, Bool.and_self, if_true]; exact hs1⟩)
      by_cases c28_2 : w = 2
      · refine top_i (y := 2) c28_2 ?_
        refine lv_tableIn (tgt := 101) hx hb dX1_day_28 (by decide) (by decide) rfl (by decide) ?_
        refine lv_aload_n hx hb dX1_day_101 rfl (lv_at hl 1 rfl) ?_
        refine m_get E hK I 34 rfl q1149 rfl dX1_day_102 ?_
        refine lv_iload_n hx hb dX1_day_105 rfl (lv_at hl 2 rfl) ?_
        refine m_ald (i := j) E hK I 19 rfl rfl rfl dX1_day_106 (by simp only [mLn]; omega) ?_
        exact r_i E hlk hr I (Nat.le_refl 0) (Nat.le_refl 0) dX1_day_107 (⟨by simp only [c5, c16, if_true, nI_clamp (show j < 2 ^ 31 by omega), ← hs1]; simp [mDayR, c28_2], by simp only [c5, c16, Bool.and_self, if_true]; exact hs1⟩)
      by_cases c28_3 : w = 3
      · refine top_i (y := 3) c28_3 ?_
        refine lv_tableIn (tgt := 108) hx hb dX1_day_28 (by decide) (by decide) rfl (by decide) ?_
        refine lv_aload_n hx hb dX1_day_108 rfl (lv_at hl 1 rfl) ?_
        refine m_get E hK I 35 rfl q1150 rfl dX1_day_109 ?_
        refine lv_iload_n hx hb dX1_day_112 rfl (lv_at hl 2 rfl) ?_
        refine m_ald (i := j) E hK I 20 rfl rfl rfl dX1_day_113 (by simp only [mLn]; omega) ?_
        exact r_i E hlk hr I (Nat.le_refl 0) (Nat.le_refl 0) dX1_day_114 (⟨by simp only [c5, c16, if_true, nI_clamp (show j < 2 ^ 31 by omega), ← hs1]; simp [mDayR, c28_3], by simp only [c5, c16, Bool.and_self, if_true]; exact hs1⟩)
      by_cases c28_4 : w = 4
      · refine top_i (y := 4) c28_4 ?_
        refine lv_tableIn (tgt := 115) hx hb dX1_day_28 (by decide) (by decide) rfl (by decide) ?_
        refine lv_aload_n hx hb dX1_day_115 rfl (lv_at hl 1 rfl) ?_
        refine m_get E hK I 36 rfl q1151 rfl dX1_day_116 ?_
        refine lv_iload_n hx hb dX1_day_119 rfl (lv_at hl 2 rfl) ?_
        refine m_ald (i := j) E hK I 21 rfl rfl rfl dX1_day_120 (by simp only [mLn]; omega) ?_
        exact r_i E hlk hr I (Nat.le_refl 0) (Nat.le_refl 0) dX1_day_121 (⟨by simp only [c5, c16, if_true, nI_clamp (show j < 2 ^ 31 by omega), ← hs1]; simp [mDayR, c28_4], by simp only [c5, c16, Bool.and_self, if_true]; exact hs1⟩)
      refine lv_tableOut (tgt := 122) hx hb dX1_day_28 (by have := lv_neT c28_0 (a := 0) rfl; have := lv_neT c28_1 (a := 1) rfl; have := lv_neT c28_2 (a := 2) rfl; have := lv_neT c28_3 (a := 3) rfl; have := lv_neT c28_4 (a := 4) rfl; omega) (by decide) ?_
      refine lv_aload_n hx hb dX1_day_122 rfl (lv_at hl 1 rfl) ?_
      refine m_get E hK I 37 rfl q1152 rfl dX1_day_123 ?_
      refine lv_iload_n hx hb dX1_day_126 rfl (lv_at hl 2 rfl) ?_
      refine m_ald (i := j) E hK I 22 rfl rfl rfl dX1_day_127 (by simp only [mLn]; omega) ?_
      exact r_i E hlk hr I (Nat.le_refl 0) (Nat.le_refl 0) dX1_day_128 (⟨by simp only [c5, c16, if_true, nI_clamp (show j < 2 ^ 31 by omega), ← hs1]; simp [mDayR, c28_0, c28_1, c28_2, c28_3, c28_4], by simp only [c5, c16, Bool.and_self, if_true]; exact hs1⟩)
    · refine lv_bipush (v := (-2)) hx hb dX1_day_19 (by decide) ?_
      exact r_i E hlk hr I (Nat.le_refl 0) (Nat.le_refl 0) dX1_day_21 (⟨by simp [c5, c16], by simp [c5, c16]⟩)
  · refine lv_iconst (v := (-1)) hx hb dX1_day_8 (by decide) ?_
    exact r_i E hlk hr I (Nat.le_refl 0) (Nat.le_refl 0) dX1_day_9 (⟨by simp [c5], by simp [c5]⟩)
theorem dc_m_day : yX1_day.cls = RX1 ∧ yX1_day.cls ≠ "java/lang/invoke/MethodHandle" ∧ yX1_day.cls ≠ "java/lang/invoke/VarHandle" ∧ (parseMethodDescriptor yX1_day.desc).map (fun d => d.parameters.length) = some 2 := by decide +kernel
theorem m_taken (l : Launch) (D : va_G) (ty : Nat → ClassId) (o : Nat) (ad : Nat → Nat) (σ : Sg) (v : Int32) (w : Int32) (T : Nat) (hT : T ≤ 6) (h5 : σ 5 0 = nI T) (G : Nat) (hG : G ≤ 8) (h16 : σ 16 0 = nI G) : mKi l yX1_taken cX1_taken 4 .int 10 D ty o ad σ [.int v, .int w] (fun r τ => r = (if wi v 0 399 && wi w 0 1 then (if mCafe σ then (if w = 0 then mNow σ T G 38 (v).toNatClampNeg else mNow σ T G 39 (v).toNatClampNeg) else (-3)) else (-2)) ∧ τ = if wi v 0 399 && wi w 0 1 && mCafe σ then mNow σ T G else σ) := by
  refine Ki.of (by decide) (Nat.le_of_ble_eq_true rfl) ?_
  intro p e s m below meth c A ls args E hK hA hX hlk hr I hl
  have hx := E.1
  have hb := E.2.1
  have hl : lv_has ls 4 [(0, .ref o), (1, .int v), (2, .int w)] := hl
  refine lv_iload_n hx hb dX1_taken_0 rfl (lv_at hl 1 rfl) ?_
  refine lv_iconst (v := 0) hx hb dX1_taken_1 (by decide) ?_
  refine lv_sipush (v := 399) hx hb dX1_taken_2 (by decide) ?_
  refine c_Si E (m_within l v 0 399) go_m_within ⟨rfl, rfl⟩ dc_m_within ⟨Nat.le_of_ble_eq_true rfl, Nat.le_of_ble_eq_true rfl⟩ ⟨Nat.le_refl 0, Nat.le_refl 0⟩ hl.1 (Nat.le_of_ble_eq_true rfl) rfl dX1_taken_5 (fun r5 hp => ?_)
  refine top_i (y := bI (wi v 0 399)) hp ?_
  refine b_eq (tgt := 20) hx hb dX1_taken_8 (by decide) (fun c8 => ?_) (fun c8 => ?_)
  · refine lv_bipush (v := (-2)) hx hb dX1_taken_20 (by decide) ?_
    exact r_i E hlk hr I (Nat.le_refl 0) (Nat.le_refl 0) dX1_taken_22 (⟨by simp [c8], by simp [c8]⟩)
  · refine lv_iload_n hx hb dX1_taken_11 rfl (lv_at hl 2 rfl) ?_
    refine lv_iconst (v := 0) hx hb dX1_taken_12 (by decide) ?_
    refine lv_iconst (v := 1) hx hb dX1_taken_13 (by decide) ?_
    refine c_Si E (m_within l w 0 1) go_m_within ⟨rfl, rfl⟩ dc_m_within ⟨Nat.le_of_ble_eq_true rfl, Nat.le_of_ble_eq_true rfl⟩ ⟨Nat.le_refl 0, Nat.le_refl 0⟩ hl.1 (Nat.le_of_ble_eq_true rfl) rfl dX1_taken_14 (fun r14 hp => ?_)
    refine top_i (y := bI (wi w 0 1)) hp ?_
    refine b_ne (tgt := 23) hx hb dX1_taken_17 (by decide) (fun c17 => ?_) (fun c17 => ?_)
    · refine lv_aload_n hx hb dX1_taken_23 rfl (lv_at hl 0 rfl) ?_
      refine m_ci E hK hA I (m_isCafe l D ty o ad σ) go_m_isCafe dc_m_isCafe ⟨Nat.le_of_ble_eq_true rfl, Nat.le_of_ble_eq_true rfl⟩ ⟨Nat.le_refl 0, Nat.le_refl 0⟩ hl.1 (Nat.le_of_ble_eq_true rfl) rfl dX1_taken_24 (fun r24 σ24 H locs hp I => ?_)
      refine top_i (y := bI (mCafe σ)) hp.1 ?_
      have I := m_as I hp.2
      refine b_ne (tgt := 33) hx hb dX1_taken_27 (by decide) (fun c27 => ?_) (fun c27 => ?_)
      · obtain ⟨j, hj, ej⟩ := wi_nat (n := 399) (by decide) c8
        subst ej
        refine lv_aload_n hx hb dX1_taken_33 rfl (lv_at hl 0 rfl) ?_
        refine m_ci E hK hA I (m_coinNow l D ty o ad σ T hT h5 G hG h16) go_m_coinNow dc_m_coinNow ⟨Nat.le_of_ble_eq_true rfl, Nat.le_of_ble_eq_true rfl⟩ ⟨Nat.le_refl 0, Nat.le_refl 0⟩ hl.1 (Nat.le_of_ble_eq_true rfl) rfl dX1_taken_34 (fun r34 σ34 H locs hp I => ?_)
        refine top_i (y := sumI (mNow σ T G 36) G) hp.1 ?_
        have I := m_as I hp.2
        refine lv_istore_n (lv' := [(3, .int (sumI (mNow σ T G 36) G)), (0, .ref o), (1, .int (nI j)), (2, .int w)]) hx hb dX1_taken_37 rfl hl (by decide) rfl (fun ls hl => ?_)
        obtain ⟨s1, hs1⟩ : ∃ z, z = mNow σ T G := ⟨_, rfl⟩
        have I := m_as I hs1.symm
        refine lv_iload_n hx hb dX1_taken_38 rfl (lv_at hl 3 rfl) ?_
        refine lv_if_ne (tgt := 51) hx hb dX1_taken_39 (by decide) (fun c39 => ?_) (fun c39 => ?_)
        · refine lv_aload_n hx hb dX1_taken_51 rfl (lv_at hl 1 rfl) ?_
          refine m_get E hK I 39 rfl q1154 rfl dX1_taken_52 ?_
          refine lv_iload_n hx hb dX1_taken_55 rfl (lv_at hl 2 rfl) ?_
          refine m_ald (i := j) E hK I 24 rfl rfl rfl dX1_taken_56 (by simp only [mLn]; omega) ?_
          exact r_i E hlk hr I (Nat.le_refl 0) (Nat.le_refl 0) dX1_taken_57 (⟨by simp only [c8, c17, c27, if_true, Bool.and_self, nI_clamp (show j < 2 ^ 31 by omega), ← hs1]; simp [c39], by simp only [c8, c17, c27, Bool.and_self, if_true]; exact hs1⟩)
        · refine lv_aload_n hx hb dX1_taken_42 rfl (lv_at hl 1 rfl) ?_
          refine m_get E hK I 38 rfl q1153 rfl dX1_taken_43 ?_
          refine lv_iload_n hx hb dX1_taken_46 rfl (lv_at hl 2 rfl) ?_
          refine m_ald (i := j) E hK I 23 rfl rfl rfl dX1_taken_47 (by simp only [mLn]; omega) ?_
          refine lv_goto (tgt := 57) hx hb dX1_taken_48 (by decide) ?_
          exact r_i E hlk hr I (Nat.le_refl 0) (Nat.le_refl 0) dX1_taken_57 (⟨by simp only [c8, c17, c27, if_true, Bool.and_self, nI_clamp (show j < 2 ^ 31 by omega), ← hs1]; simp [c39], by simp only [c8, c17, c27, Bool.and_self, if_true]; exact hs1⟩)
      · refine lv_bipush (v := (-3)) hx hb dX1_taken_30 (by decide) ?_
        exact r_i E hlk hr I (Nat.le_refl 0) (Nat.le_refl 0) dX1_taken_32 (⟨by simp [c8, c17, c27], by simp [c8, c17, c27]⟩)
    · refine lv_bipush (v := (-2)) hx hb dX1_taken_20 (by decide) ?_
      exact r_i E hlk hr I (Nat.le_refl 0) (Nat.le_refl 0) dX1_taken_22 (⟨by simp [c8, c17], by simp [c8, c17]⟩)
theorem dc_m_taken : yX1_taken.cls = RX1 ∧ yX1_taken.cls ≠ "java/lang/invoke/MethodHandle" ∧ yX1_taken.cls ≠ "java/lang/invoke/VarHandle" ∧ (parseMethodDescriptor yX1_taken.desc).map (fun d => d.parameters.length) = some 2 := by decide +kernel
theorem m_coin (l : Launch) (D : va_G) (ty : Nat → ClassId) (o : Nat) (ad : Nat → Nat) (σ : Sg) (T : Nat) (hT : T ≤ 6) (h5 : σ 5 0 = nI T) (G : Nat) (hG : G ≤ 8) (h16 : σ 16 0 = nI G) : mKi l yX1_coin cX1_coin 1 .int 10 D ty o ad σ [] (fun r τ => r = (if mCafe σ then sumI (mNow σ T G 36) G else (-3)) ∧ τ = if mCafe σ then mNow σ T G else σ) := by
  refine Ki.of (by decide) (Nat.le_of_ble_eq_true rfl) ?_
  intro p e s m below meth c A ls args E hK hA hX hlk hr I hl
  have hx := E.1
  have hb := E.2.1
  have hl : lv_has ls 1 [(0, .ref o)] := hl
  refine lv_aload_n hx hb dX1_coin_0 rfl (lv_at hl 0 rfl) ?_
  refine m_ci E hK hA I (m_isCafe l D ty o ad σ) go_m_isCafe dc_m_isCafe ⟨Nat.le_of_ble_eq_true rfl, Nat.le_of_ble_eq_true rfl⟩ ⟨Nat.le_refl 0, Nat.le_refl 0⟩ hl.1 (Nat.le_of_ble_eq_true rfl) rfl dX1_coin_1 (fun r1 σ1 H locs hp I => ?_)
  refine top_i (y := bI (mCafe σ)) hp.1 ?_
  have I := m_as I hp.2
  refine b_eq (tgt := 14) hx hb dX1_coin_4 (by decide) (fun c4 => ?_) (fun c4 => ?_)
  · refine lv_bipush (v := (-3)) hx hb dX1_coin_14 (by decide) ?_
    exact r_i E hlk hr I (Nat.le_refl 0) (Nat.le_refl 0) dX1_coin_16 (⟨by simp [c4], by simp [c4]⟩)
  · refine lv_aload_n hx hb dX1_coin_7 rfl (lv_at hl 0 rfl) ?_
    refine m_ci E hK hA I (m_coinNow l D ty o ad σ T hT h5 G hG h16) go_m_coinNow dc_m_coinNow ⟨Nat.le_of_ble_eq_true rfl, Nat.le_of_ble_eq_true rfl⟩ ⟨Nat.le_refl 0, Nat.le_refl 0⟩ hl.1 (Nat.le_of_ble_eq_true rfl) rfl dX1_coin_8 (fun r8 σ8 H locs hp I => ?_)
    refine top_i (y := sumI (mNow σ T G 36) G) hp.1 ?_
    have I := m_as I hp.2
    refine lv_goto (tgt := 16) hx hb dX1_coin_11 (by decide) ?_
    exact r_i E hlk hr I (Nat.le_refl 0) (Nat.le_refl 0) dX1_coin_16 (⟨by simp [c4], by simp [c4]⟩)
theorem dc_m_coin : yX1_coin.cls = RX1 ∧ yX1_coin.cls ≠ "java/lang/invoke/MethodHandle" ∧ yX1_coin.cls ≠ "java/lang/invoke/VarHandle" ∧ (parseMethodDescriptor yX1_coin.desc).map (fun d => d.parameters.length) = some 0 := by decide +kernel
def mOut (σ : Sg) (g : Int32) (T G : Nat) : Sg := mDay (up (mNow σ T G) 29 0 g) T G
theorem mNow_T (σ : Sg) (T G : Nat) : mNow σ T G 23 0 = nI T := by
  unfold mNow
  rw [mDay_k (by omega)]
  exact mLay_T σ T
theorem m_worth (l : Launch) (D : va_G) (ty : Nat → ClassId) (o : Nat) (ad : Nat → Nat) (σ : Sg) (g : Int32) (T : Nat) (hT : T ≤ 6) (h5 : σ 5 0 = nI T) (G : Nat) (hG : G ≤ 8) (h16 : σ 16 0 = nI G) : mKl l yX1_worth cX1_worth 3 10 D ty o ad σ [.int g] (fun r τ => r = (if mGrp σ g then (sumI (mNow σ T G 36) G - sumI (mOut σ g T G 36) G).toInt64 else (-9223372036854775808)) ∧ τ = if mGrp σ g then mOut σ g T G else σ) := by
  refine Kl.of (by decide) (Nat.le_of_ble_eq_true rfl) ?_
  intro p e s m below meth c A ls args E hK hA hX hlk hr I hl
  have hx := E.1
  have hb := E.2.1
  have hl : lv_has ls 3 [(0, .ref o), (1, .int g)] := hl
  refine lv_aload_n hx hb dX1_worth_0 rfl (lv_at hl 0 rfl) ?_
  refine lv_iload_n hx hb dX1_worth_1 rfl (lv_at hl 1 rfl) ?_
  refine m_ci E hK hA I (m_isGroup l D ty o ad σ g) go_m_isGroup dc_m_isGroup ⟨Nat.le_of_ble_eq_true rfl, Nat.le_of_ble_eq_true rfl⟩ ⟨Nat.le_refl 0, Nat.le_refl 0⟩ hl.1 (Nat.le_of_ble_eq_true rfl) rfl dX1_worth_2 (fun r2 σ2 H locs hp I => ?_)
  refine top_i (y := bI (mGrp σ g)) hp.1 ?_
  have I := m_as I hp.2
  refine b_ne (tgt := 12) hx hb dX1_worth_5 (by decide) (fun c5 => ?_) (fun c5 => ?_)
  · refine lv_aload_n hx hb dX1_worth_12 rfl (lv_at hl 0 rfl) ?_
    refine m_ci E hK hA I (m_coinNow l D ty o ad σ T hT h5 G hG h16) go_m_coinNow dc_m_coinNow ⟨Nat.le_of_ble_eq_true rfl, Nat.le_of_ble_eq_true rfl⟩ ⟨Nat.le_refl 0, Nat.le_refl 0⟩ hl.1 (Nat.le_of_ble_eq_true rfl) rfl dX1_worth_13 (fun r13 σ13 H locs hp I => ?_)
    refine top_i (y := sumI (mNow σ T G 36) G) hp.1 ?_
    have I := m_as I hp.2
    refine lv_istore_n (lv' := [(2, .int (sumI (mNow σ T G 36) G)), (0, .ref o), (1, .int g)]) hx hb dX1_worth_16 rfl hl (by decide) rfl (fun ls hl => ?_)
    refine lv_aload_n hx hb dX1_worth_17 rfl (lv_at hl 1 rfl) ?_
    refine lv_iload_n hx hb dX1_worth_18 rfl (lv_at hl 2 rfl) ?_
    refine m_put E hK I 29 rfl rfl q1144 rfl rfl rfl dX1_worth_19 (fun H locs I => ?_)
    refine lv_aload_n hx hb dX1_worth_22 rfl (lv_at hl 1 rfl) ?_
    refine m_cv E hK hA I (m_goDay l D ty o ad (up (mNow σ T G) 29 0 g) T hT (by rw [up_k (by decide)]; exact mNow_T σ T G) G hG (by rw [up_k (by decide), mNow_k (by omega)]; exact h16)) go_m_goDay dc_m_goDay ⟨Nat.le_of_ble_eq_true rfl, Nat.le_of_ble_eq_true rfl⟩ ⟨Nat.le_refl 0, Nat.le_refl 0⟩ hl.1 (Nat.le_of_ble_eq_true rfl) rfl dX1_worth_23 (fun σ23 H locs hp I => ?_)
    have I := m_as I hp
    refine lv_iload_n hx hb dX1_worth_26 rfl (lv_at hl 0 rfl) ?_
    refine lv_aload_n hx hb dX1_worth_27 rfl (lv_at hl 1 rfl) ?_
    refine m_ci E hK hA I (m_allCoin l D ty o ad (mDay (up (mNow σ T G) 29 0 g) T G) G hG (by rw [mDay_k (by omega), up_k (by decide), mNow_k (by omega)]; exact h16)) go_m_allCoin dc_m_allCoin ⟨Nat.le_of_ble_eq_true rfl, Nat.le_of_ble_eq_true rfl⟩ ⟨Nat.le_refl 0, Nat.le_refl 0⟩ hl.1 (Nat.le_of_ble_eq_true rfl) rfl dX1_worth_28 (fun r28 σ28 H locs hp I => ?_)
    refine top_i (y := sumI ((mDay (up (mNow σ T G) 29 0 g) T G) 36) G) hp.1 ?_
    have I := m_as I hp.2
    refine lv_isub hx hb dX1_worth_31 ?_
    refine lv_i2l hx hb dX1_worth_32 rfl ?_
    exact r_l E hlk hr I (Nat.le_refl 0) (Nat.le_refl 0) dX1_worth_33 (⟨by simp only [c5, if_true]; rfl, by simp only [c5, if_true]; rfl⟩)
  · refine lv_ldc2 (v := (-9223372036854775808)) hx hb E.2.2.2.1 (E.2.2.2.2 _ q1418) dX1_worth_8 ?_
    exact r_l E hlk hr I (Nat.le_refl 0) (Nat.le_refl 0) dX1_worth_11 (⟨by simp [c5], by simp [c5]⟩)
theorem dc_m_worth : yX1_worth.cls = RX1 ∧ yX1_worth.cls ≠ "java/lang/invoke/MethodHandle" ∧ yX1_worth.cls ≠ "java/lang/invoke/VarHandle" ∧ (parseMethodDescriptor yX1_worth.desc).map (fun d => d.parameters.length) = some 1 := by decide +kernel
def mBR (T G : Nat) (v : Nat) (z : Sg × Int32 × Int32) : Sg × Int32 × Int32 := if sumI (mBy z.1 (nI v) (z.1 9 0) T G 36) G ≤ z.2.2 then (mBy z.1 (nI v) (z.1 9 0) T G, z.2.1, z.2.2) else (mBy z.1 (nI v) (z.1 9 0) T G, nI v, sumI (mBy z.1 (nI v) (z.1 9 0) T G 36) G)
def mBP (T G : Nat) (v : Nat) (z : Sg × Int32 × Int32) : Sg × Int32 × Int32 := if sumI (mBy z.1 (z.1 8 0) (nI v) T G 36) G ≤ z.2.2 then (mBy z.1 (z.1 8 0) (nI v) T G, z.2.1, z.2.2) else (mBy z.1 (z.1 8 0) (nI v) T G, nI v, sumI (mBy z.1 (z.1 8 0) (nI v) T G 36) G)
theorem fo_k1 {α : Type} {f : Nat → Sg × α → Sg × α} {k : Nat} (h : ∀ i s, (f i s).1 k = s.1 k) : ∀ (n : Nat) (s : Sg × α), (fo f n s).1 k = s.1 k
  | 0, _ => rfl
  | n + 1, s => (h n _).trans (fo_k1 h n s)
theorem mBR_k {k : Nat} (h : k < 23 ∨ 40 < k) (T G v : Nat) (z : Sg × Int32 × Int32) : (mBR T G v z).1 k = z.1 k := by
  unfold mBR
  split <;> exact mBy_k h _ _ _ _ _
theorem mBP_k {k : Nat} (h : k < 23 ∨ 40 < k) (T G v : Nat) (z : Sg × Int32 × Int32) : (mBP T G v z).1 k = z.1 k := by
  unfold mBP
  split <;> exact mBy_k h _ _ _ _ _
def mBT (x : Int32) (T G : Nat) (v : Nat) (z : Sg × Nat × Option Nat × Option Nat) : Sg × Nat × Option Nat × Option Nat := if sumI (mBy z.1 (z.1 8 0) (nI v) T G 36) G = x then (mBy z.1 (z.1 8 0) (nI v) T G, z.2.1 + 1, (match z.2.2.1 with | none => some v | some b => some b), some v) else (mBy z.1 (z.1 8 0) (nI v) T G, z.2.1, z.2.2.1, z.2.2.2)
theorem mBT_k {k : Nat} (h : k < 23 ∨ 40 < k) (x : Int32) (T G v : Nat) (z : Sg × Nat × Option Nat × Option Nat) : (mBT x T G v z).1 k = z.1 k := by
  unfold mBT
  split <;> exact mBy_k h _ _ _ _ _
theorem m_bestRule (l : Launch) (D : va_G) (ty : Nat → ClassId) (o : Nat) (ad : Nat → Nat) (σ : Sg) (x : Int32) (T : Nat) (hT : T ≤ 6) (h5 : σ 5 0 = nI T) (G : Nat) (hG : G ≤ 8) (h16 : σ 16 0 = nI G) : mKi l yX1_bestRule cX1_bestRule 6 .int 10 D ty o ad σ [.int x] (fun r τ => r = (if wi x 0 1 then (if mCafe σ then (if x = 0 then (fo (mBR T G) 3 (σ, 0, -1)).2.1 else (fo (mBR T G) 3 (σ, 0, -1)).2.2) else (-3)) else (-2)) ∧ τ = if wi x 0 1 && mCafe σ then (fo (mBR T G) 3 (σ, 0, -1)).1 else σ) := by
  refine Ki.of (by decide) (Nat.le_of_ble_eq_true rfl) ?_
  intro p e s m below meth c A ls args E hK hA hX hlk hr I hl
  have hx := E.1
  have hb := E.2.1
  have hl : lv_has ls 6 [(0, .ref o), (1, .int x)] := hl
  refine nameQ (fun Q hQ => ?_)
  refine lv_iload_n hx hb dX1_bestRule_0 rfl (lv_at hl 1 rfl) ?_
  refine lv_iconst (v := 0) hx hb dX1_bestRule_1 (by decide) ?_
  refine lv_iconst (v := 1) hx hb dX1_bestRule_2 (by decide) ?_
  refine c_Si E (m_within l x 0 1) go_m_within ⟨rfl, rfl⟩ dc_m_within ⟨Nat.le_of_ble_eq_true rfl, Nat.le_of_ble_eq_true rfl⟩ ⟨Nat.le_refl 0, Nat.le_refl 0⟩ hl.1 (Nat.le_of_ble_eq_true rfl) rfl dX1_bestRule_3 (fun r3 hp => ?_)
  refine top_i (y := bI (wi x 0 1)) hp ?_
  refine b_ne (tgt := 12) hx hb dX1_bestRule_6 (by decide) (fun c6 => ?_) (fun c6 => ?_)
  · refine lv_aload_n hx hb dX1_bestRule_12 rfl (lv_at hl 0 rfl) ?_
    refine m_ci E hK hA I (m_isCafe l D ty o ad σ) go_m_isCafe dc_m_isCafe ⟨Nat.le_of_ble_eq_true rfl, Nat.le_of_ble_eq_true rfl⟩ ⟨Nat.le_refl 0, Nat.le_refl 0⟩ hl.1 (Nat.le_of_ble_eq_true rfl) rfl dX1_bestRule_13 (fun r13 σ13 H locs hp I => ?_)
    refine top_i (y := bI (mCafe σ)) hp.1 ?_
    have I := m_as I hp.2
    refine b_ne (tgt := 22) hx hb dX1_bestRule_16 (by decide) (fun c16 => ?_) (fun c16 => ?_)
    · refine lv_iconst (v := 0) hx hb dX1_bestRule_22 (by decide) ?_
      refine lv_istore_n (lv' := [(2, .int 0), (0, .ref o), (1, .int x)]) hx hb dX1_bestRule_23 rfl hl (by decide) rfl (fun ls hl => ?_)
      refine lv_iconst (v := (-1)) hx hb dX1_bestRule_24 (by decide) ?_
      refine lv_istore_n (lv' := [(3, .int (-1)), (2, .int 0), (0, .ref o), (1, .int x)]) hx hb dX1_bestRule_25 rfl hl (by decide) rfl (fun ls hl => ?_)
      refine lv_iconst (v := 0) hx hb dX1_bestRule_26 (by decide) ?_
      refine lv_istore (lv' := [(4, .int 0), (3, .int (-1)), (2, .int 0), (0, .ref o), (1, .int x)]) hx hb dX1_bestRule_27 hl (by decide) rfl (fun ls hl => ?_)
      have L29 : ∀ i, i ≤ 3 → ∀ (H : Heap) (locs : List Loc) (ls : Array Slot), gI s D A (mW ty o ad ((fo (mBR T G) i (σ, 0, -1)).1)) H locs → lv_has ls 6 [(0, .ref o), (1, .int x), (2, .int ((fo (mBR T G) i (σ, 0, -1)).2.1)), (3, .int ((fo (mBR T G) i (σ, 0, -1)).2.2)), (4, .int (nI i))] → W p l e (rmL 10) s m args below meth c H locs 0 0 Q (F0 m 29 ls []) := by
        refine dn_ind 3 ?_ ?_
        · intro H locs ls I hl
          refine lv_iload hx hb dX1_bestRule_29 (lv_at hl 4 rfl) ?_
          refine lv_iconst (v := 3) hx hb dX1_bestRule_31 (by decide) ?_
          refine top_i (y := nI 3) (by decide) ?_
          refine lv_icmp_ge (tgt := 65) hx hb dX1_bestRule_32 (by decide) (fun c32 => ?_) (fun c32 => absurd c32 (fun h => h (Int32.le_refl _)))
          refine lv_iload_n hx hb dX1_bestRule_65 rfl (lv_at hl 1 rfl) ?_
          refine lv_if_ne (tgt := 73) hx hb dX1_bestRule_66 (by decide) (fun c66 => ?_) (fun c66 => ?_)
          · refine lv_iload_n hx hb dX1_bestRule_73 rfl (lv_at hl 3 rfl) ?_
            subst hQ
            exact r_i E hlk hr I (Nat.le_refl 0) (Nat.le_refl 0) dX1_bestRule_74 (⟨by simp only [c6, c16, if_true]; simp [c66], by simp only [c6, c16, if_true, Bool.and_self]⟩)
          · refine lv_iload_n hx hb dX1_bestRule_69 rfl (lv_at hl 2 rfl) ?_
            refine lv_goto (tgt := 74) hx hb dX1_bestRule_70 (by decide) ?_
            subst hQ
            exact r_i E hlk hr I (Nat.le_refl 0) (Nat.le_refl 0) dX1_bestRule_74 (⟨by simp only [c6, c16, if_true]; simp [c66], by simp only [c6, c16, if_true, Bool.and_self]⟩)
        · intro i hi ih29 H locs ls I hl
          refine lv_iload hx hb dX1_bestRule_29 (lv_at hl 4 rfl) ?_
          refine lv_iconst (v := 3) hx hb dX1_bestRule_31 (by decide) ?_
          refine top_i (y := nI 3) (by decide) ?_
          refine lv_icmp_ge (tgt := 65) hx hb dX1_bestRule_32 (by decide) (fun c32 => absurd c32 (nI_ge hi (by omega))) (fun c32 => ?_)
          refine lv_aload_n hx hb dX1_bestRule_35 rfl (lv_at hl 0 rfl) ?_
          refine lv_iload hx hb dX1_bestRule_36 (lv_at hl 4 rfl) ?_
          refine lv_aload_n hx hb dX1_bestRule_38 rfl (lv_at hl 0 rfl) ?_
          refine m_get E hK I 9 rfl q1124 rfl dX1_bestRule_39 ?_
          refine m_ci E hK hA I (m_coinBy l D ty o ad ((fo (mBR T G) i (σ, 0, -1)).1) (nI i) (((fo (mBR T G) i (σ, 0, -1)).1) 9 0) T hT ((congrFun (fo_k1 (fun i s => mBR_k (by omega) T G i s) i (σ, 0, -1)) 0).trans h5) G hG ((congrFun (fo_k1 (fun i s => mBR_k (by omega) T G i s) i (σ, 0, -1)) 0).trans h16)) go_m_coinBy dc_m_coinBy ⟨Nat.le_of_ble_eq_true rfl, Nat.le_of_ble_eq_true rfl⟩ ⟨Nat.le_refl 0, Nat.le_refl 0⟩ hl.1 (Nat.le_of_ble_eq_true rfl) rfl dX1_bestRule_42 (fun r42 σ42 H locs hp I => ?_)
          refine top_i (y := sumI (mBy ((fo (mBR T G) i (σ, 0, -1)).1) (nI i) (((fo (mBR T G) i (σ, 0, -1)).1) 9 0) T G 36) G) hp.1 ?_
          have I := m_as I hp.2
          refine lv_istore (lv' := [(5, .int (sumI (mBy ((fo (mBR T G) i (σ, 0, -1)).1) (nI i) (((fo (mBR T G) i (σ, 0, -1)).1) 9 0) T G 36) G)), (0, .ref o), (1, .int x), (2, .int ((fo (mBR T G) i (σ, 0, -1)).2.1)), (3, .int ((fo (mBR T G) i (σ, 0, -1)).2.2)), (4, .int (nI i))]) hx hb dX1_bestRule_45 hl (by decide) rfl (fun ls hl => ?_)
          refine lv_iload hx hb dX1_bestRule_47 (lv_at hl 0 rfl) ?_
          refine lv_iload_n hx hb dX1_bestRule_49 rfl (lv_at hl 4 rfl) ?_
          refine lv_icmp_le (tgt := 59) hx hb dX1_bestRule_50 (by decide) (fun c50 => ?_) (fun c50 => ?_)
          · refine lv_iinc (v := nI (i + 1)) (lv' := [(4, .int (nI (i + 1))), (5, .int (sumI (mBy ((fo (mBR T G) i (σ, 0, -1)).1) (nI i) (((fo (mBR T G) i (σ, 0, -1)).1) 9 0) T G 36) G)), (0, .ref o), (1, .int x), (2, .int ((fo (mBR T G) i (σ, 0, -1)).2.1)), (3, .int ((fo (mBR T G) i (σ, 0, -1)).2.2))]) hx hb dX1_bestRule_59 hl (k := 5) rfl (nI_1 _) (by decide) rfl (fun ls hl => ?_)
            refine lv_goto (tgt := 29) hx hb dX1_bestRule_62 (by decide) ?_
            exact ih29 _ _ ls (m_as I (by simp [fo, mBR, c50])) (lv_as (lv_sub (l' := [(0, .ref o), (1, .int x), (2, .int ((fo (mBR T G) i (σ, 0, -1)).2.1)), (3, .int ((fo (mBR T G) i (σ, 0, -1)).2.2)), (4, .int (nI (i + 1)))]) hl [2, 3, 4, 5, 0] rfl) (by simp [fo, mBR, c50]))
          · refine lv_iload hx hb dX1_bestRule_53 (lv_at hl 0 rfl) ?_
            refine lv_istore_n (lv' := [(3, .int (sumI (mBy ((fo (mBR T G) i (σ, 0, -1)).1) (nI i) (((fo (mBR T G) i (σ, 0, -1)).1) 9 0) T G 36) G)), (5, .int (sumI (mBy ((fo (mBR T G) i (σ, 0, -1)).1) (nI i) (((fo (mBR T G) i (σ, 0, -1)).1) 9 0) T G 36) G)), (0, .ref o), (1, .int x), (2, .int ((fo (mBR T G) i (σ, 0, -1)).2.1)), (4, .int (nI i))]) hx hb dX1_bestRule_55 rfl hl (by decide) rfl (fun ls hl => ?_)
            refine lv_iload hx hb dX1_bestRule_56 (lv_at hl 5 rfl) ?_
            refine lv_istore_n (lv' := [(2, .int (nI i)), (3, .int (sumI (mBy ((fo (mBR T G) i (σ, 0, -1)).1) (nI i) (((fo (mBR T G) i (σ, 0, -1)).1) 9 0) T G 36) G)), (5, .int (sumI (mBy ((fo (mBR T G) i (σ, 0, -1)).1) (nI i) (((fo (mBR T G) i (σ, 0, -1)).1) 9 0) T G 36) G)), (0, .ref o), (1, .int x), (4, .int (nI i))]) hx hb dX1_bestRule_58 rfl hl (by decide) rfl (fun ls hl => ?_)
            refine lv_iinc (v := nI (i + 1)) (lv' := [(4, .int (nI (i + 1))), (2, .int (nI i)), (3, .int (sumI (mBy ((fo (mBR T G) i (σ, 0, -1)).1) (nI i) (((fo (mBR T G) i (σ, 0, -1)).1) 9 0) T G 36) G)), (5, .int (sumI (mBy ((fo (mBR T G) i (σ, 0, -1)).1) (nI i) (((fo (mBR T G) i (σ, 0, -1)).1) 9 0) T G 36) G)), (0, .ref o), (1, .int x)]) hx hb dX1_bestRule_59 hl (k := 5) rfl (nI_1 _) (by decide) rfl (fun ls hl => ?_)
            refine lv_goto (tgt := 29) hx hb dX1_bestRule_62 (by decide) ?_
            exact ih29 _ _ ls (m_as I (by simp [fo, mBR, c50])) (lv_as (lv_sub (l' := [(0, .ref o), (1, .int x), (2, .int (nI i)), (3, .int (sumI (mBy ((fo (mBR T G) i (σ, 0, -1)).1) (nI i) (((fo (mBR T G) i (σ, 0, -1)).1) 9 0) T G 36) G)), (4, .int (nI (i + 1)))]) hl [4, 5, 1, 2, 0] rfl) (by simp [fo, mBR, c50]))
      exact L29 0 (Nat.zero_le _) _ _ ls (m_as I (rfl)) (lv_as (lv_sub (l' := [(0, .ref o), (1, .int x), (2, .int 0), (3, .int (-1)), (4, .int 0)]) hl [3, 4, 2, 1, 0] rfl) (rfl))
    · refine lv_bipush (v := (-3)) hx hb dX1_bestRule_19 (by decide) ?_
      subst hQ
      exact r_i E hlk hr I (Nat.le_refl 0) (Nat.le_refl 0) dX1_bestRule_21 (⟨by simp [c6, c16], by simp [c6, c16]⟩)
  · refine lv_bipush (v := (-2)) hx hb dX1_bestRule_9 (by decide) ?_
    subst hQ
    exact r_i E hlk hr I (Nat.le_refl 0) (Nat.le_refl 0) dX1_bestRule_11 (⟨by simp [c6], by simp [c6]⟩)
theorem dc_m_bestRule : yX1_bestRule.cls = RX1 ∧ yX1_bestRule.cls ≠ "java/lang/invoke/MethodHandle" ∧ yX1_bestRule.cls ≠ "java/lang/invoke/VarHandle" ∧ (parseMethodDescriptor yX1_bestRule.desc).map (fun d => d.parameters.length) = some 1 := by decide +kernel
theorem m_waiting (l : Launch) (D : va_G) (ty : Nat → ClassId) (o : Nat) (ad : Nat → Nat) (σ : Sg) (x : Int32) (T : Nat) (hT : T ≤ 6) (h5 : σ 5 0 = nI T) (G : Nat) (hG : G ≤ 8) (h16 : σ 16 0 = nI G) : mKi l yX1_waiting cX1_waiting 6 .int 10 D ty o ad σ [.int x] (fun r τ => r = (if wi x 0 1 then (if mCafe σ then (if x = 0 then (fo (mBP T G) 31 (σ, 0, -1)).2.1 else (fo (mBP T G) 31 (σ, 0, -1)).2.2) else (-3)) else (-2)) ∧ τ = if wi x 0 1 && mCafe σ then (fo (mBP T G) 31 (σ, 0, -1)).1 else σ) := by
  refine Ki.of (by decide) (Nat.le_of_ble_eq_true rfl) ?_
  intro p e s m below meth c A ls args E hK hA hX hlk hr I hl
  have hx := E.1
  have hb := E.2.1
  have hl : lv_has ls 6 [(0, .ref o), (1, .int x)] := hl
  refine nameQ (fun Q hQ => ?_)
  refine lv_iload_n hx hb dX1_waiting_0 rfl (lv_at hl 1 rfl) ?_
  refine lv_iconst (v := 0) hx hb dX1_waiting_1 (by decide) ?_
  refine lv_iconst (v := 1) hx hb dX1_waiting_2 (by decide) ?_
  refine c_Si E (m_within l x 0 1) go_m_within ⟨rfl, rfl⟩ dc_m_within ⟨Nat.le_of_ble_eq_true rfl, Nat.le_of_ble_eq_true rfl⟩ ⟨Nat.le_refl 0, Nat.le_refl 0⟩ hl.1 (Nat.le_of_ble_eq_true rfl) rfl dX1_waiting_3 (fun r3 hp => ?_)
  refine top_i (y := bI (wi x 0 1)) hp ?_
  refine b_ne (tgt := 12) hx hb dX1_waiting_6 (by decide) (fun c6 => ?_) (fun c6 => ?_)
  · refine lv_aload_n hx hb dX1_waiting_12 rfl (lv_at hl 0 rfl) ?_
    refine m_ci E hK hA I (m_isCafe l D ty o ad σ) go_m_isCafe dc_m_isCafe ⟨Nat.le_of_ble_eq_true rfl, Nat.le_of_ble_eq_true rfl⟩ ⟨Nat.le_refl 0, Nat.le_refl 0⟩ hl.1 (Nat.le_of_ble_eq_true rfl) rfl dX1_waiting_13 (fun r13 σ13 H locs hp I => ?_)
    refine top_i (y := bI (mCafe σ)) hp.1 ?_
    have I := m_as I hp.2
    refine b_ne (tgt := 22) hx hb dX1_waiting_16 (by decide) (fun c16 => ?_) (fun c16 => ?_)
    · refine lv_iconst (v := 0) hx hb dX1_waiting_22 (by decide) ?_
      refine lv_istore_n (lv' := [(2, .int 0), (0, .ref o), (1, .int x)]) hx hb dX1_waiting_23 rfl hl (by decide) rfl (fun ls hl => ?_)
      refine lv_iconst (v := (-1)) hx hb dX1_waiting_24 (by decide) ?_
      refine lv_istore_n (lv' := [(3, .int (-1)), (2, .int 0), (0, .ref o), (1, .int x)]) hx hb dX1_waiting_25 rfl hl (by decide) rfl (fun ls hl => ?_)
      refine lv_iconst (v := 0) hx hb dX1_waiting_26 (by decide) ?_
      refine lv_istore (lv' := [(4, .int 0), (3, .int (-1)), (2, .int 0), (0, .ref o), (1, .int x)]) hx hb dX1_waiting_27 hl (by decide) rfl (fun ls hl => ?_)
      have L29 : ∀ i, i ≤ 31 → ∀ (H : Heap) (locs : List Loc) (ls : Array Slot), gI s D A (mW ty o ad ((fo (mBP T G) i (σ, 0, -1)).1)) H locs → lv_has ls 6 [(0, .ref o), (1, .int x), (2, .int ((fo (mBP T G) i (σ, 0, -1)).2.1)), (3, .int ((fo (mBP T G) i (σ, 0, -1)).2.2)), (4, .int (nI i))] → W p l e (rmL 10) s m args below meth c H locs 0 0 Q (F0 m 29 ls []) := by
        refine dn_ind 31 ?_ ?_
        · intro H locs ls I hl
          refine lv_iload hx hb dX1_waiting_29 (lv_at hl 4 rfl) ?_
          refine lv_bipush (v := 30) hx hb dX1_waiting_31 (by decide) ?_
          refine lv_icmp_gt (tgt := 66) hx hb dX1_waiting_33 (by decide) (fun c33 => ?_) (fun c33 => absurd c33 (fun h => h (by decide)))
          refine lv_iload_n hx hb dX1_waiting_66 rfl (lv_at hl 1 rfl) ?_
          refine lv_if_ne (tgt := 74) hx hb dX1_waiting_67 (by decide) (fun c67 => ?_) (fun c67 => ?_)
          · refine lv_iload_n hx hb dX1_waiting_74 rfl (lv_at hl 3 rfl) ?_
            subst hQ
            exact r_i E hlk hr I (Nat.le_refl 0) (Nat.le_refl 0) dX1_waiting_75 (⟨by simp only [c6, c16, if_true]; simp [c67], by simp only [c6, c16, if_true, Bool.and_self]⟩)
          · refine lv_iload_n hx hb dX1_waiting_70 rfl (lv_at hl 2 rfl) ?_
            refine lv_goto (tgt := 75) hx hb dX1_waiting_71 (by decide) ?_
            subst hQ
            exact r_i E hlk hr I (Nat.le_refl 0) (Nat.le_refl 0) dX1_waiting_75 (⟨by simp only [c6, c16, if_true]; simp [c67], by simp only [c6, c16, if_true, Bool.and_self]⟩)
        · intro i hi ih29 H locs ls I hl
          refine lv_iload hx hb dX1_waiting_29 (lv_at hl 4 rfl) ?_
          refine lv_bipush (v := 30) hx hb dX1_waiting_31 (by decide) ?_
          refine lv_icmp_gt (tgt := 66) hx hb dX1_waiting_33 (by decide) (fun c33 => absurd c33 (nI_nlt (a := 30) (by omega) (by omega))) (fun c33 => ?_)
          refine lv_aload_n hx hb dX1_waiting_36 rfl (lv_at hl 0 rfl) ?_
          refine lv_aload_n hx hb dX1_waiting_37 rfl (lv_at hl 0 rfl) ?_
          refine m_get E hK I 8 rfl q1123 rfl dX1_waiting_38 ?_
          refine lv_iload hx hb dX1_waiting_41 (lv_at hl 4 rfl) ?_
          refine m_ci E hK hA I (m_coinBy l D ty o ad ((fo (mBP T G) i (σ, 0, -1)).1) (((fo (mBP T G) i (σ, 0, -1)).1) 8 0) (nI i) T hT ((congrFun (fo_k1 (fun i s => mBP_k (by omega) T G i s) i (σ, 0, -1)) 0).trans h5) G hG ((congrFun (fo_k1 (fun i s => mBP_k (by omega) T G i s) i (σ, 0, -1)) 0).trans h16)) go_m_coinBy dc_m_coinBy ⟨Nat.le_of_ble_eq_true rfl, Nat.le_of_ble_eq_true rfl⟩ ⟨Nat.le_refl 0, Nat.le_refl 0⟩ hl.1 (Nat.le_of_ble_eq_true rfl) rfl dX1_waiting_43 (fun r43 σ43 H locs hp I => ?_)
          refine top_i (y := sumI (mBy ((fo (mBP T G) i (σ, 0, -1)).1) (((fo (mBP T G) i (σ, 0, -1)).1) 8 0) (nI i) T G 36) G) hp.1 ?_
          have I := m_as I hp.2
          refine lv_istore (lv' := [(5, .int (sumI (mBy ((fo (mBP T G) i (σ, 0, -1)).1) (((fo (mBP T G) i (σ, 0, -1)).1) 8 0) (nI i) T G 36) G)), (0, .ref o), (1, .int x), (2, .int ((fo (mBP T G) i (σ, 0, -1)).2.1)), (3, .int ((fo (mBP T G) i (σ, 0, -1)).2.2)), (4, .int (nI i))]) hx hb dX1_waiting_46 hl (by decide) rfl (fun ls hl => ?_)
          refine lv_iload hx hb dX1_waiting_48 (lv_at hl 0 rfl) ?_
          refine lv_iload_n hx hb dX1_waiting_50 rfl (lv_at hl 4 rfl) ?_
          refine lv_icmp_le (tgt := 60) hx hb dX1_waiting_51 (by decide) (fun c51 => ?_) (fun c51 => ?_)
          · refine lv_iinc (v := nI (i + 1)) (lv' := [(4, .int (nI (i + 1))), (5, .int (sumI (mBy ((fo (mBP T G) i (σ, 0, -1)).1) (((fo (mBP T G) i (σ, 0, -1)).1) 8 0) (nI i) T G 36) G)), (0, .ref o), (1, .int x), (2, .int ((fo (mBP T G) i (σ, 0, -1)).2.1)), (3, .int ((fo (mBP T G) i (σ, 0, -1)).2.2))]) hx hb dX1_waiting_60 hl (k := 5) rfl (nI_1 _) (by decide) rfl (fun ls hl => ?_)
            refine lv_goto (tgt := 29) hx hb dX1_waiting_63 (by decide) ?_
            exact ih29 _ _ ls (m_as I (by simp [fo, mBP, c51])) (lv_as (lv_sub (l' := [(0, .ref o), (1, .int x), (2, .int ((fo (mBP T G) i (σ, 0, -1)).2.1)), (3, .int ((fo (mBP T G) i (σ, 0, -1)).2.2)), (4, .int (nI (i + 1)))]) hl [2, 3, 4, 5, 0] rfl) (by simp [fo, mBP, c51]))
          · refine lv_iload hx hb dX1_waiting_54 (lv_at hl 0 rfl) ?_
            refine lv_istore_n (lv' := [(3, .int (sumI (mBy ((fo (mBP T G) i (σ, 0, -1)).1) (((fo (mBP T G) i (σ, 0, -1)).1) 8 0) (nI i) T G 36) G)), (5, .int (sumI (mBy ((fo (mBP T G) i (σ, 0, -1)).1) (((fo (mBP T G) i (σ, 0, -1)).1) 8 0) (nI i) T G 36) G)), (0, .ref o), (1, .int x), (2, .int ((fo (mBP T G) i (σ, 0, -1)).2.1)), (4, .int (nI i))]) hx hb dX1_waiting_56 rfl hl (by decide) rfl (fun ls hl => ?_)
            refine lv_iload hx hb dX1_waiting_57 (lv_at hl 5 rfl) ?_
            refine lv_istore_n (lv' := [(2, .int (nI i)), (3, .int (sumI (mBy ((fo (mBP T G) i (σ, 0, -1)).1) (((fo (mBP T G) i (σ, 0, -1)).1) 8 0) (nI i) T G 36) G)), (5, .int (sumI (mBy ((fo (mBP T G) i (σ, 0, -1)).1) (((fo (mBP T G) i (σ, 0, -1)).1) 8 0) (nI i) T G 36) G)), (0, .ref o), (1, .int x), (4, .int (nI i))]) hx hb dX1_waiting_59 rfl hl (by decide) rfl (fun ls hl => ?_)
            refine lv_iinc (v := nI (i + 1)) (lv' := [(4, .int (nI (i + 1))), (2, .int (nI i)), (3, .int (sumI (mBy ((fo (mBP T G) i (σ, 0, -1)).1) (((fo (mBP T G) i (σ, 0, -1)).1) 8 0) (nI i) T G 36) G)), (5, .int (sumI (mBy ((fo (mBP T G) i (σ, 0, -1)).1) (((fo (mBP T G) i (σ, 0, -1)).1) 8 0) (nI i) T G 36) G)), (0, .ref o), (1, .int x)]) hx hb dX1_waiting_60 hl (k := 5) rfl (nI_1 _) (by decide) rfl (fun ls hl => ?_)
            refine lv_goto (tgt := 29) hx hb dX1_waiting_63 (by decide) ?_
            exact ih29 _ _ ls (m_as I (by simp [fo, mBP, c51])) (lv_as (lv_sub (l' := [(0, .ref o), (1, .int x), (2, .int (nI i)), (3, .int (sumI (mBy ((fo (mBP T G) i (σ, 0, -1)).1) (((fo (mBP T G) i (σ, 0, -1)).1) 8 0) (nI i) T G 36) G)), (4, .int (nI (i + 1)))]) hl [4, 5, 1, 2, 0] rfl) (by simp [fo, mBP, c51]))
      exact L29 0 (Nat.zero_le _) _ _ ls (m_as I (rfl)) (lv_as (lv_sub (l' := [(0, .ref o), (1, .int x), (2, .int 0), (3, .int (-1)), (4, .int 0)]) hl [3, 4, 2, 1, 0] rfl) (rfl))
    · refine lv_bipush (v := (-3)) hx hb dX1_waiting_19 (by decide) ?_
      subst hQ
      exact r_i E hlk hr I (Nat.le_refl 0) (Nat.le_refl 0) dX1_waiting_21 (⟨by simp [c6, c16], by simp [c6, c16]⟩)
  · refine lv_bipush (v := (-2)) hx hb dX1_waiting_9 (by decide) ?_
    subst hQ
    exact r_i E hlk hr I (Nat.le_refl 0) (Nat.le_refl 0) dX1_waiting_11 (⟨by simp [c6], by simp [c6]⟩)
theorem dc_m_waiting : yX1_waiting.cls = RX1 ∧ yX1_waiting.cls ≠ "java/lang/invoke/MethodHandle" ∧ yX1_waiting.cls ≠ "java/lang/invoke/VarHandle" ∧ (parseMethodDescriptor yX1_waiting.desc).map (fun d => d.parameters.length) = some 1 := by decide +kernel
def tZ (σ : Sg) : Sg × Nat × Option Nat × Option Nat := (σ, 0, none, none)
theorem mBT_3 {x : Int32} {T G n b : Nat} {z : Sg × Nat × Option Nat × Option Nat} (h : (mBT x T G n z).2.2.1 = some b) : z.2.2.1 = some b ∨ b = n := by
  unfold mBT at h
  split at h
  · cases hq : z.2.2.1 with
    | none => simp only [hq] at h; cases h; exact Or.inr rfl
    | some c => simp only [hq] at h; cases h; exact Or.inl rfl
  · exact Or.inl h
theorem mBT_lt {x : Int32} {T G : Nat} {σ : Sg} : ∀ (n b : Nat), (fo (mBT x T G) n (tZ σ)).2.2.1 = some b → b < n
  | 0, b, h => by cases h
  | n + 1, b, h => by
    rcases mBT_3 (z := fo (mBT x T G) n (tZ σ)) h with h1 | h1
    · have := mBT_lt n b h1
      omega
    · omega
theorem m_till (l : Launch) (D : va_G) (ty : Nat → ClassId) (o : Nat) (ad : Nat → Nat) (σ : Sg) (x : Int32) (w : Int32) (T : Nat) (hT : T ≤ 6) (h5 : σ 5 0 = nI T) (G : Nat) (hG : G ≤ 8) (h16 : σ 16 0 = nI G) : mKi l yX1_till cX1_till 7 .int 10 D ty o ad σ [.int x, .int w] (fun r τ => r = (if wi w 0 2 then (if mCafe σ then (if w = 0 then nI (fo (mBT x T G) 31 (tZ σ)).2.1 else if w = 1 then oI (fo (mBT x T G) 31 (tZ σ)).2.2.1 else oI (fo (mBT x T G) 31 (tZ σ)).2.2.2) else (-3)) else (-2)) ∧ τ = if wi w 0 2 && mCafe σ then (fo (mBT x T G) 31 (tZ σ)).1 else σ) := by
  refine Ki.of (by decide) (Nat.le_of_ble_eq_true rfl) ?_
  intro p e s m below meth c A ls args E hK hA hX hlk hr I hl
  have hx := E.1
  have hb := E.2.1
  have hl : lv_has ls 7 [(0, .ref o), (1, .int x), (2, .int w)] := hl
  refine nameQ (fun Q hQ => ?_)
  refine lv_iload_n hx hb dX1_till_0 rfl (lv_at hl 2 rfl) ?_
  refine lv_iconst (v := 0) hx hb dX1_till_1 (by decide) ?_
  refine lv_iconst (v := 2) hx hb dX1_till_2 (by decide) ?_
  refine c_Si E (m_within l w 0 2) go_m_within ⟨rfl, rfl⟩ dc_m_within ⟨Nat.le_of_ble_eq_true rfl, Nat.le_of_ble_eq_true rfl⟩ ⟨Nat.le_refl 0, Nat.le_refl 0⟩ hl.1 (Nat.le_of_ble_eq_true rfl) rfl dX1_till_3 (fun r3 hp => ?_)
  refine top_i (y := bI (wi w 0 2)) hp ?_
  refine b_ne (tgt := 12) hx hb dX1_till_6 (by decide) (fun c6 => ?_) (fun c6 => ?_)
  · refine lv_aload_n hx hb dX1_till_12 rfl (lv_at hl 0 rfl) ?_
    refine m_ci E hK hA I (m_isCafe l D ty o ad σ) go_m_isCafe dc_m_isCafe ⟨Nat.le_of_ble_eq_true rfl, Nat.le_of_ble_eq_true rfl⟩ ⟨Nat.le_refl 0, Nat.le_refl 0⟩ hl.1 (Nat.le_of_ble_eq_true rfl) rfl dX1_till_13 (fun r13 σ13 H locs hp I => ?_)
    refine top_i (y := bI (mCafe σ)) hp.1 ?_
    have I := m_as I hp.2
    refine b_ne (tgt := 22) hx hb dX1_till_16 (by decide) (fun c16 => ?_) (fun c16 => ?_)
    · refine lv_iconst (v := 0) hx hb dX1_till_22 (by decide) ?_
      refine lv_istore_n (lv' := [(3, .int 0), (0, .ref o), (1, .int x), (2, .int w)]) hx hb dX1_till_23 rfl hl (by decide) rfl (fun ls hl => ?_)
      refine lv_bipush (v := (-9)) hx hb dX1_till_24 (by decide) ?_
      refine lv_istore (lv' := [(4, .int (-9)), (3, .int 0), (0, .ref o), (1, .int x), (2, .int w)]) hx hb dX1_till_26 hl (by decide) rfl (fun ls hl => ?_)
      refine lv_bipush (v := (-9)) hx hb dX1_till_28 (by decide) ?_
      refine lv_istore (lv' := [(5, .int (-9)), (4, .int (-9)), (3, .int 0), (0, .ref o), (1, .int x), (2, .int w)]) hx hb dX1_till_30 hl (by decide) rfl (fun ls hl => ?_)
      refine lv_iconst (v := 0) hx hb dX1_till_32 (by decide) ?_
      refine lv_istore (lv' := [(6, .int 0), (5, .int (-9)), (4, .int (-9)), (3, .int 0), (0, .ref o), (1, .int x), (2, .int w)]) hx hb dX1_till_33 hl (by decide) rfl (fun ls hl => ?_)
      have L35 : ∀ i, i ≤ 31 → ∀ (H : Heap) (locs : List Loc) (ls : Array Slot), gI s D A (mW ty o ad ((fo (mBT x T G) i (tZ σ)).1)) H locs → lv_has ls 7 [(0, .ref o), (1, .int x), (2, .int w), (3, .int (nI (fo (mBT x T G) i (tZ σ)).2.1)), (4, .int (oI (fo (mBT x T G) i (tZ σ)).2.2.1)), (5, .int (oI (fo (mBT x T G) i (tZ σ)).2.2.2)), (6, .int (nI i))] → W p l e (rmL 10) s m args below meth c H locs 0 0 Q (F0 m 35 ls []) := by
        refine dn_ind 31 ?_ ?_
        · intro H locs ls I hl
          refine lv_iload hx hb dX1_till_35 (lv_at hl 6 rfl) ?_
          refine lv_bipush (v := 30) hx hb dX1_till_37 (by decide) ?_
          refine lv_icmp_gt (tgt := 85) hx hb dX1_till_39 (by decide) (fun c39 => ?_) (fun c39 => absurd c39 (fun h => h (by decide)))
          refine lv_iload_n hx hb dX1_till_85 rfl (lv_at hl 2 rfl) ?_
          refine lv_if_ne (tgt := 93) hx hb dX1_till_86 (by decide) (fun c86 => ?_) (fun c86 => ?_)
          · refine lv_iload_n hx hb dX1_till_93 rfl (lv_at hl 2 rfl) ?_
            refine lv_iconst (v := 1) hx hb dX1_till_94 (by decide) ?_
            refine lv_icmp_ne (tgt := 103) hx hb dX1_till_95 (by decide) (fun c95 => ?_) (fun c95 => ?_)
            · refine lv_iload hx hb dX1_till_103 (lv_at hl 5 rfl) ?_
              subst hQ
              exact r_i E hlk hr I (Nat.le_refl 0) (Nat.le_refl 0) dX1_till_105 (⟨by simp only [c6, c16, if_true]; simp [c86, c95], by simp only [c6, c16, if_true, Bool.and_self]⟩)
            · refine lv_iload hx hb dX1_till_98 (lv_at hl 4 rfl) ?_
              refine lv_goto (tgt := 105) hx hb dX1_till_100 (by decide) ?_
              subst hQ
              exact r_i E hlk hr I (Nat.le_refl 0) (Nat.le_refl 0) dX1_till_105 (⟨by simp only [c6, c16, if_true]; simp [c86, c95], by simp only [c6, c16, if_true, Bool.and_self]⟩)
          · refine lv_iload_n hx hb dX1_till_89 rfl (lv_at hl 3 rfl) ?_
            refine lv_goto (tgt := 105) hx hb dX1_till_90 (by decide) ?_
            subst hQ
            exact r_i E hlk hr I (Nat.le_refl 0) (Nat.le_refl 0) dX1_till_105 (⟨by simp only [c6, c16, if_true]; simp [c86], by simp only [c6, c16, if_true, Bool.and_self]⟩)
        · intro i hi ih35 H locs ls I hl
          refine lv_iload hx hb dX1_till_35 (lv_at hl 6 rfl) ?_
          refine lv_bipush (v := 30) hx hb dX1_till_37 (by decide) ?_
          refine lv_icmp_gt (tgt := 85) hx hb dX1_till_39 (by decide) (fun c39 => absurd c39 (nI_nlt (a := 30) (by omega) (by omega))) (fun c39 => ?_)
          refine lv_aload_n hx hb dX1_till_42 rfl (lv_at hl 0 rfl) ?_
          refine lv_aload_n hx hb dX1_till_43 rfl (lv_at hl 0 rfl) ?_
          refine m_get E hK I 8 rfl q1123 rfl dX1_till_44 ?_
          refine lv_iload hx hb dX1_till_47 (lv_at hl 6 rfl) ?_
          refine m_ci E hK hA I (m_coinBy l D ty o ad ((fo (mBT x T G) i (tZ σ)).1) (((fo (mBT x T G) i (tZ σ)).1) 8 0) (nI i) T hT ((congrFun (fo_k1 (fun i s => mBT_k (by omega) x T G i s) i (tZ σ)) 0).trans h5) G hG ((congrFun (fo_k1 (fun i s => mBT_k (by omega) x T G i s) i (tZ σ)) 0).trans h16)) go_m_coinBy dc_m_coinBy ⟨Nat.le_of_ble_eq_true rfl, Nat.le_of_ble_eq_true rfl⟩ ⟨Nat.le_refl 0, Nat.le_refl 0⟩ hl.1 (Nat.le_of_ble_eq_true rfl) rfl dX1_till_49 (fun r49 σ49 H locs hp I => ?_)
          refine top_i (y := sumI (mBy ((fo (mBT x T G) i (tZ σ)).1) (((fo (mBT x T G) i (tZ σ)).1) 8 0) (nI i) T G 36) G) hp.1 ?_
          have I := m_as I hp.2
          refine lv_iload_n hx hb dX1_till_52 rfl (lv_at hl 1 rfl) ?_
          refine lv_icmp_ne (tgt := 79) hx hb dX1_till_53 (by decide) (fun c53 => ?_) (fun c53 => ?_)
          · refine lv_iinc (v := nI (i + 1)) (lv' := [(6, .int (nI (i + 1))), (0, .ref o), (1, .int x), (2, .int w), (3, .int (nI (fo (mBT x T G) i (tZ σ)).2.1)), (4, .int (oI (fo (mBT x T G) i (tZ σ)).2.2.1)), (5, .int (oI (fo (mBT x T G) i (tZ σ)).2.2.2))]) hx hb dX1_till_79 hl (k := 6) rfl (nI_1 _) (by decide) rfl (fun ls hl => ?_)
            refine lv_goto (tgt := 35) hx hb dX1_till_82 (by decide) ?_
            exact ih35 _ _ ls (m_as I (by simp [fo, mBT, oI, c53])) (lv_as (lv_sub (l' := [(0, .ref o), (1, .int x), (2, .int w), (3, .int (nI (fo (mBT x T G) i (tZ σ)).2.1)), (4, .int (oI (fo (mBT x T G) i (tZ σ)).2.2.1)), (5, .int (oI (fo (mBT x T G) i (tZ σ)).2.2.2)), (6, .int (nI (i + 1)))]) hl [1, 2, 3, 4, 5, 6, 0] rfl) (by simp [fo, mBT, oI, c53]))
          · refine lv_iinc (v := nI ((fo (mBT x T G) i (tZ σ)).2.1 + 1)) (lv' := [(3, .int (nI ((fo (mBT x T G) i (tZ σ)).2.1 + 1))), (0, .ref o), (1, .int x), (2, .int w), (4, .int (oI (fo (mBT x T G) i (tZ σ)).2.2.1)), (5, .int (oI (fo (mBT x T G) i (tZ σ)).2.2.2)), (6, .int (nI i))]) hx hb dX1_till_56 hl (k := 3) rfl (nI_1 _) (by decide) rfl (fun ls hl => ?_)
            refine lv_iload hx hb dX1_till_59 (lv_at hl 4 rfl) ?_
            refine lv_bipush (v := (-9)) hx hb dX1_till_61 (by decide) ?_
            refine lv_icmp_ne (tgt := 71) hx hb dX1_till_63 (by decide) (fun c63 => ?_) (fun c63 => ?_)
            · obtain ⟨b, hb'⟩ := oI_some c63
              refine lv_iload hx hb dX1_till_71 (lv_at hl 4 rfl) ?_
              refine lv_istore (lv' := [(4, .int (oI (fo (mBT x T G) i (tZ σ)).2.2.1)), (3, .int (nI ((fo (mBT x T G) i (tZ σ)).2.1 + 1))), (0, .ref o), (1, .int x), (2, .int w), (5, .int (oI (fo (mBT x T G) i (tZ σ)).2.2.2)), (6, .int (nI i))]) hx hb dX1_till_73 hl (by decide) rfl (fun ls hl => ?_)
              refine lv_iload hx hb dX1_till_75 (lv_at hl 6 rfl) ?_
              refine lv_istore (lv' := [(5, .int (nI i)), (4, .int (oI (fo (mBT x T G) i (tZ σ)).2.2.1)), (3, .int (nI ((fo (mBT x T G) i (tZ σ)).2.1 + 1))), (0, .ref o), (1, .int x), (2, .int w), (6, .int (nI i))]) hx hb dX1_till_77 hl (by decide) rfl (fun ls hl => ?_)
              refine lv_iinc (v := nI (i + 1)) (lv' := [(6, .int (nI (i + 1))), (5, .int (nI i)), (4, .int (oI (fo (mBT x T G) i (tZ σ)).2.2.1)), (3, .int (nI ((fo (mBT x T G) i (tZ σ)).2.1 + 1))), (0, .ref o), (1, .int x), (2, .int w)]) hx hb dX1_till_79 hl (k := 6) rfl (nI_1 _) (by decide) rfl (fun ls hl => ?_)
              refine lv_goto (tgt := 35) hx hb dX1_till_82 (by decide) ?_
              exact ih35 _ _ ls (m_as I (by simp [fo, mBT, oI, c53, hb'])) (lv_as (lv_sub (l' := [(0, .ref o), (1, .int x), (2, .int w), (3, .int (nI ((fo (mBT x T G) i (tZ σ)).2.1 + 1))), (4, .int (oI (fo (mBT x T G) i (tZ σ)).2.2.1)), (5, .int (nI i)), (6, .int (nI (i + 1)))]) hl [4, 5, 6, 3, 2, 1, 0] rfl) (by simp [fo, mBT, oI, c53, hb']))
            · have hz := oI_none (fun b h => by have := mBT_lt _ _ h; omega) c63
              refine lv_iload hx hb dX1_till_66 (lv_at hl 6 rfl) ?_
              refine lv_goto (tgt := 73) hx hb dX1_till_68 (by decide) ?_
              refine lv_istore (lv' := [(4, .int (nI i)), (3, .int (nI ((fo (mBT x T G) i (tZ σ)).2.1 + 1))), (0, .ref o), (1, .int x), (2, .int w), (5, .int (oI (fo (mBT x T G) i (tZ σ)).2.2.2)), (6, .int (nI i))]) hx hb dX1_till_73 hl (by decide) rfl (fun ls hl => ?_)
              refine lv_iload hx hb dX1_till_75 (lv_at hl 6 rfl) ?_
              refine lv_istore (lv' := [(5, .int (nI i)), (4, .int (nI i)), (3, .int (nI ((fo (mBT x T G) i (tZ σ)).2.1 + 1))), (0, .ref o), (1, .int x), (2, .int w), (6, .int (nI i))]) hx hb dX1_till_77 hl (by decide) rfl (fun ls hl => ?_)
              refine lv_iinc (v := nI (i + 1)) (lv' := [(6, .int (nI (i + 1))), (5, .int (nI i)), (4, .int (nI i)), (3, .int (nI ((fo (mBT x T G) i (tZ σ)).2.1 + 1))), (0, .ref o), (1, .int x), (2, .int w)]) hx hb dX1_till_79 hl (k := 6) rfl (nI_1 _) (by decide) rfl (fun ls hl => ?_)
              refine lv_goto (tgt := 35) hx hb dX1_till_82 (by decide) ?_
              exact ih35 _ _ ls (m_as I (by simp [fo, mBT, oI, c53, hz])) (lv_as (lv_sub (l' := [(0, .ref o), (1, .int x), (2, .int w), (3, .int (nI ((fo (mBT x T G) i (tZ σ)).2.1 + 1))), (4, .int (nI i)), (5, .int (nI i)), (6, .int (nI (i + 1)))]) hl [4, 5, 6, 3, 2, 1, 0] rfl) (by simp [fo, mBT, oI, c53, hz]))
      exact L35 0 (Nat.zero_le _) _ _ ls (m_as I (rfl)) (lv_as (lv_sub (l' := [(0, .ref o), (1, .int x), (2, .int w), (3, .int 0), (4, .int (-9)), (5, .int (-9)), (6, .int 0)]) hl [4, 5, 6, 3, 2, 1, 0] rfl) (rfl))
    · refine lv_bipush (v := (-3)) hx hb dX1_till_19 (by decide) ?_
      subst hQ
      exact r_i E hlk hr I (Nat.le_refl 0) (Nat.le_refl 0) dX1_till_21 (⟨by simp [c6, c16], by simp [c6, c16]⟩)
  · refine lv_bipush (v := (-2)) hx hb dX1_till_9 (by decide) ?_
    subst hQ
    exact r_i E hlk hr I (Nat.le_refl 0) (Nat.le_refl 0) dX1_till_11 (⟨by simp [c6], by simp [c6]⟩)
theorem dc_m_till : yX1_till.cls = RX1 ∧ yX1_till.cls ≠ "java/lang/invoke/MethodHandle" ∧ yX1_till.cls ≠ "java/lang/invoke/VarHandle" ∧ (parseMethodDescriptor yX1_till.desc).map (fun d => d.parameters.length) = some 2 := by decide +kernel
