set_option maxRecDepth 100000
set_option maxHeartbeats 4000000
theorem mJoin_k {k : Nat} (h : k ≠ 30) (σ : Sg) (g n : Nat) : mJoin σ g n k = σ k := by
  unfold mJoin
  cases mJn σ g n with
  | none => rfl
  | some t => simp only [mTk2, up_rk h]
theorem mTakes_k {k : Nat} (h : k ≠ 30) (σ : Sg) (g n : Nat) : mTakes σ g n k = σ k := by
  unfold mTakes
  cases mBest σ g n with
  | some t => simp only [mTk, up_rk h]
  | none =>
    by_cases hj : σ 10 0 = 0
    · simp only [if_pos hj]
    · simp only [if_neg hj]
      exact mJoin_k h σ g n
theorem mBest_lt {σ : Sg} {g n b : Nat} (h : mBest σ g n = some b) : b < n := by
  unfold mBest at h
  split at h
  · rename_i c hc
    cases h
    rcases ite_or hc with h | h
    · exact smo_lt h
    · cases h
  · rcases ite_or h with h | h
    · have := ffo_lt h; omega
    · exact smo_lt h
theorem m_takesTable (l : Launch) (D : va_G) (ty : Nat → ClassId) (o : Nat) (ad : Nat → Nat) (σ : Sg) (g : Nat) (hg : g < 8) (T : Nat) (hT : T ≤ 6) (h23 : σ 23 0 = nI T) : mKi l yX1_takesTable cX1_takesTable 3 .boolean 3 D ty o ad σ [.int (nI g)] (fun r τ => r = bI (mCan σ g T) ∧ τ = mTakes σ g T) := by
  refine Ki.of (by decide) (Nat.le_of_ble_eq_true rfl) ?_
  intro p e s m below meth c A ls args E hK hA hX hlk hr I hl
  have hx := E.1
  have hb := E.2.1
  have hl : lv_has ls 3 [(0, .ref o), (1, .int (nI g))] := hl
  refine nameQ (fun Q hQ => ?_)
  refine lv_bipush (v := (-9)) hx hb dX1_takesTable_0 (by decide) ?_
  refine lv_istore_n (lv' := [(2, .int (-9)), (0, .ref o), (1, .int (nI g))]) hx hb dX1_takesTable_2 rfl hl (by decide) rfl (fun ls hl => ?_)
  refine lv_aload_n hx hb dX1_takesTable_3 rfl (lv_at hl 1 rfl) ?_
  refine m_get E hK I 26 rfl q1141 rfl dX1_takesTable_4 ?_
  refine lv_iconst (v := 2) hx hb dX1_takesTable_7 (by decide) ?_
  refine lv_icmp_ne (tgt := 18) hx hb dX1_takesTable_8 (by decide) (fun c8 => ?_) (fun c8 => ?_)
  · refine lv_iload_n hx hb dX1_takesTable_18 rfl (lv_at hl 0 rfl) ?_
    refine lv_bipush (v := (-9)) hx hb dX1_takesTable_19 (by decide) ?_
    refine lv_icmp_ne (tgt := 46) hx hb dX1_takesTable_21 (by decide) (fun h => absurd h (by decide)) (fun _ => ?_)
    refine lv_aload_n hx hb dX1_takesTable_24 rfl (lv_at hl 1 rfl) ?_
    refine m_get E hK I 26 rfl q1141 rfl dX1_takesTable_25 ?_
    refine lv_if_ne (tgt := 39) hx hb dX1_takesTable_28 (by decide) (fun c28 => ?_) (fun c28 => ?_)
    · refine lv_aload_n hx hb dX1_takesTable_39 rfl (lv_at hl 1 rfl) ?_
      refine lv_iload_n hx hb dX1_takesTable_40 rfl (lv_at hl 2 rfl) ?_
      refine lv_iconst (v := 0) hx hb dX1_takesTable_41 (by decide) ?_
      refine m_ci E hK hA I (m_smallest l D ty o ad σ g false (by omega) T hT h23) go_m_smallest dc_m_smallest ⟨Nat.le_of_ble_eq_true rfl, Nat.le_of_ble_eq_true rfl⟩ ⟨Nat.le_refl 0, Nat.le_refl 0⟩ hl.1 (Nat.le_of_ble_eq_true rfl) rfl dX1_takesTable_42 (fun r42 σ42 H locs hp I => ?_)
      refine top_i (y := oI (mSm σ g false T)) hp.1 ?_
      have I := m_as I hp.2
      refine lv_istore_n (lv' := [(2, .int (oI (mSm σ g false T))), (0, .ref o), (1, .int (nI g))]) hx hb dX1_takesTable_45 rfl hl (by decide) rfl (fun ls hl => ?_)
      have hm : mBest σ g T = (mSm σ g false T) := by simp [mBest, c8, c28]
      refine lv_iload_n hx hb dX1_takesTable_46 rfl (lv_at hl 0 rfl) ?_
      refine lv_bipush (v := (-9)) hx hb dX1_takesTable_47 (by decide) ?_
      refine lv_icmp_eq (tgt := 61) hx hb dX1_takesTable_49 (by decide) (fun c49 => ?_) (fun c49 => ?_)
      · have hm := hm.trans (oI_none (fun b h => by have := mBest_lt (hm.trans h); omega) c49)
        refine lv_aload_n hx hb dX1_takesTable_61 rfl (lv_at hl 1 rfl) ?_
        refine m_get E hK I 10 rfl q1125 rfl dX1_takesTable_62 ?_
        refine lv_if_eq (tgt := 80) hx hb dX1_takesTable_65 (by decide) (fun c65 => ?_) (fun c65 => ?_)
        · refine lv_iconst (v := 0) hx hb dX1_takesTable_80 (by decide) ?_
          subst hQ
          exact r_z (b := false) E hlk hr I (Nat.le_refl 0) (Nat.le_refl 0) dX1_takesTable_81 rfl (⟨by simp [mCan, hm, c65], by simp [mTakes, hm, c65]⟩)
        · refine lv_aload_n hx hb dX1_takesTable_68 rfl (lv_at hl 1 rfl) ?_
          refine lv_iload_n hx hb dX1_takesTable_69 rfl (lv_at hl 2 rfl) ?_
          refine m_ci E hK hA I (m_joinsTwo l D ty o ad σ g (by omega) T hT h23) go_m_joinsTwo dc_m_joinsTwo ⟨Nat.le_of_ble_eq_true rfl, Nat.le_of_ble_eq_true rfl⟩ ⟨Nat.le_refl 0, Nat.le_refl 0⟩ hl.1 (Nat.le_of_ble_eq_true rfl) rfl dX1_takesTable_70 (fun r70 σ70 H locs hp I => ?_)
          refine top_i (y := bI (mJn σ g T).isSome) hp.1 ?_
          have I := m_as I hp.2
          refine b_eq (tgt := 80) hx hb dX1_takesTable_73 (by decide) (fun c73 => ?_) (fun c73 => ?_)
          · refine lv_iconst (v := 0) hx hb dX1_takesTable_80 (by decide) ?_
            subst hQ
            exact r_z (b := false) E hlk hr I (Nat.le_refl 0) (Nat.le_refl 0) dX1_takesTable_81 rfl (⟨by simp [mCan, hm, c65, c73], by simp [mTakes, hm, c65, c73]⟩)
          · refine lv_iconst (v := 1) hx hb dX1_takesTable_76 (by decide) ?_
            refine lv_goto (tgt := 81) hx hb dX1_takesTable_77 (by decide) ?_
            subst hQ
            exact r_z (b := true) E hlk hr I (Nat.le_refl 0) (Nat.le_refl 0) dX1_takesTable_81 rfl (⟨by simp [mCan, hm, c65, c73], by simp [mTakes, hm, c65, c73]⟩)
      · refine lv_aload_n hx hb dX1_takesTable_52 rfl (lv_at hl 1 rfl) ?_
        refine m_get E hK I 30 rfl q1145 rfl dX1_takesTable_53 ?_
        refine lv_iload_n hx hb dX1_takesTable_56 rfl (lv_at hl 0 rfl) ?_
        obtain ⟨b, hb'⟩ := oI_some c49
        have hm := hm.trans hb'
        have hbl := mBest_lt hm
        refine top_i (y := nI b) (by rw [hb']; rfl) ?_
        refine lv_iload_n hx hb dX1_takesTable_57 rfl (lv_at hl 2 rfl) ?_
        refine m_ast (i := b) E hK I 15 rfl rfl rfl dX1_takesTable_58 (by simp only [mLn]; omega) (fun H locs I => ?_)
        refine lv_iconst (v := 1) hx hb dX1_takesTable_59 (by decide) ?_
        subst hQ
        exact r_z (b := true) E hlk hr I (Nat.le_refl 0) (Nat.le_refl 0) dX1_takesTable_60 rfl (⟨by simp [mCan, hm], by simp [mTakes, hm, mTk]⟩)
    · refine lv_aload_n hx hb dX1_takesTable_31 rfl (lv_at hl 1 rfl) ?_
      refine lv_iload_n hx hb dX1_takesTable_32 rfl (lv_at hl 2 rfl) ?_
      refine m_ci E hK hA I (m_firstFor l D ty o ad σ g (by omega) T hT h23) go_m_firstFor dc_m_firstFor ⟨Nat.le_of_ble_eq_true rfl, Nat.le_of_ble_eq_true rfl⟩ ⟨Nat.le_refl 0, Nat.le_refl 0⟩ hl.1 (Nat.le_of_ble_eq_true rfl) rfl dX1_takesTable_33 (fun r33 σ33 H locs hp I => ?_)
      refine top_i (y := oI (mFst σ g T)) hp.1 ?_
      have I := m_as I hp.2
      refine lv_goto (tgt := 45) hx hb dX1_takesTable_36 (by decide) ?_
      refine lv_istore_n (lv' := [(2, .int (oI (mFst σ g T))), (0, .ref o), (1, .int (nI g))]) hx hb dX1_takesTable_45 rfl hl (by decide) rfl (fun ls hl => ?_)
      have hm : mBest σ g T = (mFst σ g T) := by simp [mBest, c8, c28]
      refine lv_iload_n hx hb dX1_takesTable_46 rfl (lv_at hl 0 rfl) ?_
      refine lv_bipush (v := (-9)) hx hb dX1_takesTable_47 (by decide) ?_
      refine lv_icmp_eq (tgt := 61) hx hb dX1_takesTable_49 (by decide) (fun c49 => ?_) (fun c49 => ?_)
      · have hm := hm.trans (oI_none (fun b h => by have := mBest_lt (hm.trans h); omega) c49)
        refine lv_aload_n hx hb dX1_takesTable_61 rfl (lv_at hl 1 rfl) ?_
        refine m_get E hK I 10 rfl q1125 rfl dX1_takesTable_62 ?_
        refine lv_if_eq (tgt := 80) hx hb dX1_takesTable_65 (by decide) (fun c65 => ?_) (fun c65 => ?_)
        · refine lv_iconst (v := 0) hx hb dX1_takesTable_80 (by decide) ?_
          subst hQ
          exact r_z (b := false) E hlk hr I (Nat.le_refl 0) (Nat.le_refl 0) dX1_takesTable_81 rfl (⟨by simp [mCan, hm, c65], by simp [mTakes, hm, c65]⟩)
        · refine lv_aload_n hx hb dX1_takesTable_68 rfl (lv_at hl 1 rfl) ?_
          refine lv_iload_n hx hb dX1_takesTable_69 rfl (lv_at hl 2 rfl) ?_
          refine m_ci E hK hA I (m_joinsTwo l D ty o ad σ g (by omega) T hT h23) go_m_joinsTwo dc_m_joinsTwo ⟨Nat.le_of_ble_eq_true rfl, Nat.le_of_ble_eq_true rfl⟩ ⟨Nat.le_refl 0, Nat.le_refl 0⟩ hl.1 (Nat.le_of_ble_eq_true rfl) rfl dX1_takesTable_70 (fun r70 σ70 H locs hp I => ?_)
          refine top_i (y := bI (mJn σ g T).isSome) hp.1 ?_
          have I := m_as I hp.2
          refine b_eq (tgt := 80) hx hb dX1_takesTable_73 (by decide) (fun c73 => ?_) (fun c73 => ?_)
          · refine lv_iconst (v := 0) hx hb dX1_takesTable_80 (by decide) ?_
            subst hQ
            exact r_z (b := false) E hlk hr I (Nat.le_refl 0) (Nat.le_refl 0) dX1_takesTable_81 rfl (⟨by simp [mCan, hm, c65, c73], by simp [mTakes, hm, c65, c73]⟩)
          · refine lv_iconst (v := 1) hx hb dX1_takesTable_76 (by decide) ?_
            refine lv_goto (tgt := 81) hx hb dX1_takesTable_77 (by decide) ?_
            subst hQ
            exact r_z (b := true) E hlk hr I (Nat.le_refl 0) (Nat.le_refl 0) dX1_takesTable_81 rfl (⟨by simp [mCan, hm, c65, c73], by simp [mTakes, hm, c65, c73]⟩)
      · refine lv_aload_n hx hb dX1_takesTable_52 rfl (lv_at hl 1 rfl) ?_
        refine m_get E hK I 30 rfl q1145 rfl dX1_takesTable_53 ?_
        refine lv_iload_n hx hb dX1_takesTable_56 rfl (lv_at hl 0 rfl) ?_
        obtain ⟨b, hb'⟩ := oI_some c49
        have hm := hm.trans hb'
        have hbl := mBest_lt hm
        refine top_i (y := nI b) (by rw [hb']; rfl) ?_
        refine lv_iload_n hx hb dX1_takesTable_57 rfl (lv_at hl 2 rfl) ?_
        refine m_ast (i := b) E hK I 15 rfl rfl rfl dX1_takesTable_58 (by simp only [mLn]; omega) (fun H locs I => ?_)
        refine lv_iconst (v := 1) hx hb dX1_takesTable_59 (by decide) ?_
        subst hQ
        exact r_z (b := true) E hlk hr I (Nat.le_refl 0) (Nat.le_refl 0) dX1_takesTable_60 rfl (⟨by simp [mCan, hm], by simp [mTakes, hm, mTk]⟩)
  · refine lv_aload_n hx hb dX1_takesTable_11 rfl (lv_at hl 1 rfl) ?_
    refine lv_iload_n hx hb dX1_takesTable_12 rfl (lv_at hl 2 rfl) ?_
    refine lv_iconst (v := 1) hx hb dX1_takesTable_13 (by decide) ?_
    refine m_ci E hK hA I (m_smallest l D ty o ad σ g true (by omega) T hT h23) go_m_smallest dc_m_smallest ⟨Nat.le_of_ble_eq_true rfl, Nat.le_of_ble_eq_true rfl⟩ ⟨Nat.le_refl 0, Nat.le_refl 0⟩ hl.1 (Nat.le_of_ble_eq_true rfl) rfl dX1_takesTable_14 (fun r14 σ14 H locs hp I => ?_)
    refine top_i (y := oI (mSm σ g true T)) hp.1 ?_
    have I := m_as I hp.2
    refine lv_istore_n (lv' := [(2, .int (oI (mSm σ g true T))), (0, .ref o), (1, .int (nI g))]) hx hb dX1_takesTable_17 rfl hl (by decide) rfl (fun ls hl => ?_)
    refine lv_iload_n hx hb dX1_takesTable_18 rfl (lv_at hl 0 rfl) ?_
    refine lv_bipush (v := (-9)) hx hb dX1_takesTable_19 (by decide) ?_
    refine lv_icmp_ne (tgt := 46) hx hb dX1_takesTable_21 (by decide) (fun c21 => ?_) (fun c21 => ?_)
    · obtain ⟨b, hb'⟩ := oI_some c21
      have hm : mBest σ g T = some b := by simp [mBest, c8, hb']
      have hbl := mBest_lt hm
      have e0 : oI (mSm σ g true T) = nI b := by rw [hb']; rfl
      refine lv_iload_n hx hb dX1_takesTable_46 rfl (lv_at hl 0 rfl) ?_
      refine lv_bipush (v := (-9)) hx hb dX1_takesTable_47 (by decide) ?_
      refine lv_icmp_eq (tgt := 61) hx hb dX1_takesTable_49 (by decide) (fun c49 => absurd c49 (by rw [e0]; exact nI_ne9 (by omega))) (fun c49 => ?_)
      refine lv_aload_n hx hb dX1_takesTable_52 rfl (lv_at hl 1 rfl) ?_
      refine m_get E hK I 30 rfl q1145 rfl dX1_takesTable_53 ?_
      refine lv_iload_n hx hb dX1_takesTable_56 rfl (lv_at hl 0 rfl) ?_
      refine top_i (y := nI b) (e0) ?_
      refine lv_iload_n hx hb dX1_takesTable_57 rfl (lv_at hl 2 rfl) ?_
      refine m_ast (i := b) E hK I 15 rfl rfl rfl dX1_takesTable_58 (by simp only [mLn]; omega) (fun H locs I => ?_)
      refine lv_iconst (v := 1) hx hb dX1_takesTable_59 (by decide) ?_
      subst hQ
      exact r_z (b := true) E hlk hr I (Nat.le_refl 0) (Nat.le_refl 0) dX1_takesTable_60 rfl (⟨by simp [mCan, hm], by simp [mTakes, hm, mTk]⟩)
    · refine lv_aload_n hx hb dX1_takesTable_24 rfl (lv_at hl 1 rfl) ?_
      refine m_get E hK I 26 rfl q1141 rfl dX1_takesTable_25 ?_
      refine lv_if_ne (tgt := 39) hx hb dX1_takesTable_28 (by decide) (fun c28 => ?_) (fun c28 => absurd c28 (by rw [c8]; decide))
      refine lv_aload_n hx hb dX1_takesTable_39 rfl (lv_at hl 1 rfl) ?_
      refine lv_iload_n hx hb dX1_takesTable_40 rfl (lv_at hl 2 rfl) ?_
      refine lv_iconst (v := 0) hx hb dX1_takesTable_41 (by decide) ?_
      refine m_ci E hK hA I (m_smallest l D ty o ad σ g false (by omega) T hT h23) go_m_smallest dc_m_smallest ⟨Nat.le_of_ble_eq_true rfl, Nat.le_of_ble_eq_true rfl⟩ ⟨Nat.le_refl 0, Nat.le_refl 0⟩ hl.1 (Nat.le_of_ble_eq_true rfl) rfl dX1_takesTable_42 (fun r42 σ42 H locs hp I => ?_)
      refine top_i (y := oI (mSm σ g false T)) hp.1 ?_
      have I := m_as I hp.2
      refine lv_istore_n (lv' := [(2, .int (oI (mSm σ g false T))), (0, .ref o), (1, .int (nI g))]) hx hb dX1_takesTable_45 rfl hl (by decide) rfl (fun ls hl => ?_)
      have hz := oI_none (fun b h => by have := smo_lt h; omega) c21
      have hm : mBest σ g T = (mSm σ g false T) := by simp [mBest, c8, hz]
      refine lv_iload_n hx hb dX1_takesTable_46 rfl (lv_at hl 0 rfl) ?_
      refine lv_bipush (v := (-9)) hx hb dX1_takesTable_47 (by decide) ?_
      refine lv_icmp_eq (tgt := 61) hx hb dX1_takesTable_49 (by decide) (fun c49 => ?_) (fun c49 => ?_)
      · have hm := hm.trans (oI_none (fun b h => by have := mBest_lt (hm.trans h); omega) c49)
        refine lv_aload_n hx hb dX1_takesTable_61 rfl (lv_at hl 1 rfl) ?_
        refine m_get E hK I 10 rfl q1125 rfl dX1_takesTable_62 ?_
        refine lv_if_eq (tgt := 80) hx hb dX1_takesTable_65 (by decide) (fun c65 => ?_) (fun c65 => ?_)
        · refine lv_iconst (v := 0) hx hb dX1_takesTable_80 (by decide) ?_
          subst hQ
          exact r_z (b := false) E hlk hr I (Nat.le_refl 0) (Nat.le_refl 0) dX1_takesTable_81 rfl (⟨by simp [mCan, hm, c65], by simp [mTakes, hm, c65]⟩)
        · refine lv_aload_n hx hb dX1_takesTable_68 rfl (lv_at hl 1 rfl) ?_
          refine lv_iload_n hx hb dX1_takesTable_69 rfl (lv_at hl 2 rfl) ?_
          refine m_ci E hK hA I (m_joinsTwo l D ty o ad σ g (by omega) T hT h23) go_m_joinsTwo dc_m_joinsTwo ⟨Nat.le_of_ble_eq_true rfl, Nat.le_of_ble_eq_true rfl⟩ ⟨Nat.le_refl 0, Nat.le_refl 0⟩ hl.1 (Nat.le_of_ble_eq_true rfl) rfl dX1_takesTable_70 (fun r70 σ70 H locs hp I => ?_)
          refine top_i (y := bI (mJn σ g T).isSome) hp.1 ?_
          have I := m_as I hp.2
          refine b_eq (tgt := 80) hx hb dX1_takesTable_73 (by decide) (fun c73 => ?_) (fun c73 => ?_)
          · refine lv_iconst (v := 0) hx hb dX1_takesTable_80 (by decide) ?_
            subst hQ
            exact r_z (b := false) E hlk hr I (Nat.le_refl 0) (Nat.le_refl 0) dX1_takesTable_81 rfl (⟨by simp [mCan, hm, c65, c73], by simp [mTakes, hm, c65, c73]⟩)
          · refine lv_iconst (v := 1) hx hb dX1_takesTable_76 (by decide) ?_
            refine lv_goto (tgt := 81) hx hb dX1_takesTable_77 (by decide) ?_
            subst hQ
            exact r_z (b := true) E hlk hr I (Nat.le_refl 0) (Nat.le_refl 0) dX1_takesTable_81 rfl (⟨by simp [mCan, hm, c65, c73], by simp [mTakes, hm, c65, c73]⟩)
      · refine lv_aload_n hx hb dX1_takesTable_52 rfl (lv_at hl 1 rfl) ?_
        refine m_get E hK I 30 rfl q1145 rfl dX1_takesTable_53 ?_
        refine lv_iload_n hx hb dX1_takesTable_56 rfl (lv_at hl 0 rfl) ?_
        obtain ⟨b, hb'⟩ := oI_some c49
        have hm := hm.trans hb'
        have hbl := mBest_lt hm
        refine top_i (y := nI b) (by rw [hb']; rfl) ?_
        refine lv_iload_n hx hb dX1_takesTable_57 rfl (lv_at hl 2 rfl) ?_
        refine m_ast (i := b) E hK I 15 rfl rfl rfl dX1_takesTable_58 (by simp only [mLn]; omega) (fun H locs I => ?_)
        refine lv_iconst (v := 1) hx hb dX1_takesTable_59 (by decide) ?_
        subst hQ
        exact r_z (b := true) E hlk hr I (Nat.le_refl 0) (Nat.le_refl 0) dX1_takesTable_60 rfl (⟨by simp [mCan, hm], by simp [mTakes, hm, mTk]⟩)
theorem dc_m_takesTable : yX1_takesTable.cls = RX1 ∧ yX1_takesTable.cls ≠ "java/lang/invoke/MethodHandle" ∧ yX1_takesTable.cls ≠ "java/lang/invoke/VarHandle" ∧ (parseMethodDescriptor yX1_takesTable.desc).map (fun d => d.parameters.length) = some 1 := by decide +kernel
theorem go_m_takesTable : GoodIn lw_all (wsV RX1 211 RX1 yX1_takesTable (ws_ yX1_takesTable cX1_takesTable 3 (some .boolean))) := lw_V q1358 q1360 qs50 q75 q1361
theorem m_getsUp (l : Launch) (D : va_G) (ty : Nat → ClassId) (o : Nat) (ad : Nat → Nat) (σ : Sg) (g : Nat) (hg : g < 8) (T : Nat) (hT : T ≤ 6) (h23 : σ 23 0 = nI T) : mKv l yX1_getsUp cX1_getsUp 3 1 D ty o ad σ [.int (nI g)] (fun τ => τ = clr σ g T) := by
  refine Kv.of (by decide) (Nat.le_of_ble_eq_true rfl) ?_
  intro p e s m below meth c A ls args E hK hA hX hlk hr hnm I hl
  have hx := E.1
  have hb := E.2.1
  have hl : lv_has ls 3 [(0, .ref o), (1, .int (nI g))] := hl
  refine nameQ (fun Q hQ => ?_)
  refine lv_iconst (v := 0) hx hb dX1_getsUp_0 (by decide) ?_
  refine lv_istore_n (lv' := [(2, .int 0), (0, .ref o), (1, .int (nI g))]) hx hb dX1_getsUp_1 rfl hl (by decide) rfl (fun ls hl => ?_)
  have L2 : ∀ i, i ≤ T → ∀ (H : Heap) (locs : List Loc) (ls : Array Slot), gI s D A (mW ty o ad (clr σ g i)) H locs → lv_has ls 3 [(0, .ref o), (1, .int (nI g)), (2, .int (nI i))] → W p l e (rmL 1) s m args below meth c H locs 0 0 Q (F0 m 2 ls []) := by
    refine dn_ind T ?_ ?_
    · intro H locs ls I hl
      refine lv_iload_n hx hb dX1_getsUp_2 rfl (lv_at hl 2 rfl) ?_
      refine lv_aload_n hx hb dX1_getsUp_3 rfl (lv_at hl 0 rfl) ?_
      refine m_get (v := .int (nI T)) E hK I 23 rfl q1138 (congrArg Value.int (by simp [clr, h23])) dX1_getsUp_4 ?_
      refine lv_icmp_ge (tgt := 34) hx hb dX1_getsUp_7 (by decide) (fun c7 => ?_) (fun c7 => absurd c7 (fun h => h (Int32.le_refl _)))
      subst hQ
      exact r_v E hlk hr I (Nat.le_refl 0) (Nat.le_refl 0) dX1_getsUp_34 (rfl)
    · intro i hi ih2 H locs ls I hl
      refine lv_iload_n hx hb dX1_getsUp_2 rfl (lv_at hl 2 rfl) ?_
      refine lv_aload_n hx hb dX1_getsUp_3 rfl (lv_at hl 0 rfl) ?_
      refine m_get (v := .int (nI T)) E hK I 23 rfl q1138 (congrArg Value.int (by simp [clr, h23])) dX1_getsUp_4 ?_
      refine lv_icmp_ge (tgt := 34) hx hb dX1_getsUp_7 (by decide) (fun c7 => absurd c7 (nI_ge hi (by omega))) (fun c7 => ?_)
      refine lv_aload_n hx hb dX1_getsUp_10 rfl (lv_at hl 0 rfl) ?_
      refine m_get E hK I 30 rfl q1145 rfl dX1_getsUp_11 ?_
      refine lv_iload_n hx hb dX1_getsUp_14 rfl (lv_at hl 2 rfl) ?_
      refine m_ald (i := i) E hK I 15 rfl rfl rfl dX1_getsUp_15 (by simp only [mLn]; omega) ?_
      refine lv_iload_n hx hb dX1_getsUp_16 rfl (lv_at hl 1 rfl) ?_
      refine lv_icmp_ne (tgt := 28) hx hb dX1_getsUp_17 (by decide) (fun c17 => ?_) (fun c17 => ?_)
      · refine lv_iinc (v := nI (i + 1)) (lv' := [(2, .int (nI (i + 1))), (0, .ref o), (1, .int (nI g))]) hx hb dX1_getsUp_28 hl (k := 2) rfl (nI_1 _) (by decide) rfl (fun ls hl => ?_)
        refine lv_goto (tgt := 2) hx hb dX1_getsUp_31 (by decide) ?_
        exact ih2 _ _ ls (m_as I (clr_n (fun h => c17 ((clr_at σ g i).trans h)))) (lv_as (lv_sub (l' := [(0, .ref o), (1, .int (nI g)), (2, .int (nI (i + 1)))]) hl [1, 2, 0] rfl) (rfl))
      · refine lv_aload_n hx hb dX1_getsUp_20 rfl (lv_at hl 0 rfl) ?_
        refine m_get E hK I 30 rfl q1145 rfl dX1_getsUp_21 ?_
        refine lv_iload_n hx hb dX1_getsUp_24 rfl (lv_at hl 2 rfl) ?_
        refine lv_bipush (v := (-9)) hx hb dX1_getsUp_25 (by decide) ?_
        refine m_ast (i := i) E hK I 15 rfl rfl rfl dX1_getsUp_27 (by simp only [mLn]; omega) (fun H locs I => ?_)
        refine lv_iinc (v := nI (i + 1)) (lv' := [(2, .int (nI (i + 1))), (0, .ref o), (1, .int (nI g))]) hx hb dX1_getsUp_28 hl (k := 2) rfl (nI_1 _) (by decide) rfl (fun ls hl => ?_)
        refine lv_goto (tgt := 2) hx hb dX1_getsUp_31 (by decide) ?_
        exact ih2 _ _ ls (m_as I (clr_s ((clr_at σ g i).symm.trans c17))) (lv_as (lv_sub (l' := [(0, .ref o), (1, .int (nI g)), (2, .int (nI (i + 1)))]) hl [1, 2, 0] rfl) (rfl))
  exact L2 0 (Nat.zero_le _) _ _ ls (m_as I (clr_0 σ g)) (lv_as (lv_sub (l' := [(0, .ref o), (1, .int (nI g)), (2, .int 0)]) hl [1, 2, 0] rfl) (rfl))
theorem dc_m_getsUp : yX1_getsUp.cls = RX1 ∧ yX1_getsUp.cls ≠ "java/lang/invoke/MethodHandle" ∧ yX1_getsUp.cls ≠ "java/lang/invoke/VarHandle" ∧ (parseMethodDescriptor yX1_getsUp.desc).map (fun d => d.parameters.length) = some 1 := by decide +kernel
theorem go_m_getsUp : GoodIn lw_all (wsV RX1 188 RX1 yX1_getsUp (ws_ yX1_getsUp cX1_getsUp 3 none)) := lw_V q1338 q1340 qs45 q75 q1341
theorem m_goes (l : Launch) (D : va_G) (ty : Nat → ClassId) (o : Nat) (ad : Nat → Nat) (σ : Sg) (g : Nat) (x : Int32) (hg : g < 8) : mKv l yX1_goes cX1_goes 3 2 D ty o ad σ [.int (nI g), .int x] (fun τ => τ = mGoes σ g x) := by
  refine Kv.of (by decide) (Nat.le_of_ble_eq_true rfl) ?_
  intro p e s m below meth c A ls args E hK hA hX hlk hr hnm I hl
  have hx := E.1
  have hb := E.2.1
  have hl : lv_has ls 3 [(0, .ref o), (1, .int (nI g)), (2, .int x)] := hl
  refine lv_aload_n hx hb dX1_goes_0 rfl (lv_at hl 0 rfl) ?_
  refine m_get E hK I 32 rfl q1147 rfl dX1_goes_1 ?_
  refine lv_iload_n hx hb dX1_goes_4 rfl (lv_at hl 1 rfl) ?_
  refine lv_iconst (v := 5) hx hb dX1_goes_5 (by decide) ?_
  refine m_ast (i := g) E hK I 17 rfl rfl rfl dX1_goes_6 (by simp only [mLn]; omega) (fun H locs I => ?_)
  refine lv_aload_n hx hb dX1_goes_7 rfl (lv_at hl 0 rfl) ?_
  refine m_get E hK I 36 rfl q1151 rfl dX1_goes_8 ?_
  refine lv_iload_n hx hb dX1_goes_11 rfl (lv_at hl 1 rfl) ?_
  refine lv_aload_n hx hb dX1_goes_12 rfl (lv_at hl 0 rfl) ?_
  refine lv_iload_n hx hb dX1_goes_13 rfl (lv_at hl 1 rfl) ?_
  refine lv_iload_n hx hb dX1_goes_14 rfl (lv_at hl 2 rfl) ?_
  refine lv_aload_n hx hb dX1_goes_15 rfl (lv_at hl 0 rfl) ?_
  refine m_get E hK I 34 rfl q1149 rfl dX1_goes_16 ?_
  refine lv_iload_n hx hb dX1_goes_19 rfl (lv_at hl 1 rfl) ?_
  refine m_ald (i := g) E hK I 19 rfl rfl rfl dX1_goes_20 (by simp only [mLn]; omega) ?_
  refine lv_isub hx hb dX1_goes_21 ?_
  refine m_ci E hK hA I (m_coinOf l D ty o ad (up σ 32 g 5) g (x - ((up σ 32 g 5) 34 g)) (by omega)) go_m_coinOf dc_m_coinOf ⟨Nat.le_of_ble_eq_true rfl, Nat.le_of_ble_eq_true rfl⟩ ⟨Nat.le_refl 0, Nat.le_refl 0⟩ hl.1 (Nat.le_of_ble_eq_true rfl) rfl dX1_goes_22 (fun r22 σ22 H locs hp I => ?_)
  refine top_i (y := mCoinOf (up σ 32 g 5) g (x - ((up σ 32 g 5) 34 g))) hp.1 ?_
  have I := m_as I hp.2
  refine m_ast (i := g) E hK I 21 rfl rfl rfl dX1_goes_25 (by simp only [mLn]; omega) (fun H locs I => ?_)
  exact r_v E hlk hr I (Nat.le_refl 0) (Nat.le_refl 0) dX1_goes_26 (by simp [mGoes, mCoinOf, up])
theorem dc_m_goes : yX1_goes.cls = RX1 ∧ yX1_goes.cls ≠ "java/lang/invoke/MethodHandle" ∧ yX1_goes.cls ≠ "java/lang/invoke/VarHandle" ∧ (parseMethodDescriptor yX1_goes.desc).map (fun d => d.parameters.length) = some 2 := by decide +kernel
theorem go_m_goes : GoodIn lw_all (wsV RX1 191 RX1 yX1_goes (ws_ yX1_goes cX1_goes 3 none)) := lw_V q1342 q1344 qs46 q75 q1345
theorem m_isInSun (l : Launch) (D : va_G) (ty : Nat → ClassId) (o : Nat) (ad : Nat → Nat) (σ : Sg) (g : Nat) (hg : g < 8) (T : Nat) (hT : T ≤ 6) (h23 : σ 23 0 = nI T) : mKi l yX1_isInSun cX1_isInSun 4 .boolean 1 D ty o ad σ [.int (nI g)] (fun r τ => r = bI (anyB (mSunT σ g) T) ∧ τ = σ) := by
  refine Ki.of (by decide) (Nat.le_of_ble_eq_true rfl) ?_
  intro p e s m below meth c A ls args E hK hA hX hlk hr I hl
  have hx := E.1
  have hb := E.2.1
  have hl : lv_has ls 4 [(0, .ref o), (1, .int (nI g))] := hl
  refine nameQ (fun Q hQ => ?_)
  refine lv_iconst (v := 0) hx hb dX1_isInSun_0 (by decide) ?_
  refine lv_istore_n (lv' := [(2, .int 0), (0, .ref o), (1, .int (nI g))]) hx hb dX1_isInSun_1 rfl hl (by decide) rfl (fun ls hl => ?_)
  refine lv_iconst (v := 0) hx hb dX1_isInSun_2 (by decide) ?_
  refine lv_istore_n (lv' := [(3, .int 0), (2, .int 0), (0, .ref o), (1, .int (nI g))]) hx hb dX1_isInSun_3 rfl hl (by decide) rfl (fun ls hl => ?_)
  have L4 : ∀ i, i ≤ T → ∀ (H : Heap) (locs : List Loc) (ls : Array Slot), gI s D A (mW ty o ad σ) H locs → lv_has ls 4 [(0, .ref o), (1, .int (nI g)), (2, .int (bI (anyB (mSunT σ g) i))), (3, .int (nI i))] → W p l e (rmL 1) s m args below meth c H locs 0 0 Q (F0 m 4 ls []) := by
    refine dn_ind T ?_ ?_
    · intro H locs ls I hl
      refine lv_iload_n hx hb dX1_isInSun_4 rfl (lv_at hl 3 rfl) ?_
      refine lv_aload_n hx hb dX1_isInSun_5 rfl (lv_at hl 0 rfl) ?_
      refine m_get (v := .int (nI T)) E hK I 23 rfl q1138 (congrArg Value.int (h23)) dX1_isInSun_6 ?_
      refine lv_icmp_ge (tgt := 47) hx hb dX1_isInSun_9 (by decide) (fun c9 => ?_) (fun c9 => absurd c9 (fun h => h (Int32.le_refl _)))
      refine lv_iload_n hx hb dX1_isInSun_47 rfl (lv_at hl 2 rfl) ?_
      subst hQ
      exact r_z (b := (anyB (mSunT σ g) T)) E hlk hr I (Nat.le_refl 0) (Nat.le_refl 0) dX1_isInSun_48 rfl (⟨rfl, rfl⟩)
    · intro i hi ih4 H locs ls I hl
      refine lv_iload_n hx hb dX1_isInSun_4 rfl (lv_at hl 3 rfl) ?_
      refine lv_aload_n hx hb dX1_isInSun_5 rfl (lv_at hl 0 rfl) ?_
      refine m_get (v := .int (nI T)) E hK I 23 rfl q1138 (congrArg Value.int (h23)) dX1_isInSun_6 ?_
      refine lv_icmp_ge (tgt := 47) hx hb dX1_isInSun_9 (by decide) (fun c9 => absurd c9 (nI_ge hi (by omega))) (fun c9 => ?_)
      refine lv_iload_n hx hb dX1_isInSun_12 rfl (lv_at hl 2 rfl) ?_
      refine b_ne (tgt := 35) hx hb dX1_isInSun_13 (by decide) (fun c13 => ?_) (fun c13 => ?_)
      · refine lv_iconst (v := 1) hx hb dX1_isInSun_35 (by decide) ?_
        refine lv_goto (tgt := 40) hx hb dX1_isInSun_36 (by decide) ?_
        refine lv_istore_n (lv' := [(2, .int 1), (0, .ref o), (1, .int (nI g)), (3, .int (nI i))]) hx hb dX1_isInSun_40 rfl hl (by decide) rfl (fun ls hl => ?_)
        refine lv_iinc (v := nI (i + 1)) (lv' := [(3, .int (nI (i + 1))), (2, .int 1), (0, .ref o), (1, .int (nI g))]) hx hb dX1_isInSun_41 hl (k := 3) rfl (nI_1 _) (by decide) rfl (fun ls hl => ?_)
        refine lv_goto (tgt := 4) hx hb dX1_isInSun_44 (by decide) ?_
        exact ih4 _ _ ls (m_as I (rfl)) (lv_as (lv_sub (l' := [(0, .ref o), (1, .int (nI g)), (2, .int 1), (3, .int (nI (i + 1)))]) hl [2, 3, 1, 0] rfl) (by simp [anyB, mSunT, bI, c9, c13]))
      · refine lv_aload_n hx hb dX1_isInSun_16 rfl (lv_at hl 0 rfl) ?_
        refine m_get E hK I 30 rfl q1145 rfl dX1_isInSun_17 ?_
        refine lv_iload_n hx hb dX1_isInSun_20 rfl (lv_at hl 3 rfl) ?_
        refine m_ald (i := i) E hK I 15 rfl rfl rfl dX1_isInSun_21 (by simp only [mLn]; omega) ?_
        refine lv_iload_n hx hb dX1_isInSun_22 rfl (lv_at hl 1 rfl) ?_
        refine lv_icmp_ne (tgt := 39) hx hb dX1_isInSun_23 (by decide) (fun c23 => ?_) (fun c23 => ?_)
        · refine lv_iconst (v := 0) hx hb dX1_isInSun_39 (by decide) ?_
          refine lv_istore_n (lv' := [(2, .int 0), (0, .ref o), (1, .int (nI g)), (3, .int (nI i))]) hx hb dX1_isInSun_40 rfl hl (by decide) rfl (fun ls hl => ?_)
          refine lv_iinc (v := nI (i + 1)) (lv' := [(3, .int (nI (i + 1))), (2, .int 0), (0, .ref o), (1, .int (nI g))]) hx hb dX1_isInSun_41 hl (k := 3) rfl (nI_1 _) (by decide) rfl (fun ls hl => ?_)
          refine lv_goto (tgt := 4) hx hb dX1_isInSun_44 (by decide) ?_
          exact ih4 _ _ ls (m_as I (rfl)) (lv_as (lv_sub (l' := [(0, .ref o), (1, .int (nI g)), (2, .int 0), (3, .int (nI (i + 1)))]) hl [2, 3, 1, 0] rfl) (by simp [anyB, mSunT, bI, c9, c13, c23]))
        · refine lv_aload_n hx hb dX1_isInSun_26 rfl (lv_at hl 0 rfl) ?_
          refine m_get E hK I 24 rfl q1139 rfl dX1_isInSun_27 ?_
          refine lv_iload_n hx hb dX1_isInSun_30 rfl (lv_at hl 3 rfl) ?_
          refine m_ald (i := i) E hK I 13 rfl rfl rfl dX1_isInSun_31 (by simp only [mLn]; omega) ?_
          refine lv_if_ne (tgt := 39) hx hb dX1_isInSun_32 (by decide) (fun c32 => ?_) (fun c32 => ?_)
          · refine lv_iconst (v := 0) hx hb dX1_isInSun_39 (by decide) ?_
            refine lv_istore_n (lv' := [(2, .int 0), (0, .ref o), (1, .int (nI g)), (3, .int (nI i))]) hx hb dX1_isInSun_40 rfl hl (by decide) rfl (fun ls hl => ?_)
            refine lv_iinc (v := nI (i + 1)) (lv' := [(3, .int (nI (i + 1))), (2, .int 0), (0, .ref o), (1, .int (nI g))]) hx hb dX1_isInSun_41 hl (k := 3) rfl (nI_1 _) (by decide) rfl (fun ls hl => ?_)
            refine lv_goto (tgt := 4) hx hb dX1_isInSun_44 (by decide) ?_
            exact ih4 _ _ ls (m_as I (rfl)) (lv_as (lv_sub (l' := [(0, .ref o), (1, .int (nI g)), (2, .int 0), (3, .int (nI (i + 1)))]) hl [2, 3, 1, 0] rfl) (by simp [anyB, mSunT, bI, c9, c13, c23, c32]))
          · refine lv_iconst (v := 1) hx hb dX1_isInSun_35 (by decide) ?_
            refine lv_goto (tgt := 40) hx hb dX1_isInSun_36 (by decide) ?_
            refine lv_istore_n (lv' := [(2, .int 1), (0, .ref o), (1, .int (nI g)), (3, .int (nI i))]) hx hb dX1_isInSun_40 rfl hl (by decide) rfl (fun ls hl => ?_)
            refine lv_iinc (v := nI (i + 1)) (lv' := [(3, .int (nI (i + 1))), (2, .int 1), (0, .ref o), (1, .int (nI g))]) hx hb dX1_isInSun_41 hl (k := 3) rfl (nI_1 _) (by decide) rfl (fun ls hl => ?_)
            refine lv_goto (tgt := 4) hx hb dX1_isInSun_44 (by decide) ?_
            exact ih4 _ _ ls (m_as I (rfl)) (lv_as (lv_sub (l' := [(0, .ref o), (1, .int (nI g)), (2, .int 1), (3, .int (nI (i + 1)))]) hl [2, 3, 1, 0] rfl) (by simp [anyB, mSunT, bI, c9, c13, c23, c32]))
  exact L4 0 (Nat.zero_le _) _ _ ls (m_as I (rfl)) (lv_as (lv_sub (l' := [(0, .ref o), (1, .int (nI g)), (2, .int 0), (3, .int 0)]) hl [2, 3, 1, 0] rfl) (rfl))
theorem dc_m_isInSun : yX1_isInSun.cls = RX1 ∧ yX1_isInSun.cls ≠ "java/lang/invoke/MethodHandle" ∧ yX1_isInSun.cls ≠ "java/lang/invoke/VarHandle" ∧ (parseMethodDescriptor yX1_isInSun.desc).map (fun d => d.parameters.length) = some 1 := by decide +kernel
theorem go_m_isInSun : GoodIn lw_all (wsV RX1 208 RX1 yX1_isInSun (ws_ yX1_isInSun cX1_isInSun 4 (some .boolean))) := lw_V q1354 q1356 qs49 q75 q1357
theorem m_allCoin (l : Launch) (D : va_G) (ty : Nat → ClassId) (o : Nat) (ad : Nat → Nat) (σ : Sg) (G : Nat) (hG : G ≤ 8) (h16 : σ 16 0 = nI G) : mKi l yX1_allCoin cX1_allCoin 3 .int 1 D ty o ad σ [] (fun r τ => r = sumI (σ 36) G ∧ τ = σ) := by
  refine Ki.of (by decide) (Nat.le_of_ble_eq_true rfl) ?_
  intro p e s m below meth c A ls args E hK hA hX hlk hr I hl
  have hx := E.1
  have hb := E.2.1
  have hl : lv_has ls 3 [(0, .ref o)] := hl
  refine nameQ (fun Q hQ => ?_)
  refine lv_iconst (v := 0) hx hb dX1_allCoin_0 (by decide) ?_
  refine lv_istore_n (lv' := [(1, .int 0), (0, .ref o)]) hx hb dX1_allCoin_1 rfl hl (by decide) rfl (fun ls hl => ?_)
  refine lv_iconst (v := 0) hx hb dX1_allCoin_2 (by decide) ?_
  refine lv_istore_n (lv' := [(2, .int 0), (1, .int 0), (0, .ref o)]) hx hb dX1_allCoin_3 rfl hl (by decide) rfl (fun ls hl => ?_)
  have L4 : ∀ i, i ≤ G → ∀ (H : Heap) (locs : List Loc) (ls : Array Slot), gI s D A (mW ty o ad σ) H locs → lv_has ls 3 [(0, .ref o), (1, .int (sumI (σ 36) i)), (2, .int (nI i))] → W p l e (rmL 1) s m args below meth c H locs 0 0 Q (F0 m 4 ls []) := by
    refine dn_ind G ?_ ?_
    · intro H locs ls I hl
      refine lv_iload_n hx hb dX1_allCoin_4 rfl (lv_at hl 2 rfl) ?_
      refine lv_aload_n hx hb dX1_allCoin_5 rfl (lv_at hl 0 rfl) ?_
      refine m_get (v := .int (nI G)) E hK I 16 rfl q1131 (congrArg Value.int (h16)) dX1_allCoin_6 ?_
      refine lv_icmp_ge (tgt := 27) hx hb dX1_allCoin_9 (by decide) (fun c9 => ?_) (fun c9 => absurd c9 (fun h => h (Int32.le_refl _)))
      refine lv_iload_n hx hb dX1_allCoin_27 rfl (lv_at hl 1 rfl) ?_
      subst hQ
      exact r_i E hlk hr I (Nat.le_refl 0) (Nat.le_refl 0) dX1_allCoin_28 (⟨rfl, rfl⟩)
    · intro i hi ih4 H locs ls I hl
      refine lv_iload_n hx hb dX1_allCoin_4 rfl (lv_at hl 2 rfl) ?_
      refine lv_aload_n hx hb dX1_allCoin_5 rfl (lv_at hl 0 rfl) ?_
      refine m_get (v := .int (nI G)) E hK I 16 rfl q1131 (congrArg Value.int (h16)) dX1_allCoin_6 ?_
      refine lv_icmp_ge (tgt := 27) hx hb dX1_allCoin_9 (by decide) (fun c9 => absurd c9 (nI_ge hi (by omega))) (fun c9 => ?_)
      refine lv_iload_n hx hb dX1_allCoin_12 rfl (lv_at hl 1 rfl) ?_
      refine lv_aload_n hx hb dX1_allCoin_13 rfl (lv_at hl 0 rfl) ?_
      refine m_get E hK I 36 rfl q1151 rfl dX1_allCoin_14 ?_
      refine lv_iload_n hx hb dX1_allCoin_17 rfl (lv_at hl 2 rfl) ?_
      refine m_ald (i := i) E hK I 21 rfl rfl rfl dX1_allCoin_18 (by simp only [mLn]; omega) ?_
      refine lv_iadd hx hb dX1_allCoin_19 ?_
      refine lv_istore_n (lv' := [(1, .int ((sumI (σ 36) i) + (σ 36 i))), (0, .ref o), (2, .int (nI i))]) hx hb dX1_allCoin_20 rfl hl (by decide) rfl (fun ls hl => ?_)
      refine lv_iinc (v := nI (i + 1)) (lv' := [(2, .int (nI (i + 1))), (1, .int ((sumI (σ 36) i) + (σ 36 i))), (0, .ref o)]) hx hb dX1_allCoin_21 hl (k := 2) rfl (nI_1 _) (by decide) rfl (fun ls hl => ?_)
      refine lv_goto (tgt := 4) hx hb dX1_allCoin_24 (by decide) ?_
      exact ih4 _ _ ls (m_as I (rfl)) (lv_as (lv_sub (l' := [(0, .ref o), (1, .int ((sumI (σ 36) i) + (σ 36 i))), (2, .int (nI (i + 1)))]) hl [2, 1, 0] rfl) (rfl))
  exact L4 0 (Nat.zero_le _) _ _ ls (m_as I (rfl)) (lv_as (lv_sub (l' := [(0, .ref o), (1, .int 0), (2, .int 0)]) hl [2, 1, 0] rfl) (rfl))
theorem dc_m_allCoin : yX1_allCoin.cls = RX1 ∧ yX1_allCoin.cls ≠ "java/lang/invoke/MethodHandle" ∧ yX1_allCoin.cls ≠ "java/lang/invoke/VarHandle" ∧ (parseMethodDescriptor yX1_allCoin.desc).map (fun d => d.parameters.length) = some 0 := by decide +kernel
theorem go_m_allCoin : GoodIn lw_all (wsV RX1 239 RX1 yX1_allCoin (ws_ yX1_allCoin cX1_allCoin 3 (some .int))) := lw_V q1402 q1404 qs61 q75 q1405
def mMore (σ : Sg) (g n : Nat) : Int32 := if σ 17 g = 2 then (if nI (cnt (mWt σ (nI g)) n) ≤ 0 then 0 else mStay σ g / 9) else 0
def mSitS (σ : Sg) (g m T G : Nat) : Sg := up (up (up (mTakes σ g T) 32 g 1) 34 g (nI m)) 35 g (nI m + mStay σ g + mMore σ g G)
def mHas (σ : Sg) (g t : Nat) : Bool := decide (σ 30 t = nI g)
def mSit (σ : Sg) (g m T G : Nat) : Sg := if mCan σ g T then up (mSitS σ g m T G) 33 g (lwT (mHas (mTakes σ g T) g) T (σ 33 g)) else mTakes σ g T
theorem up_up (σ : Sg) (k i : Nat) (a b : Int32) : up (up σ k i a) k i b = up σ k i b := by
  funext x y
  by_cases h1 : x = k <;> by_cases h2 : y = i <;> simp [up, h1, h2]
theorem up_id (σ : Sg) (k i : Nat) : up σ k i (σ k i) = σ := by
  funext x y
  by_cases h1 : x = k <;> by_cases h2 : y = i <;> simp [up, h1, h2]
theorem lwT_t {p : Nat → Bool} {n : Nat} (h : p n = true) (x : Int32) : lwT p (n + 1) x = lwT p n (nI n) := by simp [lwT, h]
theorem lwT_f {p : Nat → Bool} {n : Nat} (h : p n = false) (x : Int32) : lwT p (n + 1) x = lwT p n x := by simp [lwT, h]
theorem nI_m1 (n : Nat) : nI (n + 1) - 1 = nI n := nI_pred n
theorem nI_dec (n : Nat) : nI n + Int32.ofInt (-1) = nI n - 1 := by rw [Int32.sub_eq_add_neg]; rfl
theorem m_sitsDown (l : Launch) (D : va_G) (ty : Nat → ClassId) (o : Nat) (ad : Nat → Nat) (σ : Sg) (g : Nat) (q : Nat) (hg : g < 8) (T : Nat) (hT : T ≤ 6) (h23 : σ 23 0 = nI T) (G : Nat) (hG : G ≤ 8) (h16 : σ 16 0 = nI G) : mKi l yX1_sitsDown cX1_sitsDown 5 .boolean 4 D ty o ad σ [.int (nI g), .int (nI q)] (fun r τ => r = bI (mCan σ g T) ∧ τ = mSit σ g q T G) := by
  refine Ki.of (by decide) (Nat.le_of_ble_eq_true rfl) ?_
  intro p e s m below meth c A ls args E hK hA hX hlk hr I hl
  have hx := E.1
  have hb := E.2.1
  have hl : lv_has ls 5 [(0, .ref o), (1, .int (nI g)), (2, .int (nI q))] := hl
  refine nameQ (fun Q hQ => ?_)
  refine lv_aload_n hx hb dX1_sitsDown_0 rfl (lv_at hl 0 rfl) ?_
  refine m_get E hK I 17 rfl q1132 rfl dX1_sitsDown_1 ?_
  refine lv_iload_n hx hb dX1_sitsDown_4 rfl (lv_at hl 1 rfl) ?_
  refine m_ald (i := g) E hK I 7 rfl rfl rfl dX1_sitsDown_5 (by simp only [mLn]; omega) ?_
  refine lv_iconst (v := 2) hx hb dX1_sitsDown_6 (by decide) ?_
  refine lv_icmp_ne (tgt := 29) hx hb dX1_sitsDown_7 (by decide) (fun c7 => ?_) (fun c7 => ?_)
  · refine lv_iconst (v := 0) hx hb dX1_sitsDown_29 (by decide) ?_
    refine lv_istore_n (lv' := [(3, .int 0), (0, .ref o), (1, .int (nI g)), (2, .int (nI q))]) hx hb dX1_sitsDown_30 rfl hl (by decide) rfl (fun ls hl => ?_)
    refine lv_aload_n hx hb dX1_sitsDown_31 rfl (lv_at hl 1 rfl) ?_
    refine lv_iload_n hx hb dX1_sitsDown_32 rfl (lv_at hl 2 rfl) ?_
    refine m_ci E hK hA I (m_takesTable l D ty o ad σ g (by omega) T hT h23) go_m_takesTable dc_m_takesTable ⟨Nat.le_of_ble_eq_true rfl, Nat.le_of_ble_eq_true rfl⟩ ⟨Nat.le_refl 0, Nat.le_refl 0⟩ hl.1 (Nat.le_of_ble_eq_true rfl) rfl dX1_sitsDown_33 (fun r33 σ33 H locs hp I => ?_)
    refine top_i (y := bI (mCan σ g T)) hp.1 ?_
    have I := m_as I hp.2
    refine b_ne (tgt := 41) hx hb dX1_sitsDown_36 (by decide) (fun c36 => ?_) (fun c36 => ?_)
    · obtain ⟨s1, hs1⟩ : ∃ z, z = mTakes σ g T := ⟨_, rfl⟩
      have I := m_as I hs1.symm
      refine lv_aload_n hx hb dX1_sitsDown_41 rfl (lv_at hl 1 rfl) ?_
      refine m_get E hK I 32 rfl q1147 rfl dX1_sitsDown_42 ?_
      refine lv_iload_n hx hb dX1_sitsDown_45 rfl (lv_at hl 2 rfl) ?_
      refine lv_iconst (v := 1) hx hb dX1_sitsDown_46 (by decide) ?_
      refine m_ast (i := g) E hK I 17 rfl rfl rfl dX1_sitsDown_47 (by simp only [mLn]; omega) (fun H locs I => ?_)
      refine lv_aload_n hx hb dX1_sitsDown_48 rfl (lv_at hl 1 rfl) ?_
      refine m_get E hK I 34 rfl q1149 rfl dX1_sitsDown_49 ?_
      refine lv_iload_n hx hb dX1_sitsDown_52 rfl (lv_at hl 2 rfl) ?_
      refine lv_iload_n hx hb dX1_sitsDown_53 rfl (lv_at hl 3 rfl) ?_
      refine m_ast (i := g) E hK I 19 rfl rfl rfl dX1_sitsDown_54 (by simp only [mLn]; omega) (fun H locs I => ?_)
      refine lv_aload_n hx hb dX1_sitsDown_55 rfl (lv_at hl 1 rfl) ?_
      refine m_get E hK I 35 rfl q1150 rfl dX1_sitsDown_56 ?_
      refine lv_iload_n hx hb dX1_sitsDown_59 rfl (lv_at hl 2 rfl) ?_
      refine lv_iload_n hx hb dX1_sitsDown_60 rfl (lv_at hl 3 rfl) ?_
      refine lv_aload_n hx hb dX1_sitsDown_61 rfl (lv_at hl 1 rfl) ?_
      refine lv_iload_n hx hb dX1_sitsDown_62 rfl (lv_at hl 2 rfl) ?_
      refine m_ci E hK hA I (m_stays l D ty o ad (up (up s1 32 g 1) 34 g (nI q)) g (by omega)) go_m_stays dc_m_stays ⟨Nat.le_of_ble_eq_true rfl, Nat.le_of_ble_eq_true rfl⟩ ⟨Nat.le_refl 0, Nat.le_refl 0⟩ hl.1 (Nat.le_of_ble_eq_true rfl) rfl dX1_sitsDown_63 (fun r63 σ63 H locs hp I => ?_)
      refine top_i (y := mStay (up (up s1 32 g 1) 34 g (nI q)) g) hp.1 ?_
      have I := m_as I hp.2
      refine lv_iadd hx hb dX1_sitsDown_66 ?_
      refine lv_iload_n hx hb dX1_sitsDown_67 rfl (lv_at hl 0 rfl) ?_
      refine lv_iadd hx hb dX1_sitsDown_68 ?_
      refine m_ast (i := g) E hK I 20 rfl rfl rfl dX1_sitsDown_69 (by simp only [mLn]; omega) (fun H locs I => ?_)
      refine lv_aload_n hx hb dX1_sitsDown_70 rfl (lv_at hl 1 rfl) ?_
      refine m_get (v := .int (nI T)) E hK I 23 rfl q1138 (congrArg Value.int (by simp [up, hs1, mTakes_k, h23])) dX1_sitsDown_71 ?_
      refine lv_iconst (v := 1) hx hb dX1_sitsDown_74 (by decide) ?_
      refine lv_isub hx hb dX1_sitsDown_75 ?_
      refine lv_istore (lv' := [(4, .int ((nI T) - 1)), (3, .int 0), (0, .ref o), (1, .int (nI g)), (2, .int (nI q))]) hx hb dX1_sitsDown_76 hl (by decide) rfl (fun ls hl => ?_)
      obtain ⟨s4, hs4⟩ : ∃ z, z = up (up (up s1 32 g 1) 34 g (nI q)) 35 g (((nI q) + (mStay (up (up s1 32 g 1) 34 g (nI q)) g)) + 0) := ⟨_, rfl⟩
      have I := m_as I hs4.symm
      have hmore : 0 = mMore σ g G := by simp [mMore, c7]
      have e4 : s4 = mSitS σ g q T G := by rw [hs4, hmore, hs1]; simp [mSitS, mStay, up, mTakes_k]
      have e5 : s4 33 g = σ 33 g := by rw [e4]; simp [mSitS, up, mTakes_k]
      have e6 : ∀ t, s4 30 t = mTakes σ g T 30 t := by intro t; rw [e4]; simp [mSitS, up]
      have e7 : s4 23 0 = nI T := by rw [e4]; simp [mSitS, up, mTakes_k, h23]
      have L : ∀ k, k ≤ T → ∀ x, lwT (mHas (mTakes σ g T) g) T (σ 33 g) = lwT (mHas (mTakes σ g T) g) k x → ∀ (H : Heap) (locs : List Loc) (ls : Array Slot), gI s D A (mW ty o ad (up s4 33 g x)) H locs → lv_has ls 5 [(0, .ref o), (1, .int (nI g)), (4, .int (nI k - 1))] → W p l e (rmL 4) s m args below meth c H locs 0 0 Q (F0 m 78 ls []) := by
        intro k
        induction k with
        | zero =>
          intro hk x hxx H locs ls I hl
          refine lv_iload hx hb dX1_sitsDown_78 (lv_at hl 2 rfl) ?_
          refine lv_if_lt (tgt := 117) hx hb dX1_sitsDown_80 (by decide) (fun c80 => ?_) (fun c80 => absurd c80 (fun h => h (by decide)))
          refine lv_iconst (v := 1) hx hb dX1_sitsDown_117 (by decide) ?_
          subst hQ
          exact r_z (b := true) E hlk hr I (Nat.le_refl 0) (Nat.le_refl 0) dX1_sitsDown_118 rfl (⟨by rw [c36], by simp only [mSit, c36, if_true]; rw [hxx, e4]; rfl⟩)
        | succ j ih =>
          intro hk x hxx H locs ls I hl
          have hl := lv_as (L' := [(0, .ref o), (1, .int (nI g)), (4, .int (nI j))]) hl (by rw [nI_m1])
          refine lv_iload hx hb dX1_sitsDown_78 (lv_at hl 2 rfl) ?_
          refine lv_if_lt (tgt := 117) hx hb dX1_sitsDown_80 (by decide) (fun c80 => absurd c80 (nI_pos (by omega))) (fun c80 => ?_)
          refine lv_aload_n hx hb dX1_sitsDown_83 rfl (lv_at hl 0 rfl) ?_
          refine m_get E hK I 33 rfl q1148 rfl dX1_sitsDown_84 ?_
          refine lv_iload_n hx hb dX1_sitsDown_87 rfl (lv_at hl 1 rfl) ?_
          refine lv_aload_n hx hb dX1_sitsDown_88 rfl (lv_at hl 0 rfl) ?_
          refine m_get E hK I 30 rfl q1145 rfl dX1_sitsDown_89 ?_
          refine lv_iload hx hb dX1_sitsDown_92 (lv_at hl 2 rfl) ?_
          refine m_ald (i := j) E hK I 15 rfl rfl rfl dX1_sitsDown_94 (by simp only [mLn]; omega) ?_
          refine lv_iload_n hx hb dX1_sitsDown_95 rfl (lv_at hl 1 rfl) ?_
          refine lv_icmp_ne (tgt := 104) hx hb dX1_sitsDown_96 (by decide) (fun c96 => ?_) (fun c96 => ?_)
          · refine lv_aload_n hx hb dX1_sitsDown_104 rfl (lv_at hl 0 rfl) ?_
            refine m_get E hK I 33 rfl q1148 rfl dX1_sitsDown_105 ?_
            refine lv_iload_n hx hb dX1_sitsDown_108 rfl (lv_at hl 1 rfl) ?_
            refine m_ald (i := g) E hK I 18 rfl rfl rfl dX1_sitsDown_109 (by simp only [mLn]; omega) ?_
            refine m_ast (i := g) E hK I 18 rfl rfl rfl dX1_sitsDown_110 (by simp only [mLn]; omega) (fun H locs I => ?_)
            refine lv_iinc (v := (nI j - 1)) (lv' := [(4, .int (nI j - 1)), (0, .ref o), (1, .int (nI g))]) hx hb dX1_sitsDown_111 hl (k := 2) rfl (nI_dec j) (by decide) rfl (fun ls hl => ?_)
            refine lv_goto (tgt := 78) hx hb dX1_sitsDown_114 (by decide) ?_
            exact ih (by omega) (x) (hxx.trans (lwT_f (by simpa [mHas, up, e6] using c96) x)) _ _ ls (m_as I (by rw [up_up, up_s])) (lv_sub (l' := [(0, .ref o), (1, .int (nI g)), (4, .int (nI j - 1))]) hl [1, 2, 0] rfl)
          · refine lv_iload hx hb dX1_sitsDown_99 (lv_at hl 2 rfl) ?_
            refine lv_goto (tgt := 110) hx hb dX1_sitsDown_101 (by decide) ?_
            refine m_ast (i := g) E hK I 18 rfl rfl rfl dX1_sitsDown_110 (by simp only [mLn]; omega) (fun H locs I => ?_)
            refine lv_iinc (v := (nI j - 1)) (lv' := [(4, .int (nI j - 1)), (0, .ref o), (1, .int (nI g))]) hx hb dX1_sitsDown_111 hl (k := 2) rfl (nI_dec j) (by decide) rfl (fun ls hl => ?_)
            refine lv_goto (tgt := 78) hx hb dX1_sitsDown_114 (by decide) ?_
            exact ih (by omega) (nI j) (hxx.trans (lwT_t (by simpa [mHas, up, e6] using c96) x)) _ _ ls (m_as I (by rw [up_up])) (lv_sub (l' := [(0, .ref o), (1, .int (nI g)), (4, .int (nI j - 1))]) hl [1, 2, 0] rfl)
      exact L T (Nat.le_refl _) (σ 33 g) rfl _ _ ls (m_as I (by rw [← e5, up_id])) (lv_sub (l' := [(0, .ref o), (1, .int (nI g)), (4, .int ((nI T) - 1))]) hl [2, 3, 0] rfl)
    · refine lv_iconst (v := 0) hx hb dX1_sitsDown_39 (by decide) ?_
      subst hQ
      exact r_z (b := false) E hlk hr I (Nat.le_refl 0) (Nat.le_refl 0) dX1_sitsDown_40 rfl (⟨by simp [c36], by simp [mSit, c36]⟩)
  · refine lv_aload_n hx hb dX1_sitsDown_10 rfl (lv_at hl 0 rfl) ?_
    refine lv_iload_n hx hb dX1_sitsDown_11 rfl (lv_at hl 1 rfl) ?_
    refine m_ci E hK hA I (m_manyWait l D ty o ad σ (nI g) G hG h16) go_m_manyWait dc_m_manyWait ⟨Nat.le_of_ble_eq_true rfl, Nat.le_of_ble_eq_true rfl⟩ ⟨Nat.le_refl 0, Nat.le_refl 0⟩ hl.1 (Nat.le_of_ble_eq_true rfl) rfl dX1_sitsDown_12 (fun r12 σ12 H locs hp I => ?_)
    refine top_i (y := nI (cnt (mWt σ (nI g)) G)) hp.1 ?_
    have I := m_as I hp.2
    refine lv_if_le (tgt := 29) hx hb dX1_sitsDown_15 (by decide) (fun c15 => ?_) (fun c15 => ?_)
    · refine lv_iconst (v := 0) hx hb dX1_sitsDown_29 (by decide) ?_
      refine lv_istore_n (lv' := [(3, .int 0), (0, .ref o), (1, .int (nI g)), (2, .int (nI q))]) hx hb dX1_sitsDown_30 rfl hl (by decide) rfl (fun ls hl => ?_)
      refine lv_aload_n hx hb dX1_sitsDown_31 rfl (lv_at hl 1 rfl) ?_
      refine lv_iload_n hx hb dX1_sitsDown_32 rfl (lv_at hl 2 rfl) ?_
      refine m_ci E hK hA I (m_takesTable l D ty o ad σ g (by omega) T hT h23) go_m_takesTable dc_m_takesTable ⟨Nat.le_of_ble_eq_true rfl, Nat.le_of_ble_eq_true rfl⟩ ⟨Nat.le_refl 0, Nat.le_refl 0⟩ hl.1 (Nat.le_of_ble_eq_true rfl) rfl dX1_sitsDown_33 (fun r33 σ33 H locs hp I => ?_)
      refine top_i (y := bI (mCan σ g T)) hp.1 ?_
      have I := m_as I hp.2
      refine b_ne (tgt := 41) hx hb dX1_sitsDown_36 (by decide) (fun c36 => ?_) (fun c36 => ?_)
      · obtain ⟨s1, hs1⟩ : ∃ z, z = mTakes σ g T := ⟨_, rfl⟩
        have I := m_as I hs1.symm
        refine lv_aload_n hx hb dX1_sitsDown_41 rfl (lv_at hl 1 rfl) ?_
        refine m_get E hK I 32 rfl q1147 rfl dX1_sitsDown_42 ?_
        refine lv_iload_n hx hb dX1_sitsDown_45 rfl (lv_at hl 2 rfl) ?_
        refine lv_iconst (v := 1) hx hb dX1_sitsDown_46 (by decide) ?_
        refine m_ast (i := g) E hK I 17 rfl rfl rfl dX1_sitsDown_47 (by simp only [mLn]; omega) (fun H locs I => ?_)
        refine lv_aload_n hx hb dX1_sitsDown_48 rfl (lv_at hl 1 rfl) ?_
        refine m_get E hK I 34 rfl q1149 rfl dX1_sitsDown_49 ?_
        refine lv_iload_n hx hb dX1_sitsDown_52 rfl (lv_at hl 2 rfl) ?_
        refine lv_iload_n hx hb dX1_sitsDown_53 rfl (lv_at hl 3 rfl) ?_
        refine m_ast (i := g) E hK I 19 rfl rfl rfl dX1_sitsDown_54 (by simp only [mLn]; omega) (fun H locs I => ?_)
        refine lv_aload_n hx hb dX1_sitsDown_55 rfl (lv_at hl 1 rfl) ?_
        refine m_get E hK I 35 rfl q1150 rfl dX1_sitsDown_56 ?_
        refine lv_iload_n hx hb dX1_sitsDown_59 rfl (lv_at hl 2 rfl) ?_
        refine lv_iload_n hx hb dX1_sitsDown_60 rfl (lv_at hl 3 rfl) ?_
        refine lv_aload_n hx hb dX1_sitsDown_61 rfl (lv_at hl 1 rfl) ?_
        refine lv_iload_n hx hb dX1_sitsDown_62 rfl (lv_at hl 2 rfl) ?_
        refine m_ci E hK hA I (m_stays l D ty o ad (up (up s1 32 g 1) 34 g (nI q)) g (by omega)) go_m_stays dc_m_stays ⟨Nat.le_of_ble_eq_true rfl, Nat.le_of_ble_eq_true rfl⟩ ⟨Nat.le_refl 0, Nat.le_refl 0⟩ hl.1 (Nat.le_of_ble_eq_true rfl) rfl dX1_sitsDown_63 (fun r63 σ63 H locs hp I => ?_)
        refine top_i (y := mStay (up (up s1 32 g 1) 34 g (nI q)) g) hp.1 ?_
        have I := m_as I hp.2
        refine lv_iadd hx hb dX1_sitsDown_66 ?_
        refine lv_iload_n hx hb dX1_sitsDown_67 rfl (lv_at hl 0 rfl) ?_
        refine lv_iadd hx hb dX1_sitsDown_68 ?_
        refine m_ast (i := g) E hK I 20 rfl rfl rfl dX1_sitsDown_69 (by simp only [mLn]; omega) (fun H locs I => ?_)
        refine lv_aload_n hx hb dX1_sitsDown_70 rfl (lv_at hl 1 rfl) ?_
        refine m_get (v := .int (nI T)) E hK I 23 rfl q1138 (congrArg Value.int (by simp [up, hs1, mTakes_k, h23])) dX1_sitsDown_71 ?_
        refine lv_iconst (v := 1) hx hb dX1_sitsDown_74 (by decide) ?_
        refine lv_isub hx hb dX1_sitsDown_75 ?_
        refine lv_istore (lv' := [(4, .int ((nI T) - 1)), (3, .int 0), (0, .ref o), (1, .int (nI g)), (2, .int (nI q))]) hx hb dX1_sitsDown_76 hl (by decide) rfl (fun ls hl => ?_)
        obtain ⟨s4, hs4⟩ : ∃ z, z = up (up (up s1 32 g 1) 34 g (nI q)) 35 g (((nI q) + (mStay (up (up s1 32 g 1) 34 g (nI q)) g)) + 0) := ⟨_, rfl⟩
        have I := m_as I hs4.symm
        have hmore : 0 = mMore σ g G := by simp [mMore, c7, c15]
        have e4 : s4 = mSitS σ g q T G := by rw [hs4, hmore, hs1]; simp [mSitS, mStay, up, mTakes_k]
        have e5 : s4 33 g = σ 33 g := by rw [e4]; simp [mSitS, up, mTakes_k]
        have e6 : ∀ t, s4 30 t = mTakes σ g T 30 t := by intro t; rw [e4]; simp [mSitS, up]
        have e7 : s4 23 0 = nI T := by rw [e4]; simp [mSitS, up, mTakes_k, h23]
        have L : ∀ k, k ≤ T → ∀ x, lwT (mHas (mTakes σ g T) g) T (σ 33 g) = lwT (mHas (mTakes σ g T) g) k x → ∀ (H : Heap) (locs : List Loc) (ls : Array Slot), gI s D A (mW ty o ad (up s4 33 g x)) H locs → lv_has ls 5 [(0, .ref o), (1, .int (nI g)), (4, .int (nI k - 1))] → W p l e (rmL 4) s m args below meth c H locs 0 0 Q (F0 m 78 ls []) := by
          intro k
          induction k with
          | zero =>
            intro hk x hxx H locs ls I hl
            refine lv_iload hx hb dX1_sitsDown_78 (lv_at hl 2 rfl) ?_
            refine lv_if_lt (tgt := 117) hx hb dX1_sitsDown_80 (by decide) (fun c80 => ?_) (fun c80 => absurd c80 (fun h => h (by decide)))
            refine lv_iconst (v := 1) hx hb dX1_sitsDown_117 (by decide) ?_
            subst hQ
            exact r_z (b := true) E hlk hr I (Nat.le_refl 0) (Nat.le_refl 0) dX1_sitsDown_118 rfl (⟨by rw [c36], by simp only [mSit, c36, if_true]; rw [hxx, e4]; rfl⟩)
          | succ j ih =>
            intro hk x hxx H locs ls I hl
            have hl := lv_as (L' := [(0, .ref o), (1, .int (nI g)), (4, .int (nI j))]) hl (by rw [nI_m1])
            refine lv_iload hx hb dX1_sitsDown_78 (lv_at hl 2 rfl) ?_
            refine lv_if_lt (tgt := 117) hx hb dX1_sitsDown_80 (by decide) (fun c80 => absurd c80 (nI_pos (by omega))) (fun c80 => ?_)
            refine lv_aload_n hx hb dX1_sitsDown_83 rfl (lv_at hl 0 rfl) ?_
            refine m_get E hK I 33 rfl q1148 rfl dX1_sitsDown_84 ?_
            refine lv_iload_n hx hb dX1_sitsDown_87 rfl (lv_at hl 1 rfl) ?_
            refine lv_aload_n hx hb dX1_sitsDown_88 rfl (lv_at hl 0 rfl) ?_
            refine m_get E hK I 30 rfl q1145 rfl dX1_sitsDown_89 ?_
            refine lv_iload hx hb dX1_sitsDown_92 (lv_at hl 2 rfl) ?_
            refine m_ald (i := j) E hK I 15 rfl rfl rfl dX1_sitsDown_94 (by simp only [mLn]; omega) ?_
            refine lv_iload_n hx hb dX1_sitsDown_95 rfl (lv_at hl 1 rfl) ?_
            refine lv_icmp_ne (tgt := 104) hx hb dX1_sitsDown_96 (by decide) (fun c96 => ?_) (fun c96 => ?_)
            · refine lv_aload_n hx hb dX1_sitsDown_104 rfl (lv_at hl 0 rfl) ?_
              refine m_get E hK I 33 rfl q1148 rfl dX1_sitsDown_105 ?_
              refine lv_iload_n hx hb dX1_sitsDown_108 rfl (lv_at hl 1 rfl) ?_
              refine m_ald (i := g) E hK I 18 rfl rfl rfl dX1_sitsDown_109 (by simp only [mLn]; omega) ?_
              refine m_ast (i := g) E hK I 18 rfl rfl rfl dX1_sitsDown_110 (by simp only [mLn]; omega) (fun H locs I => ?_)
              refine lv_iinc (v := (nI j - 1)) (lv' := [(4, .int (nI j - 1)), (0, .ref o), (1, .int (nI g))]) hx hb dX1_sitsDown_111 hl (k := 2) rfl (nI_dec j) (by decide) rfl (fun ls hl => ?_)
              refine lv_goto (tgt := 78) hx hb dX1_sitsDown_114 (by decide) ?_
              exact ih (by omega) (x) (hxx.trans (lwT_f (by simpa [mHas, up, e6] using c96) x)) _ _ ls (m_as I (by rw [up_up, up_s])) (lv_sub (l' := [(0, .ref o), (1, .int (nI g)), (4, .int (nI j - 1))]) hl [1, 2, 0] rfl)
            · refine lv_iload hx hb dX1_sitsDown_99 (lv_at hl 2 rfl) ?_
              refine lv_goto (tgt := 110) hx hb dX1_sitsDown_101 (by decide) ?_
              refine m_ast (i := g) E hK I 18 rfl rfl rfl dX1_sitsDown_110 (by simp only [mLn]; omega) (fun H locs I => ?_)
              refine lv_iinc (v := (nI j - 1)) (lv' := [(4, .int (nI j - 1)), (0, .ref o), (1, .int (nI g))]) hx hb dX1_sitsDown_111 hl (k := 2) rfl (nI_dec j) (by decide) rfl (fun ls hl => ?_)
              refine lv_goto (tgt := 78) hx hb dX1_sitsDown_114 (by decide) ?_
              exact ih (by omega) (nI j) (hxx.trans (lwT_t (by simpa [mHas, up, e6] using c96) x)) _ _ ls (m_as I (by rw [up_up])) (lv_sub (l' := [(0, .ref o), (1, .int (nI g)), (4, .int (nI j - 1))]) hl [1, 2, 0] rfl)
        exact L T (Nat.le_refl _) (σ 33 g) rfl _ _ ls (m_as I (by rw [← e5, up_id])) (lv_sub (l' := [(0, .ref o), (1, .int (nI g)), (4, .int ((nI T) - 1))]) hl [2, 3, 0] rfl)
      · refine lv_iconst (v := 0) hx hb dX1_sitsDown_39 (by decide) ?_
        subst hQ
        exact r_z (b := false) E hlk hr I (Nat.le_refl 0) (Nat.le_refl 0) dX1_sitsDown_40 rfl (⟨by simp [c36], by simp [mSit, c36]⟩)
    · refine lv_aload_n hx hb dX1_sitsDown_18 rfl (lv_at hl 0 rfl) ?_
      refine lv_iload_n hx hb dX1_sitsDown_19 rfl (lv_at hl 1 rfl) ?_
      refine m_ci E hK hA I (m_stays l D ty o ad σ g (by omega)) go_m_stays dc_m_stays ⟨Nat.le_of_ble_eq_true rfl, Nat.le_of_ble_eq_true rfl⟩ ⟨Nat.le_refl 0, Nat.le_refl 0⟩ hl.1 (Nat.le_of_ble_eq_true rfl) rfl dX1_sitsDown_20 (fun r20 σ20 H locs hp I => ?_)
      refine top_i (y := mStay σ g) hp.1 ?_
      have I := m_as I hp.2
      refine lv_bipush (v := 9) hx hb dX1_sitsDown_23 (by decide) ?_
      refine lv_idiv hx hb dX1_sitsDown_25 (by decide) ?_
      refine lv_goto (tgt := 30) hx hb dX1_sitsDown_26 (by decide) ?_
      refine lv_istore_n (lv' := [(3, .int ((mStay σ g) / 9)), (0, .ref o), (1, .int (nI g)), (2, .int (nI q))]) hx hb dX1_sitsDown_30 rfl hl (by decide) rfl (fun ls hl => ?_)
      refine lv_aload_n hx hb dX1_sitsDown_31 rfl (lv_at hl 1 rfl) ?_
      refine lv_iload_n hx hb dX1_sitsDown_32 rfl (lv_at hl 2 rfl) ?_
      refine m_ci E hK hA I (m_takesTable l D ty o ad σ g (by omega) T hT h23) go_m_takesTable dc_m_takesTable ⟨Nat.le_of_ble_eq_true rfl, Nat.le_of_ble_eq_true rfl⟩ ⟨Nat.le_refl 0, Nat.le_refl 0⟩ hl.1 (Nat.le_of_ble_eq_true rfl) rfl dX1_sitsDown_33 (fun r33 σ33 H locs hp I => ?_)
      refine top_i (y := bI (mCan σ g T)) hp.1 ?_
      have I := m_as I hp.2
      refine b_ne (tgt := 41) hx hb dX1_sitsDown_36 (by decide) (fun c36 => ?_) (fun c36 => ?_)
      · obtain ⟨s1, hs1⟩ : ∃ z, z = mTakes σ g T := ⟨_, rfl⟩
        have I := m_as I hs1.symm
        refine lv_aload_n hx hb dX1_sitsDown_41 rfl (lv_at hl 1 rfl) ?_
        refine m_get E hK I 32 rfl q1147 rfl dX1_sitsDown_42 ?_
        refine lv_iload_n hx hb dX1_sitsDown_45 rfl (lv_at hl 2 rfl) ?_
        refine lv_iconst (v := 1) hx hb dX1_sitsDown_46 (by decide) ?_
        refine m_ast (i := g) E hK I 17 rfl rfl rfl dX1_sitsDown_47 (by simp only [mLn]; omega) (fun H locs I => ?_)
        refine lv_aload_n hx hb dX1_sitsDown_48 rfl (lv_at hl 1 rfl) ?_
        refine m_get E hK I 34 rfl q1149 rfl dX1_sitsDown_49 ?_
        refine lv_iload_n hx hb dX1_sitsDown_52 rfl (lv_at hl 2 rfl) ?_
        refine lv_iload_n hx hb dX1_sitsDown_53 rfl (lv_at hl 3 rfl) ?_
        refine m_ast (i := g) E hK I 19 rfl rfl rfl dX1_sitsDown_54 (by simp only [mLn]; omega) (fun H locs I => ?_)
        refine lv_aload_n hx hb dX1_sitsDown_55 rfl (lv_at hl 1 rfl) ?_
        refine m_get E hK I 35 rfl q1150 rfl dX1_sitsDown_56 ?_
        refine lv_iload_n hx hb dX1_sitsDown_59 rfl (lv_at hl 2 rfl) ?_
        refine lv_iload_n hx hb dX1_sitsDown_60 rfl (lv_at hl 3 rfl) ?_
        refine lv_aload_n hx hb dX1_sitsDown_61 rfl (lv_at hl 1 rfl) ?_
        refine lv_iload_n hx hb dX1_sitsDown_62 rfl (lv_at hl 2 rfl) ?_
        refine m_ci E hK hA I (m_stays l D ty o ad (up (up s1 32 g 1) 34 g (nI q)) g (by omega)) go_m_stays dc_m_stays ⟨Nat.le_of_ble_eq_true rfl, Nat.le_of_ble_eq_true rfl⟩ ⟨Nat.le_refl 0, Nat.le_refl 0⟩ hl.1 (Nat.le_of_ble_eq_true rfl) rfl dX1_sitsDown_63 (fun r63 σ63 H locs hp I => ?_)
        refine top_i (y := mStay (up (up s1 32 g 1) 34 g (nI q)) g) hp.1 ?_
        have I := m_as I hp.2
        refine lv_iadd hx hb dX1_sitsDown_66 ?_
        refine lv_iload_n hx hb dX1_sitsDown_67 rfl (lv_at hl 0 rfl) ?_
        refine lv_iadd hx hb dX1_sitsDown_68 ?_
        refine m_ast (i := g) E hK I 20 rfl rfl rfl dX1_sitsDown_69 (by simp only [mLn]; omega) (fun H locs I => ?_)
        refine lv_aload_n hx hb dX1_sitsDown_70 rfl (lv_at hl 1 rfl) ?_
        refine m_get (v := .int (nI T)) E hK I 23 rfl q1138 (congrArg Value.int (by simp [up, hs1, mTakes_k, h23])) dX1_sitsDown_71 ?_
        refine lv_iconst (v := 1) hx hb dX1_sitsDown_74 (by decide) ?_
        refine lv_isub hx hb dX1_sitsDown_75 ?_
        refine lv_istore (lv' := [(4, .int ((nI T) - 1)), (3, .int ((mStay σ g) / 9)), (0, .ref o), (1, .int (nI g)), (2, .int (nI q))]) hx hb dX1_sitsDown_76 hl (by decide) rfl (fun ls hl => ?_)
        obtain ⟨s4, hs4⟩ : ∃ z, z = up (up (up s1 32 g 1) 34 g (nI q)) 35 g (((nI q) + (mStay (up (up s1 32 g 1) 34 g (nI q)) g)) + ((mStay σ g) / 9)) := ⟨_, rfl⟩
        have I := m_as I hs4.symm
        have hmore : ((mStay σ g) / 9) = mMore σ g G := by simp [mMore, c7, c15]
        have e4 : s4 = mSitS σ g q T G := by rw [hs4, hmore, hs1]; simp [mSitS, mStay, up, mTakes_k]
        have e5 : s4 33 g = σ 33 g := by rw [e4]; simp [mSitS, up, mTakes_k]
        have e6 : ∀ t, s4 30 t = mTakes σ g T 30 t := by intro t; rw [e4]; simp [mSitS, up]
        have e7 : s4 23 0 = nI T := by rw [e4]; simp [mSitS, up, mTakes_k, h23]
        have L : ∀ k, k ≤ T → ∀ x, lwT (mHas (mTakes σ g T) g) T (σ 33 g) = lwT (mHas (mTakes σ g T) g) k x → ∀ (H : Heap) (locs : List Loc) (ls : Array Slot), gI s D A (mW ty o ad (up s4 33 g x)) H locs → lv_has ls 5 [(0, .ref o), (1, .int (nI g)), (4, .int (nI k - 1))] → W p l e (rmL 4) s m args below meth c H locs 0 0 Q (F0 m 78 ls []) := by
          intro k
          induction k with
          | zero =>
            intro hk x hxx H locs ls I hl
            refine lv_iload hx hb dX1_sitsDown_78 (lv_at hl 2 rfl) ?_
            refine lv_if_lt (tgt := 117) hx hb dX1_sitsDown_80 (by decide) (fun c80 => ?_) (fun c80 => absurd c80 (fun h => h (by decide)))
            refine lv_iconst (v := 1) hx hb dX1_sitsDown_117 (by decide) ?_
            subst hQ
            exact r_z (b := true) E hlk hr I (Nat.le_refl 0) (Nat.le_refl 0) dX1_sitsDown_118 rfl (⟨by rw [c36], by simp only [mSit, c36, if_true]; rw [hxx, e4]; rfl⟩)
          | succ j ih =>
            intro hk x hxx H locs ls I hl
            have hl := lv_as (L' := [(0, .ref o), (1, .int (nI g)), (4, .int (nI j))]) hl (by rw [nI_m1])
            refine lv_iload hx hb dX1_sitsDown_78 (lv_at hl 2 rfl) ?_
            refine lv_if_lt (tgt := 117) hx hb dX1_sitsDown_80 (by decide) (fun c80 => absurd c80 (nI_pos (by omega))) (fun c80 => ?_)
            refine lv_aload_n hx hb dX1_sitsDown_83 rfl (lv_at hl 0 rfl) ?_
            refine m_get E hK I 33 rfl q1148 rfl dX1_sitsDown_84 ?_
            refine lv_iload_n hx hb dX1_sitsDown_87 rfl (lv_at hl 1 rfl) ?_
            refine lv_aload_n hx hb dX1_sitsDown_88 rfl (lv_at hl 0 rfl) ?_
            refine m_get E hK I 30 rfl q1145 rfl dX1_sitsDown_89 ?_
            refine lv_iload hx hb dX1_sitsDown_92 (lv_at hl 2 rfl) ?_
            refine m_ald (i := j) E hK I 15 rfl rfl rfl dX1_sitsDown_94 (by simp only [mLn]; omega) ?_
            refine lv_iload_n hx hb dX1_sitsDown_95 rfl (lv_at hl 1 rfl) ?_
            refine lv_icmp_ne (tgt := 104) hx hb dX1_sitsDown_96 (by decide) (fun c96 => ?_) (fun c96 => ?_)
            · refine lv_aload_n hx hb dX1_sitsDown_104 rfl (lv_at hl 0 rfl) ?_
              refine m_get E hK I 33 rfl q1148 rfl dX1_sitsDown_105 ?_
              refine lv_iload_n hx hb dX1_sitsDown_108 rfl (lv_at hl 1 rfl) ?_
              refine m_ald (i := g) E hK I 18 rfl rfl rfl dX1_sitsDown_109 (by simp only [mLn]; omega) ?_
              refine m_ast (i := g) E hK I 18 rfl rfl rfl dX1_sitsDown_110 (by simp only [mLn]; omega) (fun H locs I => ?_)
              refine lv_iinc (v := (nI j - 1)) (lv' := [(4, .int (nI j - 1)), (0, .ref o), (1, .int (nI g))]) hx hb dX1_sitsDown_111 hl (k := 2) rfl (nI_dec j) (by decide) rfl (fun ls hl => ?_)
              refine lv_goto (tgt := 78) hx hb dX1_sitsDown_114 (by decide) ?_
              exact ih (by omega) (x) (hxx.trans (lwT_f (by simpa [mHas, up, e6] using c96) x)) _ _ ls (m_as I (by rw [up_up, up_s])) (lv_sub (l' := [(0, .ref o), (1, .int (nI g)), (4, .int (nI j - 1))]) hl [1, 2, 0] rfl)
            · refine lv_iload hx hb dX1_sitsDown_99 (lv_at hl 2 rfl) ?_
              refine lv_goto (tgt := 110) hx hb dX1_sitsDown_101 (by decide) ?_
              refine m_ast (i := g) E hK I 18 rfl rfl rfl dX1_sitsDown_110 (by simp only [mLn]; omega) (fun H locs I => ?_)
              refine lv_iinc (v := (nI j - 1)) (lv' := [(4, .int (nI j - 1)), (0, .ref o), (1, .int (nI g))]) hx hb dX1_sitsDown_111 hl (k := 2) rfl (nI_dec j) (by decide) rfl (fun ls hl => ?_)
              refine lv_goto (tgt := 78) hx hb dX1_sitsDown_114 (by decide) ?_
              exact ih (by omega) (nI j) (hxx.trans (lwT_t (by simpa [mHas, up, e6] using c96) x)) _ _ ls (m_as I (by rw [up_up])) (lv_sub (l' := [(0, .ref o), (1, .int (nI g)), (4, .int (nI j - 1))]) hl [1, 2, 0] rfl)
        exact L T (Nat.le_refl _) (σ 33 g) rfl _ _ ls (m_as I (by rw [← e5, up_id])) (lv_sub (l' := [(0, .ref o), (1, .int (nI g)), (4, .int ((nI T) - 1))]) hl [2, 3, 0] rfl)
      · refine lv_iconst (v := 0) hx hb dX1_sitsDown_39 (by decide) ?_
        subst hQ
        exact r_z (b := false) E hlk hr I (Nat.le_refl 0) (Nat.le_refl 0) dX1_sitsDown_40 rfl (⟨by simp [c36], by simp [mSit, c36]⟩)
theorem dc_m_sitsDown : yX1_sitsDown.cls = RX1 ∧ yX1_sitsDown.cls ≠ "java/lang/invoke/MethodHandle" ∧ yX1_sitsDown.cls ≠ "java/lang/invoke/VarHandle" ∧ (parseMethodDescriptor yX1_sitsDown.desc).map (fun d => d.parameters.length) = some 2 := by decide +kernel
theorem go_m_sitsDown : GoodIn lw_all (wsV RX1 217 RX1 yX1_sitsDown (ws_ yX1_sitsDown cX1_sitsDown 5 (some .boolean))) := lw_V q1386 q1388 qs57 q75 q1389
