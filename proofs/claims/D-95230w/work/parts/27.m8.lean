set_option maxRecDepth 100000
set_option maxHeartbeats 4000000
theorem tab_nat {t : Int32} {T : Nat} (hT : T ≤ 6) (h0 : ¬ t < 0) (h : t < nI T) : ∃ j : Nat, j < T ∧ t = nI j := by
  obtain ⟨j, hj, rfl⟩ := nI_of h0
  refine ⟨j, ?_, rfl⟩
  rcases Nat.lt_or_ge j T with h3 | h3
  · exact h3
  · exact absurd h (nI_nlt h3 hj)
def mTab (t : Int32) (T : Nat) : Bool := !decide (t < 0) && decide (t < nI T)
def mOfT (s : Sg) (j : Nat) (w : Int32) : Int32 := if w = 0 then s 6 j else if w = 1 then s 7 j else (-2)
theorem m_ofTable (l : Launch) (D : va_G) (ty : Nat → ClassId) (o : Nat) (ad : Nat → Nat) (σ : Sg) (v : Int32) (w : Int32) (T : Nat) (hT : T ≤ 6) (h5 : σ 5 0 = nI T) : mKi l yX1_ofTable cX1_ofTable 3 .int 1 D ty o ad σ [.int v, .int w] (fun r τ => r = (if mTab v T then mOfT σ (v).toNatClampNeg w else (-1)) ∧ τ = σ) := by
  refine Ki.of (by decide) (Nat.le_of_ble_eq_true rfl) ?_
  intro p e s m below meth c A ls args E hK hA hX hlk hr I hl
  have hx := E.1
  have hb := E.2.1
  have hl : lv_has ls 3 [(0, .ref o), (1, .int v), (2, .int w)] := hl
  refine lv_iload_n hx hb dX1_ofTable_0 rfl (lv_at hl 1 rfl) ?_
  refine lv_if_lt (tgt := 12) hx hb dX1_ofTable_1 (by decide) (fun c1 => ?_) (fun c1 => ?_)
  · refine lv_iconst (v := (-1)) hx hb dX1_ofTable_12 (by decide) ?_
    exact r_i E hlk hr I (Nat.le_refl 0) (Nat.le_refl 0) dX1_ofTable_13 (⟨by simp [mTab, c1], rfl⟩)
  · refine lv_iload_n hx hb dX1_ofTable_4 rfl (lv_at hl 1 rfl) ?_
    refine lv_aload_n hx hb dX1_ofTable_5 rfl (lv_at hl 0 rfl) ?_
    refine m_get (v := .int (nI T)) E hK I 5 rfl q1120 (congrArg Value.int (h5)) dX1_ofTable_6 ?_
    refine lv_icmp_lt (tgt := 14) hx hb dX1_ofTable_9 (by decide) (fun c9 => ?_) (fun c9 => ?_)
    · obtain ⟨j, hj, ej⟩ := tab_nat hT c1 c9
      subst ej
      refine lv_iload_n hx hb dX1_ofTable_14 rfl (lv_at hl 2 rfl) ?_
      refine lv_if_ne (tgt := 27) hx hb dX1_ofTable_15 (by decide) (fun c15 => ?_) (fun c15 => ?_)
      · refine lv_iload_n hx hb dX1_ofTable_27 rfl (lv_at hl 2 rfl) ?_
        refine lv_iconst (v := 1) hx hb dX1_ofTable_28 (by decide) ?_
        refine lv_icmp_ne (tgt := 41) hx hb dX1_ofTable_29 (by decide) (fun c29 => ?_) (fun c29 => ?_)
        · refine lv_bipush (v := (-2)) hx hb dX1_ofTable_41 (by decide) ?_
          exact r_i E hlk hr I (Nat.le_refl 0) (Nat.le_refl 0) dX1_ofTable_43 (⟨by simp only [mTab, c1, c9, decide_false, decide_true, Bool.not_false, Bool.and_self, if_true, nI_clamp (show j < 2 ^ 31 by omega)]; simp [mOfT, c15, c29], rfl⟩)
        · refine lv_aload_n hx hb dX1_ofTable_32 rfl (lv_at hl 0 rfl) ?_
          refine m_get E hK I 7 rfl q1122 rfl dX1_ofTable_33 ?_
          refine lv_iload_n hx hb dX1_ofTable_36 rfl (lv_at hl 1 rfl) ?_
          refine m_ald (i := j) E hK I 4 rfl rfl rfl dX1_ofTable_37 (by simp only [mLn]; omega) ?_
          refine lv_goto (tgt := 43) hx hb dX1_ofTable_38 (by decide) ?_
          exact r_i E hlk hr I (Nat.le_refl 0) (Nat.le_refl 0) dX1_ofTable_43 (⟨by simp only [mTab, c1, c9, decide_false, decide_true, Bool.not_false, Bool.and_self, if_true, nI_clamp (show j < 2 ^ 31 by omega)]; simp [mOfT, c15, c29], rfl⟩)
      · refine lv_aload_n hx hb dX1_ofTable_18 rfl (lv_at hl 0 rfl) ?_
        refine m_get E hK I 6 rfl q1121 rfl dX1_ofTable_19 ?_
        refine lv_iload_n hx hb dX1_ofTable_22 rfl (lv_at hl 1 rfl) ?_
        refine m_ald (i := j) E hK I 3 rfl rfl rfl dX1_ofTable_23 (by simp only [mLn]; omega) ?_
        refine lv_goto (tgt := 43) hx hb dX1_ofTable_24 (by decide) ?_
        exact r_i E hlk hr I (Nat.le_refl 0) (Nat.le_refl 0) dX1_ofTable_43 (⟨by simp only [mTab, c1, c9, decide_false, decide_true, Bool.not_false, Bool.and_self, if_true, nI_clamp (show j < 2 ^ 31 by omega)]; simp [mOfT, c15], rfl⟩)
    · refine lv_iconst (v := (-1)) hx hb dX1_ofTable_12 (by decide) ?_
      exact r_i E hlk hr I (Nat.le_refl 0) (Nat.le_refl 0) dX1_ofTable_13 (⟨by simp [mTab, c1, c9], rfl⟩)
theorem dc_m_ofTable : yX1_ofTable.cls = RX1 ∧ yX1_ofTable.cls ≠ "java/lang/invoke/MethodHandle" ∧ yX1_ofTable.cls ≠ "java/lang/invoke/VarHandle" ∧ (parseMethodDescriptor yX1_ofTable.desc).map (fun d => d.parameters.length) = some 2 := by decide +kernel
def mOkG (a b d e f g : Int32) : Bool := wi a 0 2 && wi b 1 6 && wi d 0 99 && wi e 1 60 && wi f 0 2 && wi g 0 6
def mAddG (σ : Sg) (n : Nat) (a b d e f g : Int32) : Sg := up (up (up (up (up (up (up σ 17 n a) 18 n b) 19 n d) 20 n e) 21 n f) 22 n g) 16 0 (nI (n + 1))
theorem m_group (l : Launch) (D : va_G) (ty : Nat → ClassId) (o : Nat) (ad : Nat → Nat) (σ : Sg) (a : Int32) (b : Int32) (d : Int32) (f : Int32) (g : Int32) (h : Int32) (G : Nat) (hG : G ≤ 8) (h16 : σ 16 0 = nI G) : mKi l yX1_group cX1_group 7 .int 2 D ty o ad σ [.int a, .int b, .int d, .int f, .int g, .int h] (fun r τ => r = (if mOkG a b d f g h then (if mCafe σ then (if nI G = 8 then (-4) else nI G) else (-3)) else (-2)) ∧ τ = if mOkG a b d f g h && mCafe σ && !decide (nI G = 8) then mAddG σ G a b d f g h else σ) := by
  refine Ki.of (by decide) (Nat.le_of_ble_eq_true rfl) ?_
  intro p e s m below meth c A ls args E hK hA hX hlk hr I hl
  have hx := E.1
  have hb := E.2.1
  have hl : lv_has ls 7 [(0, .ref o), (1, .int a), (2, .int b), (3, .int d), (4, .int f), (5, .int g), (6, .int h)] := hl
  refine lv_iload_n hx hb dX1_group_0 rfl (lv_at hl 1 rfl) ?_
  refine lv_iconst (v := 0) hx hb dX1_group_1 (by decide) ?_
  refine lv_iconst (v := 2) hx hb dX1_group_2 (by decide) ?_
  refine c_Si E (m_within l a 0 2) go_m_within ⟨rfl, rfl⟩ dc_m_within ⟨Nat.le_of_ble_eq_true rfl, Nat.le_of_ble_eq_true rfl⟩ ⟨Nat.le_refl 0, Nat.le_refl 0⟩ hl.1 (Nat.le_of_ble_eq_true rfl) rfl dX1_group_3 (fun r3 hp => ?_)
  refine top_i (y := bI (wi a 0 2)) hp ?_
  refine b_eq (tgt := 61) hx hb dX1_group_6 (by decide) (fun c6 => ?_) (fun c6 => ?_)
  · refine lv_bipush (v := (-2)) hx hb dX1_group_61 (by decide) ?_
    exact r_i E hlk hr I (Nat.le_refl 0) (Nat.le_refl 0) dX1_group_63 (⟨by simp [mOkG, c6], by simp [mOkG, c6]⟩)
  · refine lv_iload_n hx hb dX1_group_9 rfl (lv_at hl 2 rfl) ?_
    refine lv_iconst (v := 1) hx hb dX1_group_10 (by decide) ?_
    refine lv_bipush (v := 6) hx hb dX1_group_11 (by decide) ?_
    refine c_Si E (m_within l b 1 6) go_m_within ⟨rfl, rfl⟩ dc_m_within ⟨Nat.le_of_ble_eq_true rfl, Nat.le_of_ble_eq_true rfl⟩ ⟨Nat.le_refl 0, Nat.le_refl 0⟩ hl.1 (Nat.le_of_ble_eq_true rfl) rfl dX1_group_13 (fun r13 hp => ?_)
    refine top_i (y := bI (wi b 1 6)) hp ?_
    refine b_eq (tgt := 61) hx hb dX1_group_16 (by decide) (fun c16 => ?_) (fun c16 => ?_)
    · refine lv_bipush (v := (-2)) hx hb dX1_group_61 (by decide) ?_
      exact r_i E hlk hr I (Nat.le_refl 0) (Nat.le_refl 0) dX1_group_63 (⟨by simp [mOkG, c6, c16], by simp [mOkG, c6, c16]⟩)
    · refine lv_iload_n hx hb dX1_group_19 rfl (lv_at hl 3 rfl) ?_
      refine lv_iconst (v := 0) hx hb dX1_group_20 (by decide) ?_
      refine lv_bipush (v := 99) hx hb dX1_group_21 (by decide) ?_
      refine c_Si E (m_within l d 0 99) go_m_within ⟨rfl, rfl⟩ dc_m_within ⟨Nat.le_of_ble_eq_true rfl, Nat.le_of_ble_eq_true rfl⟩ ⟨Nat.le_refl 0, Nat.le_refl 0⟩ hl.1 (Nat.le_of_ble_eq_true rfl) rfl dX1_group_23 (fun r23 hp => ?_)
      refine top_i (y := bI (wi d 0 99)) hp ?_
      refine b_eq (tgt := 61) hx hb dX1_group_26 (by decide) (fun c26 => ?_) (fun c26 => ?_)
      · refine lv_bipush (v := (-2)) hx hb dX1_group_61 (by decide) ?_
        exact r_i E hlk hr I (Nat.le_refl 0) (Nat.le_refl 0) dX1_group_63 (⟨by simp [mOkG, c6, c16, c26], by simp [mOkG, c6, c16, c26]⟩)
      · refine lv_iload hx hb dX1_group_29 (lv_at hl 4 rfl) ?_
        refine lv_iconst (v := 1) hx hb dX1_group_31 (by decide) ?_
        refine lv_bipush (v := 60) hx hb dX1_group_32 (by decide) ?_
        refine c_Si E (m_within l f 1 60) go_m_within ⟨rfl, rfl⟩ dc_m_within ⟨Nat.le_of_ble_eq_true rfl, Nat.le_of_ble_eq_true rfl⟩ ⟨Nat.le_refl 0, Nat.le_refl 0⟩ hl.1 (Nat.le_of_ble_eq_true rfl) rfl dX1_group_34 (fun r34 hp => ?_)
        refine top_i (y := bI (wi f 1 60)) hp ?_
        refine b_eq (tgt := 61) hx hb dX1_group_37 (by decide) (fun c37 => ?_) (fun c37 => ?_)
        · refine lv_bipush (v := (-2)) hx hb dX1_group_61 (by decide) ?_
          exact r_i E hlk hr I (Nat.le_refl 0) (Nat.le_refl 0) dX1_group_63 (⟨by simp [mOkG, c6, c16, c26, c37], by simp [mOkG, c6, c16, c26, c37]⟩)
        · refine lv_iload hx hb dX1_group_40 (lv_at hl 5 rfl) ?_
          refine lv_iconst (v := 0) hx hb dX1_group_42 (by decide) ?_
          refine lv_iconst (v := 2) hx hb dX1_group_43 (by decide) ?_
          refine c_Si E (m_within l g 0 2) go_m_within ⟨rfl, rfl⟩ dc_m_within ⟨Nat.le_of_ble_eq_true rfl, Nat.le_of_ble_eq_true rfl⟩ ⟨Nat.le_refl 0, Nat.le_refl 0⟩ hl.1 (Nat.le_of_ble_eq_true rfl) rfl dX1_group_44 (fun r44 hp => ?_)
          refine top_i (y := bI (wi g 0 2)) hp ?_
          refine b_eq (tgt := 61) hx hb dX1_group_47 (by decide) (fun c47 => ?_) (fun c47 => ?_)
          · refine lv_bipush (v := (-2)) hx hb dX1_group_61 (by decide) ?_
            exact r_i E hlk hr I (Nat.le_refl 0) (Nat.le_refl 0) dX1_group_63 (⟨by simp [mOkG, c6, c16, c26, c37, c47], by simp [mOkG, c6, c16, c26, c37, c47]⟩)
          · refine lv_iload hx hb dX1_group_50 (lv_at hl 6 rfl) ?_
            refine lv_iconst (v := 0) hx hb dX1_group_52 (by decide) ?_
            refine lv_bipush (v := 6) hx hb dX1_group_53 (by decide) ?_
            refine c_Si E (m_within l h 0 6) go_m_within ⟨rfl, rfl⟩ dc_m_within ⟨Nat.le_of_ble_eq_true rfl, Nat.le_of_ble_eq_true rfl⟩ ⟨Nat.le_refl 0, Nat.le_refl 0⟩ hl.1 (Nat.le_of_ble_eq_true rfl) rfl dX1_group_55 (fun r55 hp => ?_)
            refine top_i (y := bI (wi h 0 6)) hp ?_
            refine b_ne (tgt := 64) hx hb dX1_group_58 (by decide) (fun c58 => ?_) (fun c58 => ?_)
            · refine lv_aload_n hx hb dX1_group_64 rfl (lv_at hl 0 rfl) ?_
              refine m_ci E hK hA I (m_isCafe l D ty o ad σ) go_m_isCafe dc_m_isCafe ⟨Nat.le_of_ble_eq_true rfl, Nat.le_of_ble_eq_true rfl⟩ ⟨Nat.le_refl 0, Nat.le_refl 0⟩ hl.1 (Nat.le_of_ble_eq_true rfl) rfl dX1_group_65 (fun r65 σ65 H locs hp I => ?_)
              refine top_i (y := bI (mCafe σ)) hp.1 ?_
              have I := m_as I hp.2
              refine b_ne (tgt := 74) hx hb dX1_group_68 (by decide) (fun c68 => ?_) (fun c68 => ?_)
              · refine lv_aload_n hx hb dX1_group_74 rfl (lv_at hl 0 rfl) ?_
                refine m_get (v := .int (nI G)) E hK I 16 rfl q1131 (congrArg Value.int (h16)) dX1_group_75 ?_
                refine lv_bipush (v := 8) hx hb dX1_group_78 (by decide) ?_
                refine lv_icmp_ne (tgt := 86) hx hb dX1_group_80 (by decide) (fun c80 => ?_) (fun c80 => ?_)
                · have hG8 : G < 8 := by rcases Nat.lt_or_eq_of_le hG with h | h; exact h; exact absurd (by rw [h]; decide) c80
                  refine lv_aload_n hx hb dX1_group_86 rfl (lv_at hl 0 rfl) ?_
                  refine m_get E hK I 17 rfl q1132 rfl dX1_group_87 ?_
                  refine lv_aload_n hx hb dX1_group_90 rfl (lv_at hl 0 rfl) ?_
                  refine m_get (v := .int (nI G)) E hK I 16 rfl q1131 (congrArg Value.int (h16)) dX1_group_91 ?_
                  refine lv_iload_n hx hb dX1_group_94 rfl (lv_at hl 1 rfl) ?_
                  refine m_ast (i := G) E hK I 7 rfl rfl rfl dX1_group_95 (by simp only [mLn]; omega) (fun H locs I => ?_)
                  refine lv_aload_n hx hb dX1_group_96 rfl (lv_at hl 0 rfl) ?_
                  refine m_get E hK I 18 rfl q1133 rfl dX1_group_97 ?_
                  refine lv_aload_n hx hb dX1_group_100 rfl (lv_at hl 0 rfl) ?_
                  refine m_get (v := .int (nI G)) E hK I 16 rfl q1131 (congrArg Value.int (by simp [up, h16])) dX1_group_101 ?_
                  refine lv_iload_n hx hb dX1_group_104 rfl (lv_at hl 2 rfl) ?_
                  refine m_ast (i := G) E hK I 8 rfl rfl rfl dX1_group_105 (by simp only [mLn]; omega) (fun H locs I => ?_)
                  refine lv_aload_n hx hb dX1_group_106 rfl (lv_at hl 0 rfl) ?_
                  refine m_get E hK I 19 rfl q1134 rfl dX1_group_107 ?_
                  refine lv_aload_n hx hb dX1_group_110 rfl (lv_at hl 0 rfl) ?_
                  refine m_get (v := .int (nI G)) E hK I 16 rfl q1131 (congrArg Value.int (by simp [up, h16])) dX1_group_111 ?_
                  refine lv_iload_n hx hb dX1_group_114 rfl (lv_at hl 3 rfl) ?_
                  refine m_ast (i := G) E hK I 9 rfl rfl rfl dX1_group_115 (by simp only [mLn]; omega) (fun H locs I => ?_)
                  refine lv_aload_n hx hb dX1_group_116 rfl (lv_at hl 0 rfl) ?_
                  refine m_get E hK I 20 rfl q1135 rfl dX1_group_117 ?_
                  refine lv_aload_n hx hb dX1_group_120 rfl (lv_at hl 0 rfl) ?_
                  refine m_get (v := .int (nI G)) E hK I 16 rfl q1131 (congrArg Value.int (by simp [up, h16])) dX1_group_121 ?_
                  refine lv_iload hx hb dX1_group_124 (lv_at hl 4 rfl) ?_
                  refine m_ast (i := G) E hK I 10 rfl rfl rfl dX1_group_126 (by simp only [mLn]; omega) (fun H locs I => ?_)
                  refine lv_aload_n hx hb dX1_group_127 rfl (lv_at hl 0 rfl) ?_
                  refine m_get E hK I 21 rfl q1136 rfl dX1_group_128 ?_
                  refine lv_aload_n hx hb dX1_group_131 rfl (lv_at hl 0 rfl) ?_
                  refine m_get (v := .int (nI G)) E hK I 16 rfl q1131 (congrArg Value.int (by simp [up, h16])) dX1_group_132 ?_
                  refine lv_iload hx hb dX1_group_135 (lv_at hl 5 rfl) ?_
                  refine m_ast (i := G) E hK I 11 rfl rfl rfl dX1_group_137 (by simp only [mLn]; omega) (fun H locs I => ?_)
                  refine lv_aload_n hx hb dX1_group_138 rfl (lv_at hl 0 rfl) ?_
                  refine m_get E hK I 22 rfl q1137 rfl dX1_group_139 ?_
                  refine lv_aload_n hx hb dX1_group_142 rfl (lv_at hl 0 rfl) ?_
                  refine m_get (v := .int (nI G)) E hK I 16 rfl q1131 (congrArg Value.int (by simp [up, h16])) dX1_group_143 ?_
                  refine lv_iload hx hb dX1_group_146 (lv_at hl 6 rfl) ?_
                  refine m_ast (i := G) E hK I 12 rfl rfl rfl dX1_group_148 (by simp only [mLn]; omega) (fun H locs I => ?_)
                  refine lv_aload_n hx hb dX1_group_149 rfl (lv_at hl 0 rfl) ?_
                  refine lv_dup hx hb dX1_group_150 rfl ?_
                  refine m_get (v := .int (nI G)) E hK I 16 rfl q1131 (congrArg Value.int (by simp [up, h16])) dX1_group_151 ?_
                  refine lv_iconst (v := 1) hx hb dX1_group_154 (by decide) ?_
                  refine lv_iadd hx hb dX1_group_155 ?_
                  refine top_i (y := nI (G + 1)) (nI_1 _) ?_
                  refine m_put E hK I 16 rfl rfl q1131 rfl rfl rfl dX1_group_156 (fun H locs I => ?_)
                  refine lv_aload_n hx hb dX1_group_159 rfl (lv_at hl 0 rfl) ?_
                  refine m_get (v := .int (nI (G + 1))) E hK I 16 rfl q1131 (congrArg Value.int (up_s _ _ _ _)) dX1_group_160 ?_
                  refine lv_iconst (v := 1) hx hb dX1_group_163 (by decide) ?_
                  refine lv_isub hx hb dX1_group_164 ?_
                  refine top_i (y := nI G) (nI_m1 _) ?_
                  exact r_i E hlk hr I (Nat.le_refl 0) (Nat.le_refl 0) dX1_group_165 (⟨by simp [mOkG, c6, c16, c26, c37, c47, c58, c68, c80], by simp [mOkG, mAddG, c6, c16, c26, c37, c47, c58, c68, c80]⟩)
                · refine lv_bipush (v := (-4)) hx hb dX1_group_83 (by decide) ?_
                  exact r_i E hlk hr I (Nat.le_refl 0) (Nat.le_refl 0) dX1_group_85 (⟨by simp [mOkG, c6, c16, c26, c37, c47, c58, c68, c80], by simp [mOkG, c6, c16, c26, c37, c47, c58, c68, c80]⟩)
              · refine lv_bipush (v := (-3)) hx hb dX1_group_71 (by decide) ?_
                exact r_i E hlk hr I (Nat.le_refl 0) (Nat.le_refl 0) dX1_group_73 (⟨by simp [mOkG, c6, c16, c26, c37, c47, c58, c68], by simp [mOkG, c6, c16, c26, c37, c47, c58, c68]⟩)
            · refine lv_bipush (v := (-2)) hx hb dX1_group_61 (by decide) ?_
              exact r_i E hlk hr I (Nat.le_refl 0) (Nat.le_refl 0) dX1_group_63 (⟨by simp [mOkG, c6, c16, c26, c37, c47, c58], by simp [mOkG, c6, c16, c26, c37, c47, c58]⟩)
theorem dc_m_group : yX1_group.cls = RX1 ∧ yX1_group.cls ≠ "java/lang/invoke/MethodHandle" ∧ yX1_group.cls ≠ "java/lang/invoke/VarHandle" ∧ (parseMethodDescriptor yX1_group.desc).map (fun d => d.parameters.length) = some 6 := by decide +kernel
def mOfG (s : Sg) (j : Nat) (w : Int32) : Int32 := if w = 0 then s 17 j else if w = 1 then s 18 j else if w = 2 then s 19 j else if w = 3 then s 20 j else if w = 4 then s 21 j else if w = 5 then s 22 j else if w = 6 then mStay s j else (-2)
theorem m_ofGroup (l : Launch) (D : va_G) (ty : Nat → ClassId) (o : Nat) (ad : Nat → Nat) (σ : Sg) (g : Int32) (w : Int32) (G : Nat) (hG : G ≤ 8) (h16 : σ 16 0 = nI G) : mKi l yX1_ofGroup cX1_ofGroup 3 .int 2 D ty o ad σ [.int g, .int w] (fun r τ => r = (if mGrp σ g then mOfG σ (g).toNatClampNeg w else (-1)) ∧ τ = σ) := by
  refine Ki.of (by decide) (Nat.le_of_ble_eq_true rfl) ?_
  intro p e s m below meth c A ls args E hK hA hX hlk hr I hl
  have hx := E.1
  have hb := E.2.1
  have hl : lv_has ls 3 [(0, .ref o), (1, .int g), (2, .int w)] := hl
  refine lv_aload_n hx hb dX1_ofGroup_0 rfl (lv_at hl 0 rfl) ?_
  refine lv_iload_n hx hb dX1_ofGroup_1 rfl (lv_at hl 1 rfl) ?_
  refine m_ci E hK hA I (m_isGroup l D ty o ad σ g) go_m_isGroup dc_m_isGroup ⟨Nat.le_of_ble_eq_true rfl, Nat.le_of_ble_eq_true rfl⟩ ⟨Nat.le_refl 0, Nat.le_refl 0⟩ hl.1 (Nat.le_of_ble_eq_true rfl) rfl dX1_ofGroup_2 (fun r2 σ2 H locs hp I => ?_)
  refine top_i (y := bI (mGrp σ g)) hp.1 ?_
  have I := m_as I hp.2
  refine b_ne (tgt := 10) hx hb dX1_ofGroup_5 (by decide) (fun c5 => ?_) (fun c5 => ?_)
  · obtain ⟨j, hj, ej⟩ := mGrp_nat hG h16 c5
    subst ej
    refine lv_iload_n hx hb dX1_ofGroup_10 rfl (lv_at hl 2 rfl) ?_
    by_cases c11_0 : w = 0
    · refine top_i (y := 0) c11_0 ?_
      refine lv_tableIn (tgt := 52) hx hb dX1_ofGroup_11 (by decide) (by decide) rfl (by decide) ?_
      refine lv_aload_n hx hb dX1_ofGroup_52 rfl (lv_at hl 0 rfl) ?_
      refine m_get E hK I 17 rfl q1132 rfl dX1_ofGroup_53 ?_
      refine lv_iload_n hx hb dX1_ofGroup_56 rfl (lv_at hl 1 rfl) ?_
      refine m_ald (i := j) E hK I 7 rfl rfl rfl dX1_ofGroup_57 (by simp only [mLn]; omega) ?_
      exact r_i E hlk hr I (Nat.le_refl 0) (Nat.le_refl 0) dX1_ofGroup_58 (⟨by simp only [c5, if_true, nI_clamp (show j < 2 ^ 31 by omega)]; simp [mOfG, c11_0], rfl⟩)
    by_cases c11_1 : w = 1
    · refine top_i (y := 1) c11_1 ?_
      refine lv_tableIn (tgt := 59) hx hb dX1_ofGroup_11 (by decide) (by decide) rfl (by decide) ?_
      refine lv_aload_n hx hb dX1_ofGroup_59 rfl (lv_at hl 0 rfl) ?_
      refine m_get E hK I 18 rfl q1133 rfl dX1_ofGroup_60 ?_
      refine lv_iload_n hx hb dX1_ofGroup_63 rfl (lv_at hl 1 rfl) ?_
      refine m_ald (i := j) E hK I 8 rfl rfl rfl dX1_ofGroup_64 (by simp only [mLn]; omega) ?_
      exact r_i E hlk hr I (Nat.le_refl 0) (Nat.le_refl 0) dX1_ofGroup_65 (⟨by simp only [c5, if_true, nI_clamp (show j < 2 ^ 31 by omega)]; simp [mOfG, c11_1], rfl⟩)
    by_cases c11_2 : w = 2
    · refine top_i (y := 2) c11_2 ?_
      refine lv_tableIn (tgt := 66) hx hb dX1_ofGroup_11 (by decide) (by decide) rfl (by decide) ?_
      refine lv_aload_n hx hb dX1_ofGroup_66 rfl (lv_at hl 0 rfl) ?_
      refine m_get E hK I 19 rfl q1134 rfl dX1_ofGroup_67 ?_
      refine lv_iload_n hx hb dX1_ofGroup_70 rfl (lv_at hl 1 rfl) ?_
      refine m_ald (i := j) E hK I 9 rfl rfl rfl dX1_ofGroup_71 (by simp only [mLn]; omega) ?_
      exact r_i E hlk hr I (Nat.le_refl 0) (Nat.le_refl 0) dX1_ofGroup_72 (⟨by simp only [c5, if_true, nI_clamp (show j < 2 ^ 31 by omega)]; simp [mOfG, c11_2], rfl⟩)
    by_cases c11_3 : w = 3
    · refine top_i (y := 3) c11_3 ?_
      refine lv_tableIn (tgt := 73) hx hb dX1_ofGroup_11 (by decide) (by decide) rfl (by decide) ?_
      refine lv_aload_n hx hb dX1_ofGroup_73 rfl (lv_at hl 0 rfl) ?_
      refine m_get E hK I 20 rfl q1135 rfl dX1_ofGroup_74 ?_
      refine lv_iload_n hx hb dX1_ofGroup_77 rfl (lv_at hl 1 rfl) ?_
      refine m_ald (i := j) E hK I 10 rfl rfl rfl dX1_ofGroup_78 (by simp only [mLn]; omega) ?_
      exact r_i E hlk hr I (Nat.le_refl 0) (Nat.le_refl 0) dX1_ofGroup_79 (⟨by simp only [c5, if_true, nI_clamp (show j < 2 ^ 31 by omega)]; simp [mOfG, c11_3], rfl⟩)
    by_cases c11_4 : w = 4
    · refine top_i (y := 4) c11_4 ?_
      refine lv_tableIn (tgt := 80) hx hb dX1_ofGroup_11 (by decide) (by decide) rfl (by decide) ?_
      refine lv_aload_n hx hb dX1_ofGroup_80 rfl (lv_at hl 0 rfl) ?_
      refine m_get E hK I 21 rfl q1136 rfl dX1_ofGroup_81 ?_
      refine lv_iload_n hx hb dX1_ofGroup_84 rfl (lv_at hl 1 rfl) ?_
      refine m_ald (i := j) E hK I 11 rfl rfl rfl dX1_ofGroup_85 (by simp only [mLn]; omega) ?_
      exact r_i E hlk hr I (Nat.le_refl 0) (Nat.le_refl 0) dX1_ofGroup_86 (⟨by simp only [c5, if_true, nI_clamp (show j < 2 ^ 31 by omega)]; simp [mOfG, c11_4], rfl⟩)
    by_cases c11_5 : w = 5
    · refine top_i (y := 5) c11_5 ?_
      refine lv_tableIn (tgt := 87) hx hb dX1_ofGroup_11 (by decide) (by decide) rfl (by decide) ?_
      refine lv_aload_n hx hb dX1_ofGroup_87 rfl (lv_at hl 0 rfl) ?_
      refine m_get E hK I 22 rfl q1137 rfl dX1_ofGroup_88 ?_
      refine lv_iload_n hx hb dX1_ofGroup_91 rfl (lv_at hl 1 rfl) ?_
      refine m_ald (i := j) E hK I 12 rfl rfl rfl dX1_ofGroup_92 (by simp only [mLn]; omega) ?_
      exact r_i E hlk hr I (Nat.le_refl 0) (Nat.le_refl 0) dX1_ofGroup_93 (⟨by simp only [c5, if_true, nI_clamp (show j < 2 ^ 31 by omega)]; simp [mOfG, c11_5], rfl⟩)
    by_cases c11_6 : w = 6
    · refine top_i (y := 6) c11_6 ?_
      refine lv_tableIn (tgt := 94) hx hb dX1_ofGroup_11 (by decide) (by decide) rfl (by decide) ?_
      refine lv_aload_n hx hb dX1_ofGroup_94 rfl (lv_at hl 0 rfl) ?_
      refine lv_iload_n hx hb dX1_ofGroup_95 rfl (lv_at hl 1 rfl) ?_
      refine m_ci E hK hA I (m_stays l D ty o ad σ j (by omega)) go_m_stays dc_m_stays ⟨Nat.le_of_ble_eq_true rfl, Nat.le_of_ble_eq_true rfl⟩ ⟨Nat.le_refl 0, Nat.le_refl 0⟩ hl.1 (Nat.le_of_ble_eq_true rfl) rfl dX1_ofGroup_96 (fun r96 σ96 H locs hp I => ?_)
      refine top_i (y := mStay σ j) hp.1 ?_
      have I := m_as I hp.2
      exact r_i E hlk hr I (Nat.le_refl 0) (Nat.le_refl 0) dX1_ofGroup_99 (⟨by simp only [c5, if_true, nI_clamp (show j < 2 ^ 31 by omega)]; simp [mOfG, c11_6], rfl⟩)
    refine lv_tableOut (tgt := 100) hx hb dX1_ofGroup_11 (by have := lv_neT c11_0 (a := 0) rfl; have := lv_neT c11_1 (a := 1) rfl; have := lv_neT c11_2 (a := 2) rfl; have := lv_neT c11_3 (a := 3) rfl; have := lv_neT c11_4 (a := 4) rfl; have := lv_neT c11_5 (a := 5) rfl; have := lv_neT c11_6 (a := 6) rfl; omega) (by decide) ?_
    refine lv_bipush (v := (-2)) hx hb dX1_ofGroup_100 (by decide) ?_
    exact r_i E hlk hr I (Nat.le_refl 0) (Nat.le_refl 0) dX1_ofGroup_102 (⟨by simp only [c5, if_true, nI_clamp (show j < 2 ^ 31 by omega)]; simp [mOfG, c11_0, c11_1, c11_2, c11_3, c11_4, c11_5, c11_6], rfl⟩)
  · refine lv_iconst (v := (-1)) hx hb dX1_ofGroup_8 (by decide) ?_
    exact r_i E hlk hr I (Nat.le_refl 0) (Nat.le_refl 0) dX1_ofGroup_9 (⟨by simp [c5], rfl⟩)
theorem dc_m_ofGroup : yX1_ofGroup.cls = RX1 ∧ yX1_ofGroup.cls ≠ "java/lang/invoke/MethodHandle" ∧ yX1_ofGroup.cls ≠ "java/lang/invoke/VarHandle" ∧ (parseMethodDescriptor yX1_ofGroup.desc).map (fun d => d.parameters.length) = some 2 := by decide +kernel
def mBeg (σ : Sg) (x : Int32) : Sg := up σ 1 0 (31 * σ 1 0 + x)
theorem m_begins (l : Launch) (D : va_G) (ty : Nat → ClassId) (o : Nat) (ad : Nat → Nat) (σ : Sg) (x : Int32) : mKv l yX1_begins cX1_begins 2 1 D ty o ad σ [.int x] (fun τ => τ = mBeg σ x) := by
  refine Kv.of (by decide) (Nat.le_of_ble_eq_true rfl) ?_
  intro p e s m below meth c A ls args E hK hA hX hlk hr hnm I hl
  have hx := E.1
  have hb := E.2.1
  have hl : lv_has ls 2 [(0, .ref o), (1, .int x)] := hl
  refine lv_aload_n hx hb dX1_begins_0 rfl (lv_at hl 0 rfl) ?_
  refine lv_bipush (v := 31) hx hb dX1_begins_1 (by decide) ?_
  refine lv_aload_n hx hb dX1_begins_3 rfl (lv_at hl 0 rfl) ?_
  refine m_get E hK I 1 rfl q1116 rfl dX1_begins_4 ?_
  refine lv_imul hx hb dX1_begins_7 ?_
  refine lv_iload_n hx hb dX1_begins_8 rfl (lv_at hl 1 rfl) ?_
  refine lv_iadd hx hb dX1_begins_9 ?_
  refine m_put E hK I 1 rfl rfl q1116 rfl rfl rfl dX1_begins_10 (fun H locs I => ?_)
  exact r_v E hlk hr I (Nat.le_refl 0) (Nat.le_refl 0) dX1_begins_13 (rfl)
theorem dc_m_begins : yX1_begins.cls = RX1 ∧ yX1_begins.cls ≠ "java/lang/invoke/MethodHandle" ∧ yX1_begins.cls ≠ "java/lang/invoke/VarHandle" ∧ (parseMethodDescriptor yX1_begins.desc).map (fun d => d.parameters.length) = some 1 := by decide +kernel
theorem go_m_begins : GoodIn lw_all (wsV RX1 291 RX1 yX1_begins (ws_ yX1_begins cX1_begins 2 none)) := lw_V q1512 q1514 qs69 q75 q1515
def mTellR (s : Sg) (j : Nat) : Int32 := if s 17 j = 1 then s 18 j + 100 else if s 17 j = 2 then 2 * s 18 j + 100 else s 18 j
def mTellS (s : Sg) (j : Nat) : Sg := if s 17 j = 1 then mBeg (mBeg s 2) 1 else if s 17 j = 2 then mBeg (mBeg (mBeg (mBeg s 3) 2) 1) 1 else mBeg s 1
theorem m_tell (l : Launch) (D : va_G) (ty : Nat → ClassId) (o : Nat) (ad : Nat → Nat) (σ : Sg) (g : Int32) (G : Nat) (hG : G ≤ 8) (h16 : σ 16 0 = nI G) : mKi l yX1_tell cX1_tell 3 .int 2 D ty o ad σ [.int g] (fun r τ => r = (if mGrp σ g then mTellR σ (g).toNatClampNeg else (-1)) ∧ τ = if mGrp σ g then mTellS σ (g).toNatClampNeg else σ) := by
  refine Ki.of (by decide) (Nat.le_of_ble_eq_true rfl) ?_
  intro p e s m below meth c A ls args E hK hA hX hlk hr I hl
  have hx := E.1
  have hb := E.2.1
  have hl : lv_has ls 3 [(0, .ref o), (1, .int g)] := hl
  refine lv_aload_n hx hb dX1_tell_0 rfl (lv_at hl 0 rfl) ?_
  refine lv_iload_n hx hb dX1_tell_1 rfl (lv_at hl 1 rfl) ?_
  refine m_ci E hK hA I (m_isGroup l D ty o ad σ g) go_m_isGroup dc_m_isGroup ⟨Nat.le_of_ble_eq_true rfl, Nat.le_of_ble_eq_true rfl⟩ ⟨Nat.le_refl 0, Nat.le_refl 0⟩ hl.1 (Nat.le_of_ble_eq_true rfl) rfl dX1_tell_2 (fun r2 σ2 H locs hp I => ?_)
  refine top_i (y := bI (mGrp σ g)) hp.1 ?_
  have I := m_as I hp.2
  refine b_ne (tgt := 10) hx hb dX1_tell_5 (by decide) (fun c5 => ?_) (fun c5 => ?_)
  · obtain ⟨j, hj, ej⟩ := mGrp_nat hG h16 c5
    subst ej
    refine lv_aload_n hx hb dX1_tell_10 rfl (lv_at hl 0 rfl) ?_
    refine m_get E hK I 18 rfl q1133 rfl dX1_tell_11 ?_
    refine lv_iload_n hx hb dX1_tell_14 rfl (lv_at hl 1 rfl) ?_
    refine m_ald (i := j) E hK I 8 rfl rfl rfl dX1_tell_15 (by simp only [mLn]; omega) ?_
    refine lv_istore_n (lv' := [(2, .int (σ 18 j)), (0, .ref o), (1, .int (nI j))]) hx hb dX1_tell_16 rfl hl (by decide) rfl (fun ls hl => ?_)
    refine lv_aload_n hx hb dX1_tell_17 rfl (lv_at hl 1 rfl) ?_
    refine m_get E hK I 17 rfl q1132 rfl dX1_tell_18 ?_
    refine lv_iload_n hx hb dX1_tell_21 rfl (lv_at hl 2 rfl) ?_
    refine m_ald (i := j) E hK I 7 rfl rfl rfl dX1_tell_22 (by simp only [mLn]; omega) ?_
    by_cases c23_1 : σ 17 j = 1
    · refine top_i (y := 1) c23_1 ?_
      refine lv_lookup (off := 25) (tgt := 48) hx hb dX1_tell_23 (by decide) (by decide) (by decide) ?_
      refine lv_aload_n hx hb dX1_tell_48 rfl (lv_at hl 1 rfl) ?_
      refine lv_iconst (v := 2) hx hb dX1_tell_49 (by decide) ?_
      refine m_cv E hK hA I (m_begins l D ty o ad σ 2) go_m_begins dc_m_begins ⟨Nat.le_of_ble_eq_true rfl, Nat.le_of_ble_eq_true rfl⟩ ⟨Nat.le_refl 0, Nat.le_refl 0⟩ hl.1 (Nat.le_of_ble_eq_true rfl) rfl dX1_tell_50 (fun σ50 H locs hp I => ?_)
      have I := m_as I hp
      refine lv_aload_n hx hb dX1_tell_53 rfl (lv_at hl 1 rfl) ?_
      refine lv_iconst (v := 1) hx hb dX1_tell_54 (by decide) ?_
      refine m_cv E hK hA I (m_begins l D ty o ad (mBeg σ 2) 1) go_m_begins dc_m_begins ⟨Nat.le_of_ble_eq_true rfl, Nat.le_of_ble_eq_true rfl⟩ ⟨Nat.le_refl 0, Nat.le_refl 0⟩ hl.1 (Nat.le_of_ble_eq_true rfl) rfl dX1_tell_55 (fun σ55 H locs hp I => ?_)
      have I := m_as I hp
      refine lv_iload_n hx hb dX1_tell_58 rfl (lv_at hl 0 rfl) ?_
      refine lv_bipush (v := 100) hx hb dX1_tell_59 (by decide) ?_
      refine lv_iadd hx hb dX1_tell_61 ?_
      exact r_i E hlk hr I (Nat.le_refl 0) (Nat.le_refl 0) dX1_tell_62 (⟨by simp only [c5, if_true, nI_clamp (show j < 2 ^ 31 by omega)]; simp [mTellR, c23_1], by simp only [c5, if_true, nI_clamp (show j < 2 ^ 31 by omega)]; simp [mTellS, c23_1]⟩)
    by_cases c23_2 : σ 17 j = 2
    · refine top_i (y := 2) c23_2 ?_
      refine lv_lookup (off := 40) (tgt := 63) hx hb dX1_tell_23 (by decide) (by decide) (by decide) ?_
      refine lv_aload_n hx hb dX1_tell_63 rfl (lv_at hl 1 rfl) ?_
      refine lv_iconst (v := 3) hx hb dX1_tell_64 (by decide) ?_
      refine m_cv E hK hA I (m_begins l D ty o ad σ 3) go_m_begins dc_m_begins ⟨Nat.le_of_ble_eq_true rfl, Nat.le_of_ble_eq_true rfl⟩ ⟨Nat.le_refl 0, Nat.le_refl 0⟩ hl.1 (Nat.le_of_ble_eq_true rfl) rfl dX1_tell_65 (fun σ65 H locs hp I => ?_)
      have I := m_as I hp
      refine lv_aload_n hx hb dX1_tell_68 rfl (lv_at hl 1 rfl) ?_
      refine lv_iconst (v := 2) hx hb dX1_tell_69 (by decide) ?_
      refine m_cv E hK hA I (m_begins l D ty o ad (mBeg σ 3) 2) go_m_begins dc_m_begins ⟨Nat.le_of_ble_eq_true rfl, Nat.le_of_ble_eq_true rfl⟩ ⟨Nat.le_refl 0, Nat.le_refl 0⟩ hl.1 (Nat.le_of_ble_eq_true rfl) rfl dX1_tell_70 (fun σ70 H locs hp I => ?_)
      have I := m_as I hp
      refine lv_aload_n hx hb dX1_tell_73 rfl (lv_at hl 1 rfl) ?_
      refine lv_iconst (v := 1) hx hb dX1_tell_74 (by decide) ?_
      refine m_cv E hK hA I (m_begins l D ty o ad (mBeg (mBeg σ 3) 2) 1) go_m_begins dc_m_begins ⟨Nat.le_of_ble_eq_true rfl, Nat.le_of_ble_eq_true rfl⟩ ⟨Nat.le_refl 0, Nat.le_refl 0⟩ hl.1 (Nat.le_of_ble_eq_true rfl) rfl dX1_tell_75 (fun σ75 H locs hp I => ?_)
      have I := m_as I hp
      refine lv_aload_n hx hb dX1_tell_78 rfl (lv_at hl 1 rfl) ?_
      refine lv_iconst (v := 1) hx hb dX1_tell_79 (by decide) ?_
      refine m_cv E hK hA I (m_begins l D ty o ad (mBeg (mBeg (mBeg σ 3) 2) 1) 1) go_m_begins dc_m_begins ⟨Nat.le_of_ble_eq_true rfl, Nat.le_of_ble_eq_true rfl⟩ ⟨Nat.le_refl 0, Nat.le_refl 0⟩ hl.1 (Nat.le_of_ble_eq_true rfl) rfl dX1_tell_80 (fun σ80 H locs hp I => ?_)
      have I := m_as I hp
      refine lv_iconst (v := 2) hx hb dX1_tell_83 (by decide) ?_
      refine lv_iload_n hx hb dX1_tell_84 rfl (lv_at hl 0 rfl) ?_
      refine lv_imul hx hb dX1_tell_85 ?_
      refine lv_bipush (v := 100) hx hb dX1_tell_86 (by decide) ?_
      refine lv_iadd hx hb dX1_tell_88 ?_
      exact r_i E hlk hr I (Nat.le_refl 0) (Nat.le_refl 0) dX1_tell_89 (⟨by simp only [c5, if_true, nI_clamp (show j < 2 ^ 31 by omega)]; simp [mTellR, c23_2], by simp only [c5, if_true, nI_clamp (show j < 2 ^ 31 by omega)]; simp [mTellS, c23_2]⟩)
    refine lv_lookup (off := 67) (tgt := 90) hx hb dX1_tell_23 (by decide) ((lv_osw c23_1 rfl).trans ((lv_osw c23_2 rfl).trans (rfl))) (by decide) ?_
    refine lv_aload_n hx hb dX1_tell_90 rfl (lv_at hl 1 rfl) ?_
    refine lv_iconst (v := 1) hx hb dX1_tell_91 (by decide) ?_
    refine m_cv E hK hA I (m_begins l D ty o ad σ 1) go_m_begins dc_m_begins ⟨Nat.le_of_ble_eq_true rfl, Nat.le_of_ble_eq_true rfl⟩ ⟨Nat.le_refl 0, Nat.le_refl 0⟩ hl.1 (Nat.le_of_ble_eq_true rfl) rfl dX1_tell_92 (fun σ92 H locs hp I => ?_)
    have I := m_as I hp
    refine lv_iload_n hx hb dX1_tell_95 rfl (lv_at hl 0 rfl) ?_
    exact r_i E hlk hr I (Nat.le_refl 0) (Nat.le_refl 0) dX1_tell_96 (⟨by simp only [c5, if_true, nI_clamp (show j < 2 ^ 31 by omega)]; simp [mTellR, c23_1, c23_2], by simp only [c5, if_true, nI_clamp (show j < 2 ^ 31 by omega)]; simp [mTellS, c23_1, c23_2]⟩)
  · refine lv_iconst (v := (-1)) hx hb dX1_tell_8 (by decide) ?_
    exact r_i E hlk hr I (Nat.le_refl 0) (Nat.le_refl 0) dX1_tell_9 (⟨by simp [c5], by simp [c5]⟩)
theorem dc_m_tell : yX1_tell.cls = RX1 ∧ yX1_tell.cls ≠ "java/lang/invoke/MethodHandle" ∧ yX1_tell.cls ≠ "java/lang/invoke/VarHandle" ∧ (parseMethodDescriptor yX1_tell.desc).map (fun d => d.parameters.length) = some 1 := by decide +kernel
theorem m_serve (l : Launch) (D : va_G) (ty : Nat → ClassId) (o : Nat) (ad : Nat → Nat) (σ : Sg) (g : Int32) (G : Nat) (hG : G ≤ 8) (h16 : σ 16 0 = nI G) : mKi l yX1_serve cX1_serve 2 .int 2 D ty o ad σ [.int g] (fun r τ => r = (if mGrp σ g then (if σ 17 (g).toNatClampNeg = 2 then 50 else g) else (-1)) ∧ τ = if mGrp σ g then mBeg σ (if σ 17 (g).toNatClampNeg = 2 then 5 else 4) else σ) := by
  refine Ki.of (by decide) (Nat.le_of_ble_eq_true rfl) ?_
  intro p e s m below meth c A ls args E hK hA hX hlk hr I hl
  have hx := E.1
  have hb := E.2.1
  have hl : lv_has ls 2 [(0, .ref o), (1, .int g)] := hl
  refine lv_aload_n hx hb dX1_serve_0 rfl (lv_at hl 0 rfl) ?_
  refine lv_iload_n hx hb dX1_serve_1 rfl (lv_at hl 1 rfl) ?_
  refine m_ci E hK hA I (m_isGroup l D ty o ad σ g) go_m_isGroup dc_m_isGroup ⟨Nat.le_of_ble_eq_true rfl, Nat.le_of_ble_eq_true rfl⟩ ⟨Nat.le_refl 0, Nat.le_refl 0⟩ hl.1 (Nat.le_of_ble_eq_true rfl) rfl dX1_serve_2 (fun r2 σ2 H locs hp I => ?_)
  refine top_i (y := bI (mGrp σ g)) hp.1 ?_
  have I := m_as I hp.2
  refine b_ne (tgt := 10) hx hb dX1_serve_5 (by decide) (fun c5 => ?_) (fun c5 => ?_)
  · obtain ⟨j, hj, ej⟩ := mGrp_nat hG h16 c5
    subst ej
    refine lv_aload_n hx hb dX1_serve_10 rfl (lv_at hl 0 rfl) ?_
    refine lv_aload_n hx hb dX1_serve_11 rfl (lv_at hl 0 rfl) ?_
    refine m_get E hK I 17 rfl q1132 rfl dX1_serve_12 ?_
    refine lv_iload_n hx hb dX1_serve_15 rfl (lv_at hl 1 rfl) ?_
    refine m_ald (i := j) E hK I 7 rfl rfl rfl dX1_serve_16 (by simp only [mLn]; omega) ?_
    refine lv_iconst (v := 2) hx hb dX1_serve_17 (by decide) ?_
    refine lv_icmp_ne (tgt := 25) hx hb dX1_serve_18 (by decide) (fun c18 => ?_) (fun c18 => ?_)
    · refine lv_iconst (v := 4) hx hb dX1_serve_25 (by decide) ?_
      refine m_cv E hK hA I (m_begins l D ty o ad σ 4) go_m_begins dc_m_begins ⟨Nat.le_of_ble_eq_true rfl, Nat.le_of_ble_eq_true rfl⟩ ⟨Nat.le_refl 0, Nat.le_refl 0⟩ hl.1 (Nat.le_of_ble_eq_true rfl) rfl dX1_serve_26 (fun σ26 H locs hp I => ?_)
      have I := m_as I hp
      refine lv_aload_n hx hb dX1_serve_29 rfl (lv_at hl 0 rfl) ?_
      refine m_get E hK I 17 rfl q1132 rfl dX1_serve_30 ?_
      refine lv_iload_n hx hb dX1_serve_33 rfl (lv_at hl 1 rfl) ?_
      refine m_ald (i := j) E hK I 7 rfl rfl rfl dX1_serve_34 (by simp only [mLn]; omega) ?_
      refine lv_iconst (v := 2) hx hb dX1_serve_35 (by decide) ?_
      refine lv_icmp_ne (tgt := 44) hx hb dX1_serve_36 (by decide) (fun c36 => ?_) (fun c36 => absurd c36 (by simpa [mBeg, up] using c18))
      refine lv_iload_n hx hb dX1_serve_44 rfl (lv_at hl 1 rfl) ?_
      exact r_i E hlk hr I (Nat.le_refl 0) (Nat.le_refl 0) dX1_serve_45 (⟨by simp only [c5, if_true, nI_clamp (show j < 2 ^ 31 by omega)]; simp [c18], by simp only [c5, if_true, nI_clamp (show j < 2 ^ 31 by omega)]; simp [c18]⟩)
    · refine lv_iconst (v := 5) hx hb dX1_serve_21 (by decide) ?_
      refine lv_goto (tgt := 26) hx hb dX1_serve_22 (by decide) ?_
      refine m_cv E hK hA I (m_begins l D ty o ad σ 5) go_m_begins dc_m_begins ⟨Nat.le_of_ble_eq_true rfl, Nat.le_of_ble_eq_true rfl⟩ ⟨Nat.le_refl 0, Nat.le_refl 0⟩ hl.1 (Nat.le_of_ble_eq_true rfl) rfl dX1_serve_26 (fun σ26 H locs hp I => ?_)
      have I := m_as I hp
      refine lv_aload_n hx hb dX1_serve_29 rfl (lv_at hl 0 rfl) ?_
      refine m_get E hK I 17 rfl q1132 rfl dX1_serve_30 ?_
      refine lv_iload_n hx hb dX1_serve_33 rfl (lv_at hl 1 rfl) ?_
      refine m_ald (i := j) E hK I 7 rfl rfl rfl dX1_serve_34 (by simp only [mLn]; omega) ?_
      refine lv_iconst (v := 2) hx hb dX1_serve_35 (by decide) ?_
      refine lv_icmp_ne (tgt := 44) hx hb dX1_serve_36 (by decide) (fun c36 => absurd c36 (not_not_intro (by simpa [mBeg, up] using c18))) (fun c36 => ?_)
      refine lv_bipush (v := 50) hx hb dX1_serve_39 (by decide) ?_
      refine lv_goto (tgt := 45) hx hb dX1_serve_41 (by decide) ?_
      exact r_i E hlk hr I (Nat.le_refl 0) (Nat.le_refl 0) dX1_serve_45 (⟨by simp only [c5, if_true, nI_clamp (show j < 2 ^ 31 by omega)]; simp [c18], by simp only [c5, if_true, nI_clamp (show j < 2 ^ 31 by omega)]; simp [c18]⟩)
  · refine lv_iconst (v := (-1)) hx hb dX1_serve_8 (by decide) ?_
    exact r_i E hlk hr I (Nat.le_refl 0) (Nat.le_refl 0) dX1_serve_9 (⟨by simp [c5], by simp [c5]⟩)
theorem dc_m_serve : yX1_serve.cls = RX1 ∧ yX1_serve.cls ≠ "java/lang/invoke/MethodHandle" ∧ yX1_serve.cls ≠ "java/lang/invoke/VarHandle" ∧ (parseMethodDescriptor yX1_serve.desc).map (fun d => d.parameters.length) = some 1 := by decide +kernel
theorem m_as_ (l : Launch) (D : va_G) (ty : Nat → ClassId) (o : Nat) (ad : Nat → Nat) (σ : Sg) (g : Int32) (w : Int32) (G : Nat) (hG : G ≤ 8) (h16 : σ 16 0 = nI G) : mKi l yX1_as cX1_as 3 .int 2 D ty o ad σ [.int g, .int w] (fun r τ => r = (if mGrp σ g then (if wi w 0 2 then (if σ 17 (g).toNatClampNeg < w then (-10) - 2 else 1) else (-2)) else (-1)) ∧ τ = if mGrp σ g && wi w 0 2 then (if σ 17 (g).toNatClampNeg < w then up (up σ 0 0 0) 0 0 2 else up σ 0 0 0) else up σ 0 0 0) := by
  refine Ki.of (by decide) (Nat.le_of_ble_eq_true rfl) ?_
  intro p e s m below meth c A ls args E hK hA hX hlk hr I hl
  have hx := E.1
  have hb := E.2.1
  have hl : lv_has ls 3 [(0, .ref o), (1, .int g), (2, .int w)] := hl
  refine lv_aload_n hx hb dX1_as_0 rfl (lv_at hl 0 rfl) ?_
  refine lv_iconst (v := 0) hx hb dX1_as_1 (by decide) ?_
  refine m_put E hK I 0 rfl rfl q1115 rfl rfl rfl dX1_as_2 (fun H locs I => ?_)
  refine lv_aload_n hx hb dX1_as_5 rfl (lv_at hl 0 rfl) ?_
  refine lv_iload_n hx hb dX1_as_6 rfl (lv_at hl 1 rfl) ?_
  refine m_ci E hK hA I (m_isGroup l D ty o ad (up σ 0 0 0) g) go_m_isGroup dc_m_isGroup ⟨Nat.le_of_ble_eq_true rfl, Nat.le_of_ble_eq_true rfl⟩ ⟨Nat.le_refl 0, Nat.le_refl 0⟩ hl.1 (Nat.le_of_ble_eq_true rfl) rfl dX1_as_7 (fun r7 σ7 H locs hp I => ?_)
  refine top_i (y := bI (mGrp (up σ 0 0 0) g)) hp.1 ?_
  have I := m_as I hp.2
  refine top_i (y := bI (mGrp σ g)) (by simp [mGrp, up]) ?_
  refine b_ne (tgt := 15) hx hb dX1_as_10 (by decide) (fun c10 => ?_) (fun c10 => ?_)
  · refine lv_iload_n hx hb dX1_as_15 rfl (lv_at hl 2 rfl) ?_
    refine lv_iconst (v := 0) hx hb dX1_as_16 (by decide) ?_
    refine lv_iconst (v := 2) hx hb dX1_as_17 (by decide) ?_
    refine c_Si E (m_within l w 0 2) go_m_within ⟨rfl, rfl⟩ dc_m_within ⟨Nat.le_of_ble_eq_true rfl, Nat.le_of_ble_eq_true rfl⟩ ⟨Nat.le_refl 0, Nat.le_refl 0⟩ hl.1 (Nat.le_of_ble_eq_true rfl) rfl dX1_as_18 (fun r18 hp => ?_)
    refine top_i (y := bI (wi w 0 2)) hp ?_
    refine b_ne (tgt := 27) hx hb dX1_as_21 (by decide) (fun c21 => ?_) (fun c21 => ?_)
    · obtain ⟨j, hj, ej⟩ := mGrp_nat hG h16 c10
      subst ej
      refine lv_aload_n hx hb dX1_as_27 rfl (lv_at hl 0 rfl) ?_
      refine m_get E hK I 17 rfl q1132 rfl dX1_as_28 ?_
      refine lv_iload_n hx hb dX1_as_31 rfl (lv_at hl 1 rfl) ?_
      refine m_ald (i := j) E hK I 7 rfl rfl rfl dX1_as_32 (by simp only [mLn]; omega) ?_
      refine lv_iload_n hx hb dX1_as_33 rfl (lv_at hl 2 rfl) ?_
      refine lv_icmp_lt (tgt := 41) hx hb dX1_as_34 (by decide) (fun c34 => ?_) (fun c34 => ?_)
      · refine lv_aload_n hx hb dX1_as_41 rfl (lv_at hl 0 rfl) ?_
        refine lv_iconst (v := 2) hx hb dX1_as_42 (by decide) ?_
        refine m_ci E hK hA I (m_fails l D ty o ad (up σ 0 0 0) 2) go_m_fails dc_m_fails ⟨Nat.le_of_ble_eq_true rfl, Nat.le_of_ble_eq_true rfl⟩ ⟨Nat.le_refl 0, Nat.le_refl 0⟩ hl.1 (Nat.le_of_ble_eq_true rfl) rfl dX1_as_43 (fun r43 σ43 H locs hp I => ?_)
        refine top_i (y := (-10) - 2) hp.1 ?_
        have I := m_as I hp.2
        exact r_i E hlk hr I (Nat.le_refl 0) (Nat.le_refl 0) dX1_as_46 (⟨by simp only [c10, c21, if_true, nI_clamp (show j < 2 ^ 31 by omega)]; rw [up_k (by decide)] at c34; simp [c34], by simp only [c10, c21, if_true, Bool.and_self, nI_clamp (show j < 2 ^ 31 by omega)]; rw [up_k (by decide)] at c34; simp [c34]⟩)
      · refine lv_iconst (v := 1) hx hb dX1_as_37 (by decide) ?_
        refine lv_goto (tgt := 46) hx hb dX1_as_38 (by decide) ?_
        exact r_i E hlk hr I (Nat.le_refl 0) (Nat.le_refl 0) dX1_as_46 (⟨by simp only [c10, c21, if_true, nI_clamp (show j < 2 ^ 31 by omega)]; rw [up_k (by decide)] at c34; simp [c34], by simp only [c10, c21, if_true, Bool.and_self, nI_clamp (show j < 2 ^ 31 by omega)]; rw [up_k (by decide)] at c34; simp [c34]⟩)
    · refine lv_bipush (v := (-2)) hx hb dX1_as_24 (by decide) ?_
      exact r_i E hlk hr I (Nat.le_refl 0) (Nat.le_refl 0) dX1_as_26 (⟨by simp [c10, c21], by simp [c10, c21]⟩)
  · refine lv_iconst (v := (-1)) hx hb dX1_as_13 (by decide) ?_
    exact r_i E hlk hr I (Nat.le_refl 0) (Nat.le_refl 0) dX1_as_14 (⟨by simp [c10], by simp [c10]⟩)
theorem dc_m_as_ : yX1_as.cls = RX1 ∧ yX1_as.cls ≠ "java/lang/invoke/MethodHandle" ∧ yX1_as.cls ≠ "java/lang/invoke/VarHandle" ∧ (parseMethodDescriptor yX1_as.desc).map (fun d => d.parameters.length) = some 2 := by decide +kernel
theorem m_trace (l : Launch) (D : va_G) (ty : Nat → ClassId) (o : Nat) (ad : Nat → Nat) (σ : Sg) : mKi l yX1_trace cX1_trace 1 .int 1 D ty o ad σ [] (fun r τ => r = σ 1 0 ∧ τ = σ) := by
  refine Ki.of (by decide) (Nat.le_of_ble_eq_true rfl) ?_
  intro p e s m below meth c A ls args E hK hA hX hlk hr I hl
  have hx := E.1
  have hb := E.2.1
  have hl : lv_has ls 1 [(0, .ref o)] := hl
  refine lv_aload_n hx hb dX1_trace_0 rfl (lv_at hl 0 rfl) ?_
  refine m_get E hK I 1 rfl q1116 rfl dX1_trace_1 ?_
  exact r_i E hlk hr I (Nat.le_refl 0) (Nat.le_refl 0) dX1_trace_4 (⟨rfl, rfl⟩)
theorem dc_m_trace : yX1_trace.cls = RX1 ∧ yX1_trace.cls ≠ "java/lang/invoke/MethodHandle" ∧ yX1_trace.cls ≠ "java/lang/invoke/VarHandle" ∧ (parseMethodDescriptor yX1_trace.desc).map (fun d => d.parameters.length) = some 0 := by decide +kernel
theorem m_fault (l : Launch) (D : va_G) (ty : Nat → ClassId) (o : Nat) (ad : Nat → Nat) (σ : Sg) : mKi l yX1_fault cX1_fault 1 .int 1 D ty o ad σ [] (fun r τ => r = σ 0 0 ∧ τ = σ) := by
  refine Ki.of (by decide) (Nat.le_of_ble_eq_true rfl) ?_
  intro p e s m below meth c A ls args E hK hA hX hlk hr I hl
  have hx := E.1
  have hb := E.2.1
  have hl : lv_has ls 1 [(0, .ref o)] := hl
  refine lv_aload_n hx hb dX1_fault_0 rfl (lv_at hl 0 rfl) ?_
  refine m_get E hK I 0 rfl q1115 rfl dX1_fault_1 ?_
  exact r_i E hlk hr I (Nat.le_refl 0) (Nat.le_refl 0) dX1_fault_4 (⟨rfl, rfl⟩)
theorem dc_m_fault : yX1_fault.cls = RX1 ∧ yX1_fault.cls ≠ "java/lang/invoke/MethodHandle" ∧ yX1_fault.cls ≠ "java/lang/invoke/VarHandle" ∧ (parseMethodDescriptor yX1_fault.desc).map (fun d => d.parameters.length) = some 0 := by decide +kernel
def mMany (s : Sg) (T : Nat) (w : Int32) : Int32 := if w = 0 then nI T else if w = 1 then s 16 0 else if w = 2 then s 8 0 else if w = 3 then s 9 0 else if w = 4 then (if s 10 0 = 0 then 0 else 1) else if w = 5 then s 11 0 else if w = 6 then sumI (s 7) T else (-2)
theorem m_many (l : Launch) (D : va_G) (ty : Nat → ClassId) (o : Nat) (ad : Nat → Nat) (σ : Sg) (w : Int32) (T : Nat) (hT : T ≤ 6) (h5 : σ 5 0 = nI T) : mKi l yX1_many cX1_many 4 .int 1 D ty o ad σ [.int w] (fun r τ => r = mMany σ T w ∧ τ = σ) := by
  refine Ki.of (by decide) (Nat.le_of_ble_eq_true rfl) ?_
  intro p e s m below meth c A ls args E hK hA hX hlk hr I hl
  have hx := E.1
  have hb := E.2.1
  have hl : lv_has ls 4 [(0, .ref o), (1, .int w)] := hl
  refine nameQ (fun Q hQ => ?_)
  refine lv_iconst (v := 0) hx hb dX1_many_0 (by decide) ?_
  refine lv_istore_n (lv' := [(2, .int 0), (0, .ref o), (1, .int w)]) hx hb dX1_many_1 rfl hl (by decide) rfl (fun ls hl => ?_)
  refine lv_iconst (v := 0) hx hb dX1_many_2 (by decide) ?_
  refine lv_istore_n (lv' := [(3, .int 0), (2, .int 0), (0, .ref o), (1, .int w)]) hx hb dX1_many_3 rfl hl (by decide) rfl (fun ls hl => ?_)
  have L4 : ∀ i, i ≤ T → ∀ (H : Heap) (locs : List Loc) (ls : Array Slot), gI s D A (mW ty o ad σ) H locs → lv_has ls 4 [(0, .ref o), (1, .int w), (2, .int (sumI (σ 7) i)), (3, .int (nI i))] → W p l e (rmL 1) s m args below meth c H locs 0 0 Q (F0 m 4 ls []) := by
    refine dn_ind T ?_ ?_
    · intro H locs ls I hl
      refine lv_iload_n hx hb dX1_many_4 rfl (lv_at hl 3 rfl) ?_
      refine lv_aload_n hx hb dX1_many_5 rfl (lv_at hl 0 rfl) ?_
      refine m_get (v := .int (nI T)) E hK I 5 rfl q1120 (congrArg Value.int (h5)) dX1_many_6 ?_
      refine lv_icmp_ge (tgt := 27) hx hb dX1_many_9 (by decide) (fun c9 => ?_) (fun c9 => absurd c9 (fun h => h (Int32.le_refl _)))
      refine lv_iload_n hx hb dX1_many_27 rfl (lv_at hl 1 rfl) ?_
      by_cases c28_0 : w = 0
      · refine top_i (y := 0) c28_0 ?_
        refine lv_tableIn (tgt := 72) hx hb dX1_many_28 (by decide) (by decide) rfl (by decide) ?_
        refine lv_aload_n hx hb dX1_many_72 rfl (lv_at hl 0 rfl) ?_
        refine m_get (v := .int (nI T)) E hK I 5 rfl q1120 (congrArg Value.int (h5)) dX1_many_73 ?_
        subst hQ
        exact r_i E hlk hr I (Nat.le_refl 0) (Nat.le_refl 0) dX1_many_76 (⟨by simp [mMany, c28_0], rfl⟩)
      by_cases c28_1 : w = 1
      · refine top_i (y := 1) c28_1 ?_
        refine lv_tableIn (tgt := 77) hx hb dX1_many_28 (by decide) (by decide) rfl (by decide) ?_
        refine lv_aload_n hx hb dX1_many_77 rfl (lv_at hl 0 rfl) ?_
        refine m_get E hK I 16 rfl q1131 rfl dX1_many_78 ?_
        subst hQ
        exact r_i E hlk hr I (Nat.le_refl 0) (Nat.le_refl 0) dX1_many_81 (⟨by simp [mMany, c28_1], rfl⟩)
      by_cases c28_2 : w = 2
      · refine top_i (y := 2) c28_2 ?_
        refine lv_tableIn (tgt := 82) hx hb dX1_many_28 (by decide) (by decide) rfl (by decide) ?_
        refine lv_aload_n hx hb dX1_many_82 rfl (lv_at hl 0 rfl) ?_
        refine m_get E hK I 8 rfl q1123 rfl dX1_many_83 ?_
        subst hQ
        exact r_i E hlk hr I (Nat.le_refl 0) (Nat.le_refl 0) dX1_many_86 (⟨by simp [mMany, c28_2], rfl⟩)
      by_cases c28_3 : w = 3
      · refine top_i (y := 3) c28_3 ?_
        refine lv_tableIn (tgt := 87) hx hb dX1_many_28 (by decide) (by decide) rfl (by decide) ?_
        refine lv_aload_n hx hb dX1_many_87 rfl (lv_at hl 0 rfl) ?_
        refine m_get E hK I 9 rfl q1124 rfl dX1_many_88 ?_
        subst hQ
        exact r_i E hlk hr I (Nat.le_refl 0) (Nat.le_refl 0) dX1_many_91 (⟨by simp [mMany, c28_3], rfl⟩)
      by_cases c28_4 : w = 4
      · refine top_i (y := 4) c28_4 ?_
        refine lv_tableIn (tgt := 92) hx hb dX1_many_28 (by decide) (by decide) rfl (by decide) ?_
        refine lv_aload_n hx hb dX1_many_92 rfl (lv_at hl 0 rfl) ?_
        refine m_get E hK I 10 rfl q1125 rfl dX1_many_93 ?_
        refine lv_if_eq (tgt := 103) hx hb dX1_many_96 (by decide) (fun c96 => ?_) (fun c96 => ?_)
        · refine lv_iconst (v := 0) hx hb dX1_many_103 (by decide) ?_
          subst hQ
          exact r_i E hlk hr I (Nat.le_refl 0) (Nat.le_refl 0) dX1_many_104 (⟨by simp [mMany, c28_4, c96], rfl⟩)
        · refine lv_iconst (v := 1) hx hb dX1_many_99 (by decide) ?_
          refine lv_goto (tgt := 104) hx hb dX1_many_100 (by decide) ?_
          subst hQ
          exact r_i E hlk hr I (Nat.le_refl 0) (Nat.le_refl 0) dX1_many_104 (⟨by simp [mMany, c28_4, c96], rfl⟩)
      by_cases c28_5 : w = 5
      · refine top_i (y := 5) c28_5 ?_
        refine lv_tableIn (tgt := 105) hx hb dX1_many_28 (by decide) (by decide) rfl (by decide) ?_
        refine lv_aload_n hx hb dX1_many_105 rfl (lv_at hl 0 rfl) ?_
        refine m_get E hK I 11 rfl q1126 rfl dX1_many_106 ?_
        subst hQ
        exact r_i E hlk hr I (Nat.le_refl 0) (Nat.le_refl 0) dX1_many_109 (⟨by simp [mMany, c28_5], rfl⟩)
      by_cases c28_6 : w = 6
      · refine top_i (y := 6) c28_6 ?_
        refine lv_tableIn (tgt := 110) hx hb dX1_many_28 (by decide) (by decide) rfl (by decide) ?_
        refine lv_iload_n hx hb dX1_many_110 rfl (lv_at hl 2 rfl) ?_
        subst hQ
        exact r_i E hlk hr I (Nat.le_refl 0) (Nat.le_refl 0) dX1_many_111 (⟨by simp [mMany, c28_6], rfl⟩)
      refine lv_tableOut (tgt := 112) hx hb dX1_many_28 (by have := lv_neT c28_0 (a := 0) rfl; have := lv_neT c28_1 (a := 1) rfl; have := lv_neT c28_2 (a := 2) rfl; have := lv_neT c28_3 (a := 3) rfl; have := lv_neT c28_4 (a := 4) rfl; have := lv_neT c28_5 (a := 5) rfl; have := lv_neT c28_6 (a := 6) rfl; omega) (by decide) ?_
      refine lv_bipush (v := (-2)) hx hb dX1_many_112 (by decide) ?_
      subst hQ
      exact r_i E hlk hr I (Nat.le_refl 0) (Nat.le_refl 0) dX1_many_114 (⟨by simp [mMany, c28_0, c28_1, c28_2, c28_3, c28_4, c28_5, c28_6], rfl⟩)
    · intro i hi ih4 H locs ls I hl
      refine lv_iload_n hx hb dX1_many_4 rfl (lv_at hl 3 rfl) ?_
      refine lv_aload_n hx hb dX1_many_5 rfl (lv_at hl 0 rfl) ?_
      refine m_get (v := .int (nI T)) E hK I 5 rfl q1120 (congrArg Value.int (h5)) dX1_many_6 ?_
      refine lv_icmp_ge (tgt := 27) hx hb dX1_many_9 (by decide) (fun c9 => absurd c9 (nI_ge hi (by omega))) (fun c9 => ?_)
      refine lv_iload_n hx hb dX1_many_12 rfl (lv_at hl 2 rfl) ?_
      refine lv_aload_n hx hb dX1_many_13 rfl (lv_at hl 0 rfl) ?_
      refine m_get E hK I 7 rfl q1122 rfl dX1_many_14 ?_
      refine lv_iload_n hx hb dX1_many_17 rfl (lv_at hl 3 rfl) ?_
      refine m_ald (i := i) E hK I 4 rfl rfl rfl dX1_many_18 (by simp only [mLn]; omega) ?_
      refine lv_iadd hx hb dX1_many_19 ?_
      refine lv_istore_n (lv' := [(2, .int ((sumI (σ 7) i) + (σ 7 i))), (0, .ref o), (1, .int w), (3, .int (nI i))]) hx hb dX1_many_20 rfl hl (by decide) rfl (fun ls hl => ?_)
      refine lv_iinc (v := nI (i + 1)) (lv' := [(3, .int (nI (i + 1))), (2, .int ((sumI (σ 7) i) + (σ 7 i))), (0, .ref o), (1, .int w)]) hx hb dX1_many_21 hl (k := 3) rfl (nI_1 _) (by decide) rfl (fun ls hl => ?_)
      refine lv_goto (tgt := 4) hx hb dX1_many_24 (by decide) ?_
      exact ih4 _ _ ls (m_as I (rfl)) (lv_as (lv_sub (l' := [(0, .ref o), (1, .int w), (2, .int ((sumI (σ 7) i) + (σ 7 i))), (3, .int (nI (i + 1)))]) hl [2, 3, 1, 0] rfl) (rfl))
  exact L4 0 (Nat.zero_le _) _ _ ls (m_as I (rfl)) (lv_as (lv_sub (l' := [(0, .ref o), (1, .int w), (2, .int 0), (3, .int 0)]) hl [2, 3, 1, 0] rfl) (rfl))
theorem dc_m_many : yX1_many.cls = RX1 ∧ yX1_many.cls ≠ "java/lang/invoke/MethodHandle" ∧ yX1_many.cls ≠ "java/lang/invoke/VarHandle" ∧ (parseMethodDescriptor yX1_many.desc).map (fun d => d.parameters.length) = some 1 := by decide +kernel
