set_option maxRecDepth 100000
set_option maxHeartbeats 4000000
theorem m_planned (l : Launch) (D : va_G) (ty : Nat → ClassId) (o : Nat) (ad : Nat → Nat) (σ : Sg) (G : Nat) (hG : G ≤ 8) (h16 : σ 16 0 = nI G) : mKi l yX1_planned cX1_planned 1 .int 1 D ty o ad σ [] (fun r τ => r = nI (min G 6) ∧ τ = σ) := by
  refine Ki.of (by decide) (Nat.le_of_ble_eq_true rfl) ?_
  intro p e s m below meth c A ls args E hK hA hX hlk hr I hl
  have hx := E.1
  have hb := E.2.1
  have hl : lv_has ls 1 [(0, .ref o)] := hl
  refine lv_aload_n hx hb dX1_planned_0 rfl (lv_at hl 0 rfl) ?_
  refine m_get (v := .int (nI G)) E hK I 16 rfl q1131 (congrArg Value.int (h16)) dX1_planned_1 ?_
  refine lv_bipush (v := 6) hx hb dX1_planned_4 (by decide) ?_
  refine lv_icmp_ge (tgt := 16) hx hb dX1_planned_6 (by decide) (fun c6 => ?_) (fun c6 => ?_)
  · refine lv_bipush (v := 6) hx hb dX1_planned_16 (by decide) ?_
    exact r_i E hlk hr I (Nat.le_refl 0) (Nat.le_refl 0) dX1_planned_18 (⟨by rw [show min G 6 = 6 from by have := (nI_leI (a := 6) (b := G) (by omega) (by omega)).mp c6; omega]; rfl, rfl⟩)
  · refine lv_aload_n hx hb dX1_planned_9 rfl (lv_at hl 0 rfl) ?_
    refine m_get (v := .int (nI G)) E hK I 16 rfl q1131 (congrArg Value.int (h16)) dX1_planned_10 ?_
    refine lv_goto (tgt := 18) hx hb dX1_planned_13 (by decide) ?_
    exact r_i E hlk hr I (Nat.le_refl 0) (Nat.le_refl 0) dX1_planned_18 (⟨by rw [show min G 6 = G from by have := nle_lt (a := 6) (b := G) (by omega) c6; omega], rfl⟩)
theorem dc_m_planned : yX1_planned.cls = RX1 ∧ yX1_planned.cls ≠ "java/lang/invoke/MethodHandle" ∧ yX1_planned.cls ≠ "java/lang/invoke/VarHandle" ∧ (parseMethodDescriptor yX1_planned.desc).map (fun d => d.parameters.length) = some 0 := by decide +kernel
theorem go_m_planned : GoodIn lw_all (wsV RX1 245 RX1 yX1_planned (ws_ yX1_planned cX1_planned 1 (some .int))) := lw_V q1423 q1425 qs62 q75 q1426
def mClash (σ : Sg) (g : Nat) (t : Int32) (x : Nat) : Bool := decide (σ 41 x = t) && !decide (σ 19 g + mStay σ g ≤ σ 19 x) && !decide (σ 19 x + mStay σ x ≤ σ 19 g)
def mMay (σ : Sg) (g t T : Nat) : Bool := if t = T then true else if σ 18 g ≤ σ 7 t then !anyB (mClash σ g (nI t)) g else false
theorem anyB_t {p : Nat → Bool} {i : Nat} (h : p i = true) : ∀ n, i < n → anyB p n = true
  | 0, hn => by omega
  | n + 1, hn => by
    unfold anyB
    by_cases hi : i = n
    · subst hi; simp [h]
    · simp [anyB_t h n (by omega)]
theorem m_maySit (l : Launch) (D : va_G) (ty : Nat → ClassId) (o : Nat) (ad : Nat → Nat) (σ : Sg) (g : Nat) (t : Nat) (hg : g < 6) (T : Nat) (hT : T ≤ 6) (h5 : σ 5 0 = nI T) (ht : t ≤ T) : mKi l yX1_maySit cX1_maySit 4 .boolean 2 D ty o ad σ [.int (nI g), .int (nI t)] (fun r τ => r = bI (mMay σ g t T) ∧ τ = σ) := by
  refine Ki.of (by decide) (Nat.le_of_ble_eq_true rfl) ?_
  intro p e s m below meth c A ls args E hK hA hX hlk hr I hl
  have hx := E.1
  have hb := E.2.1
  have hl : lv_has ls 4 [(0, .ref o), (1, .int (nI g)), (2, .int (nI t))] := hl
  refine nameQ (fun Q hQ => ?_)
  refine lv_iload_n hx hb dX1_maySit_0 rfl (lv_at hl 2 rfl) ?_
  refine lv_aload_n hx hb dX1_maySit_1 rfl (lv_at hl 0 rfl) ?_
  refine m_get (v := .int (nI T)) E hK I 5 rfl q1120 (congrArg Value.int (h5)) dX1_maySit_2 ?_
  refine lv_icmp_ne (tgt := 10) hx hb dX1_maySit_5 (by decide) (fun c5 => ?_) (fun c5 => ?_)
  · have hne : ¬ t = T := fun h => c5 (by rw [h])
    refine lv_aload_n hx hb dX1_maySit_10 rfl (lv_at hl 0 rfl) ?_
    refine m_get E hK I 7 rfl q1122 rfl dX1_maySit_11 ?_
    refine lv_iload_n hx hb dX1_maySit_14 rfl (lv_at hl 2 rfl) ?_
    refine m_ald (i := t) E hK I 4 rfl rfl rfl dX1_maySit_15 (by simp only [mLn]; omega) ?_
    refine lv_aload_n hx hb dX1_maySit_16 rfl (lv_at hl 0 rfl) ?_
    refine m_get E hK I 18 rfl q1133 rfl dX1_maySit_17 ?_
    refine lv_iload_n hx hb dX1_maySit_20 rfl (lv_at hl 1 rfl) ?_
    refine m_ald (i := g) E hK I 8 rfl rfl rfl dX1_maySit_21 (by simp only [mLn]; omega) ?_
    refine lv_icmp_ge (tgt := 27) hx hb dX1_maySit_22 (by decide) (fun c22 => ?_) (fun c22 => ?_)
    · refine lv_iconst (v := 0) hx hb dX1_maySit_27 (by decide) ?_
      refine lv_istore_n (lv' := [(3, .int 0), (0, .ref o), (1, .int (nI g)), (2, .int (nI t))]) hx hb dX1_maySit_28 rfl hl (by decide) rfl (fun ls hl => ?_)
      have L29 : ∀ i, i ≤ g → (anyB (mClash σ g (nI t)) i = false) → ∀ (H : Heap) (locs : List Loc) (ls : Array Slot), gI s D A (mW ty o ad σ) H locs → lv_has ls 4 [(0, .ref o), (1, .int (nI g)), (2, .int (nI t)), (3, .int (nI i))] → W p l e (rmL 2) s m args below meth c H locs 0 0 Q (F0 m 29 ls []) := by
        refine dn_ind g ?_ ?_
        · intro hn H locs ls I hl
          refine lv_iload_n hx hb dX1_maySit_29 rfl (lv_at hl 3 rfl) ?_
          refine lv_iload_n hx hb dX1_maySit_30 rfl (lv_at hl 1 rfl) ?_
          refine lv_icmp_ge (tgt := 94) hx hb dX1_maySit_31 (by decide) (fun c31 => ?_) (fun c31 => absurd c31 (fun h => h (Int32.le_refl _)))
          refine lv_iconst (v := 1) hx hb dX1_maySit_94 (by decide) ?_
          subst hQ
          exact r_z (b := true) E hlk hr I (Nat.le_refl 0) (Nat.le_refl 0) dX1_maySit_95 rfl (⟨by rw [mMay, if_neg hne, if_pos c22, hn]; rfl, rfl⟩)
        · intro i hi ih29 hn H locs ls I hl
          refine lv_iload_n hx hb dX1_maySit_29 rfl (lv_at hl 3 rfl) ?_
          refine lv_iload_n hx hb dX1_maySit_30 rfl (lv_at hl 1 rfl) ?_
          refine lv_icmp_ge (tgt := 94) hx hb dX1_maySit_31 (by decide) (fun c31 => absurd c31 (nI_ge hi (by omega))) (fun c31 => ?_)
          refine lv_aload_n hx hb dX1_maySit_34 rfl (lv_at hl 0 rfl) ?_
          refine m_get E hK I 41 rfl q1156 rfl dX1_maySit_35 ?_
          refine lv_iload_n hx hb dX1_maySit_38 rfl (lv_at hl 3 rfl) ?_
          refine m_ald (i := i) E hK I 26 rfl rfl rfl dX1_maySit_39 (by simp only [mLn]; omega) ?_
          refine lv_iload_n hx hb dX1_maySit_40 rfl (lv_at hl 2 rfl) ?_
          refine lv_icmp_ne (tgt := 88) hx hb dX1_maySit_41 (by decide) (fun c41 => ?_) (fun c41 => ?_)
          · refine lv_iinc (v := nI (i + 1)) (lv' := [(3, .int (nI (i + 1))), (0, .ref o), (1, .int (nI g)), (2, .int (nI t))]) hx hb dX1_maySit_88 hl (k := 3) rfl (nI_1 _) (by decide) rfl (fun ls hl => ?_)
            refine lv_goto (tgt := 29) hx hb dX1_maySit_91 (by decide) ?_
            exact ih29 (by simp [anyB, hn, mClash, c41]) _ _ ls (m_as I (rfl)) (lv_as (lv_sub (l' := [(0, .ref o), (1, .int (nI g)), (2, .int (nI t)), (3, .int (nI (i + 1)))]) hl [1, 2, 3, 0] rfl) (rfl))
          · refine lv_aload_n hx hb dX1_maySit_44 rfl (lv_at hl 0 rfl) ?_
            refine m_get E hK I 19 rfl q1134 rfl dX1_maySit_45 ?_
            refine lv_iload_n hx hb dX1_maySit_48 rfl (lv_at hl 3 rfl) ?_
            refine m_ald (i := i) E hK I 9 rfl rfl rfl dX1_maySit_49 (by simp only [mLn]; omega) ?_
            refine lv_aload_n hx hb dX1_maySit_50 rfl (lv_at hl 0 rfl) ?_
            refine m_get E hK I 19 rfl q1134 rfl dX1_maySit_51 ?_
            refine lv_iload_n hx hb dX1_maySit_54 rfl (lv_at hl 1 rfl) ?_
            refine m_ald (i := g) E hK I 9 rfl rfl rfl dX1_maySit_55 (by simp only [mLn]; omega) ?_
            refine lv_aload_n hx hb dX1_maySit_56 rfl (lv_at hl 0 rfl) ?_
            refine lv_iload_n hx hb dX1_maySit_57 rfl (lv_at hl 1 rfl) ?_
            refine m_ci E hK hA I (m_stays l D ty o ad σ g (by omega)) go_m_stays dc_m_stays ⟨Nat.le_of_ble_eq_true rfl, Nat.le_of_ble_eq_true rfl⟩ ⟨Nat.le_refl 0, Nat.le_refl 0⟩ hl.1 (Nat.le_of_ble_eq_true rfl) rfl dX1_maySit_58 (fun r58 σ58 H locs hp I => ?_)
            refine top_i (y := mStay σ g) hp.1 ?_
            have I := m_as I hp.2
            refine lv_iadd hx hb dX1_maySit_61 ?_
            refine lv_icmp_ge (tgt := 88) hx hb dX1_maySit_62 (by decide) (fun c62 => ?_) (fun c62 => ?_)
            · refine lv_iinc (v := nI (i + 1)) (lv' := [(3, .int (nI (i + 1))), (0, .ref o), (1, .int (nI g)), (2, .int (nI t))]) hx hb dX1_maySit_88 hl (k := 3) rfl (nI_1 _) (by decide) rfl (fun ls hl => ?_)
              refine lv_goto (tgt := 29) hx hb dX1_maySit_91 (by decide) ?_
              exact ih29 (by simp [anyB, hn, mClash, c41, c62]) _ _ ls (m_as I (rfl)) (lv_as (lv_sub (l' := [(0, .ref o), (1, .int (nI g)), (2, .int (nI t)), (3, .int (nI (i + 1)))]) hl [1, 2, 3, 0] rfl) (rfl))
            · refine lv_aload_n hx hb dX1_maySit_65 rfl (lv_at hl 0 rfl) ?_
              refine m_get E hK I 19 rfl q1134 rfl dX1_maySit_66 ?_
              refine lv_iload_n hx hb dX1_maySit_69 rfl (lv_at hl 1 rfl) ?_
              refine m_ald (i := g) E hK I 9 rfl rfl rfl dX1_maySit_70 (by simp only [mLn]; omega) ?_
              refine lv_aload_n hx hb dX1_maySit_71 rfl (lv_at hl 0 rfl) ?_
              refine m_get E hK I 19 rfl q1134 rfl dX1_maySit_72 ?_
              refine lv_iload_n hx hb dX1_maySit_75 rfl (lv_at hl 3 rfl) ?_
              refine m_ald (i := i) E hK I 9 rfl rfl rfl dX1_maySit_76 (by simp only [mLn]; omega) ?_
              refine lv_aload_n hx hb dX1_maySit_77 rfl (lv_at hl 0 rfl) ?_
              refine lv_iload_n hx hb dX1_maySit_78 rfl (lv_at hl 3 rfl) ?_
              refine m_ci E hK hA I (m_stays l D ty o ad σ i (by omega)) go_m_stays dc_m_stays ⟨Nat.le_of_ble_eq_true rfl, Nat.le_of_ble_eq_true rfl⟩ ⟨Nat.le_refl 0, Nat.le_refl 0⟩ hl.1 (Nat.le_of_ble_eq_true rfl) rfl dX1_maySit_79 (fun r79 σ79 H locs hp I => ?_)
              refine top_i (y := mStay σ i) hp.1 ?_
              have I := m_as I hp.2
              refine lv_iadd hx hb dX1_maySit_82 ?_
              refine lv_icmp_ge (tgt := 88) hx hb dX1_maySit_83 (by decide) (fun c83 => ?_) (fun c83 => ?_)
              · refine lv_iinc (v := nI (i + 1)) (lv' := [(3, .int (nI (i + 1))), (0, .ref o), (1, .int (nI g)), (2, .int (nI t))]) hx hb dX1_maySit_88 hl (k := 3) rfl (nI_1 _) (by decide) rfl (fun ls hl => ?_)
                refine lv_goto (tgt := 29) hx hb dX1_maySit_91 (by decide) ?_
                exact ih29 (by simp [anyB, hn, mClash, c41, c62, c83]) _ _ ls (m_as I (rfl)) (lv_as (lv_sub (l' := [(0, .ref o), (1, .int (nI g)), (2, .int (nI t)), (3, .int (nI (i + 1)))]) hl [1, 2, 3, 0] rfl) (rfl))
              · refine lv_iconst (v := 0) hx hb dX1_maySit_86 (by decide) ?_
                subst hQ
                exact r_z (b := false) E hlk hr I (Nat.le_refl 0) (Nat.le_refl 0) dX1_maySit_87 rfl (⟨by rw [mMay, if_neg hne, if_pos c22, anyB_t (i := i) (by simp [mClash, c41, c62, c83]) g hi]; rfl, rfl⟩)
      exact L29 0 (Nat.zero_le _) (rfl) _ _ ls (m_as I (rfl)) (lv_as (lv_sub (l' := [(0, .ref o), (1, .int (nI g)), (2, .int (nI t)), (3, .int 0)]) hl [1, 2, 3, 0] rfl) (rfl))
    · refine lv_iconst (v := 0) hx hb dX1_maySit_25 (by decide) ?_
      subst hQ
      exact r_z (b := false) E hlk hr I (Nat.le_refl 0) (Nat.le_refl 0) dX1_maySit_26 rfl (⟨by rw [mMay, if_neg hne, if_neg c22], rfl⟩)
  · refine lv_iconst (v := 1) hx hb dX1_maySit_8 (by decide) ?_
    subst hQ
    exact r_z (b := true) E hlk hr I (Nat.le_refl 0) (Nat.le_refl 0) dX1_maySit_9 rfl (⟨by rw [mMay, if_pos ((nI_i (by omega) (by omega)).mp c5)], rfl⟩)
theorem dc_m_maySit : yX1_maySit.cls = RX1 ∧ yX1_maySit.cls ≠ "java/lang/invoke/MethodHandle" ∧ yX1_maySit.cls ≠ "java/lang/invoke/VarHandle" ∧ (parseMethodDescriptor yX1_maySit.desc).map (fun d => d.parameters.length) = some 2 := by decide +kernel
theorem go_m_maySit : GoodIn lw_all (wsV RX1 251 RX1 yX1_maySit (ws_ yX1_maySit cX1_maySit 4 (some .boolean))) := lw_V q1431 q1433 qs64 q75 q1434
def mOfF (σ : Sg) (T g : Nat) : Int32 := if σ 41 g = nI T then 0 else mCoinOf σ g (mStay σ g)
def cpb (σ : Sg) (T n : Nat) : Sg := fun a b => if a = 42 then (if b < n then (if σ 41 b = nI T then -9 else σ 41 b) else σ a b) else σ a b
theorem cpb_0 (σ : Sg) (T : Nat) : σ = cpb σ T 0 := by funext a b; simp [cpb]
theorem cpb_k {k : Nat} (h : k ≠ 42) (σ : Sg) (T n : Nat) : cpb σ T n k = σ k := by funext b; simp [cpb, h]
theorem cpb_s {σ : Sg} {T n : Nat} {v : Int32} (hv : v = if σ 41 n = nI T then -9 else σ 41 n) : up (cpb σ T n) 42 n v = cpb σ T (n + 1) := by
  subst hv
  funext a b
  by_cases ha : a = 42
  · subst ha
    by_cases hb : b = n
    · subst hb; simp [cpb, up]
    · simp [cpb, up, hb, lt_s1 hb]
  · simp [cpb, up, ha]
def mOffer (σ : Sg) (n T : Nat) : Sg := if sumI (mOfF σ T) n ≤ σ 43 0 then σ else cpb (up σ 43 0 (sumI (mOfF σ T) n)) T n
theorem m_offer (l : Launch) (D : va_G) (ty : Nat → ClassId) (o : Nat) (ad : Nat → Nat) (σ : Sg) (n : Nat) (hn : n ≤ 6) (T : Nat) (hT : T ≤ 6) (h5 : σ 5 0 = nI T) : mKv l yX1_offer cX1_offer 4 2 D ty o ad σ [.int (nI n)] (fun τ => τ = mOffer σ n T) := by
  refine Kv.of (by decide) (Nat.le_of_ble_eq_true rfl) ?_
  intro p e s m below meth c A ls args E hK hA hX hlk hr hnm I hl
  have hx := E.1
  have hb := E.2.1
  have hl : lv_has ls 4 [(0, .ref o), (1, .int (nI n))] := hl
  refine nameQ (fun Q hQ => ?_)
  refine lv_iconst (v := 0) hx hb dX1_offer_0 (by decide) ?_
  refine lv_istore_n (lv' := [(2, .int 0), (0, .ref o), (1, .int (nI n))]) hx hb dX1_offer_1 rfl hl (by decide) rfl (fun ls hl => ?_)
  refine lv_iconst (v := 0) hx hb dX1_offer_2 (by decide) ?_
  refine lv_istore_n (lv' := [(3, .int 0), (2, .int 0), (0, .ref o), (1, .int (nI n))]) hx hb dX1_offer_3 rfl hl (by decide) rfl (fun ls hl => ?_)
  have L4 : ∀ i, i ≤ n → ∀ (H : Heap) (locs : List Loc) (ls : Array Slot), gI s D A (mW ty o ad σ) H locs → lv_has ls 4 [(0, .ref o), (1, .int (nI n)), (2, .int (sumI (mOfF σ T) i)), (3, .int (nI i))] → W p l e (rmL 2) s m args below meth c H locs 0 0 Q (F0 m 4 ls []) := by
    refine dn_ind n ?_ ?_
    · intro H locs ls I hl
      refine lv_iload_n hx hb dX1_offer_4 rfl (lv_at hl 3 rfl) ?_
      refine lv_iload_n hx hb dX1_offer_5 rfl (lv_at hl 1 rfl) ?_
      refine lv_icmp_ge (tgt := 45) hx hb dX1_offer_6 (by decide) (fun c6 => ?_) (fun c6 => absurd c6 (fun h => h (Int32.le_refl _)))
      refine lv_iload_n hx hb dX1_offer_45 rfl (lv_at hl 2 rfl) ?_
      refine lv_aload_n hx hb dX1_offer_46 rfl (lv_at hl 0 rfl) ?_
      refine m_get E hK I 43 rfl q1158 rfl dX1_offer_47 ?_
      refine lv_icmp_le (tgt := 101) hx hb dX1_offer_50 (by decide) (fun c50 => ?_) (fun c50 => ?_)
      · subst hQ
        exact r_v E hlk hr I (Nat.le_refl 0) (Nat.le_refl 0) dX1_offer_101 (by rw [mOffer, if_pos c50])
      · refine lv_aload_n hx hb dX1_offer_53 rfl (lv_at hl 0 rfl) ?_
        refine lv_iload_n hx hb dX1_offer_54 rfl (lv_at hl 2 rfl) ?_
        refine m_put E hK I 43 rfl rfl q1158 rfl rfl rfl dX1_offer_55 (fun H locs I => ?_)
        refine lv_iconst (v := 0) hx hb dX1_offer_58 (by decide) ?_
        refine lv_istore_n (lv' := [(3, .int 0), (0, .ref o), (1, .int (nI n)), (2, .int (sumI (mOfF σ T) n))]) hx hb dX1_offer_59 rfl hl (by decide) rfl (fun ls hl => ?_)
        obtain ⟨s1, hs1⟩ : ∃ z, z = up σ 43 0 (sumI (mOfF σ T) n) := ⟨_, rfl⟩
        have I := m_as I hs1.symm
        have L60 : ∀ i, i ≤ n → ∀ (H : Heap) (locs : List Loc) (ls : Array Slot), gI s D A (mW ty o ad (cpb s1 T i)) H locs → lv_has ls 4 [(0, .ref o), (1, .int (nI n)), (3, .int (nI i))] → W p l e (rmL 2) s m args below meth c H locs 0 0 Q (F0 m 60 ls []) := by
          refine dn_ind n ?_ ?_
          · intro H locs ls I hl
            refine lv_iload_n hx hb dX1_offer_60 rfl (lv_at hl 2 rfl) ?_
            refine lv_iload_n hx hb dX1_offer_61 rfl (lv_at hl 1 rfl) ?_
            refine lv_icmp_ge (tgt := 101) hx hb dX1_offer_62 (by decide) (fun c62 => ?_) (fun c62 => absurd c62 (fun h => h (Int32.le_refl _)))
            subst hQ
            exact r_v E hlk hr I (Nat.le_refl 0) (Nat.le_refl 0) dX1_offer_101 (by rw [mOffer, if_neg c50, hs1])
          · intro i hi ih60 H locs ls I hl
            refine lv_iload_n hx hb dX1_offer_60 rfl (lv_at hl 2 rfl) ?_
            refine lv_iload_n hx hb dX1_offer_61 rfl (lv_at hl 1 rfl) ?_
            refine lv_icmp_ge (tgt := 101) hx hb dX1_offer_62 (by decide) (fun c62 => absurd c62 (nI_ge hi (by omega))) (fun c62 => ?_)
            refine lv_aload_n hx hb dX1_offer_65 rfl (lv_at hl 0 rfl) ?_
            refine m_get E hK I 42 rfl q1157 rfl dX1_offer_66 ?_
            refine lv_iload_n hx hb dX1_offer_69 rfl (lv_at hl 2 rfl) ?_
            refine lv_aload_n hx hb dX1_offer_70 rfl (lv_at hl 0 rfl) ?_
            refine m_get E hK I 41 rfl q1156 rfl dX1_offer_71 ?_
            refine lv_iload_n hx hb dX1_offer_74 rfl (lv_at hl 2 rfl) ?_
            refine m_ald (i := i) E hK I 26 rfl rfl rfl dX1_offer_75 (by simp only [mLn]; omega) ?_
            refine lv_aload_n hx hb dX1_offer_76 rfl (lv_at hl 0 rfl) ?_
            refine m_get (v := .int (nI T)) E hK I 5 rfl q1120 (congrArg Value.int ((congrFun (cpb_k (by decide) _ _ _) 0).trans (by rw [hs1]; exact (up_k (by decide) _ _ _ _).trans h5))) dX1_offer_77 ?_
            refine lv_icmp_ne (tgt := 88) hx hb dX1_offer_80 (by decide) (fun c80 => ?_) (fun c80 => ?_)
            · refine lv_aload_n hx hb dX1_offer_88 rfl (lv_at hl 0 rfl) ?_
              refine m_get E hK I 41 rfl q1156 rfl dX1_offer_89 ?_
              refine lv_iload_n hx hb dX1_offer_92 rfl (lv_at hl 2 rfl) ?_
              refine m_ald (i := i) E hK I 26 rfl rfl rfl dX1_offer_93 (by simp only [mLn]; omega) ?_
              refine m_ast (i := i) E hK I 27 rfl rfl rfl dX1_offer_94 (by simp only [mLn]; omega) (fun H locs I => ?_)
              refine lv_iinc (v := nI (i + 1)) (lv' := [(3, .int (nI (i + 1))), (0, .ref o), (1, .int (nI n))]) hx hb dX1_offer_95 hl (k := 2) rfl (nI_1 _) (by decide) rfl (fun ls hl => ?_)
              refine lv_goto (tgt := 60) hx hb dX1_offer_98 (by decide) ?_
              exact ih60 _ _ ls (m_as I (cpb_s (by simp only [cpb_k (show 41 ≠ 42 by decide)] at c80 ⊢; simp [c80]))) (lv_as (lv_sub (l' := [(0, .ref o), (1, .int (nI n)), (3, .int (nI (i + 1)))]) hl [1, 2, 0] rfl) (rfl))
            · refine lv_bipush (v := (-9)) hx hb dX1_offer_83 (by decide) ?_
              refine lv_goto (tgt := 94) hx hb dX1_offer_85 (by decide) ?_
              refine m_ast (i := i) E hK I 27 rfl rfl rfl dX1_offer_94 (by simp only [mLn]; omega) (fun H locs I => ?_)
              refine lv_iinc (v := nI (i + 1)) (lv' := [(3, .int (nI (i + 1))), (0, .ref o), (1, .int (nI n))]) hx hb dX1_offer_95 hl (k := 2) rfl (nI_1 _) (by decide) rfl (fun ls hl => ?_)
              refine lv_goto (tgt := 60) hx hb dX1_offer_98 (by decide) ?_
              exact ih60 _ _ ls (m_as I (cpb_s (by simp only [cpb_k (show 41 ≠ 42 by decide)] at c80 ⊢; simp [c80]))) (lv_as (lv_sub (l' := [(0, .ref o), (1, .int (nI n)), (3, .int (nI (i + 1)))]) hl [1, 2, 0] rfl) (rfl))
        exact L60 0 (Nat.zero_le _) _ _ ls (m_as I (cpb_0 _ _)) (lv_as (lv_sub (l' := [(0, .ref o), (1, .int (nI n)), (3, .int 0)]) hl [1, 2, 0] rfl) (rfl))
    · intro i hi ih4 H locs ls I hl
      refine lv_iload_n hx hb dX1_offer_4 rfl (lv_at hl 3 rfl) ?_
      refine lv_iload_n hx hb dX1_offer_5 rfl (lv_at hl 1 rfl) ?_
      refine lv_icmp_ge (tgt := 45) hx hb dX1_offer_6 (by decide) (fun c6 => absurd c6 (nI_ge hi (by omega))) (fun c6 => ?_)
      refine lv_iload_n hx hb dX1_offer_9 rfl (lv_at hl 2 rfl) ?_
      refine lv_aload_n hx hb dX1_offer_10 rfl (lv_at hl 0 rfl) ?_
      refine m_get E hK I 41 rfl q1156 rfl dX1_offer_11 ?_
      refine lv_iload_n hx hb dX1_offer_14 rfl (lv_at hl 3 rfl) ?_
      refine m_ald (i := i) E hK I 26 rfl rfl rfl dX1_offer_15 (by simp only [mLn]; omega) ?_
      refine lv_aload_n hx hb dX1_offer_16 rfl (lv_at hl 0 rfl) ?_
      refine m_get (v := .int (nI T)) E hK I 5 rfl q1120 (congrArg Value.int (h5)) dX1_offer_17 ?_
      refine lv_icmp_ne (tgt := 27) hx hb dX1_offer_20 (by decide) (fun c20 => ?_) (fun c20 => ?_)
      · refine lv_aload_n hx hb dX1_offer_27 rfl (lv_at hl 0 rfl) ?_
        refine lv_iload_n hx hb dX1_offer_28 rfl (lv_at hl 3 rfl) ?_
        refine lv_aload_n hx hb dX1_offer_29 rfl (lv_at hl 0 rfl) ?_
        refine lv_iload_n hx hb dX1_offer_30 rfl (lv_at hl 3 rfl) ?_
        refine m_ci E hK hA I (m_stays l D ty o ad σ i (by omega)) go_m_stays dc_m_stays ⟨Nat.le_of_ble_eq_true rfl, Nat.le_of_ble_eq_true rfl⟩ ⟨Nat.le_refl 0, Nat.le_refl 0⟩ hl.1 (Nat.le_of_ble_eq_true rfl) rfl dX1_offer_31 (fun r31 σ31 H locs hp I => ?_)
        refine top_i (y := mStay σ i) hp.1 ?_
        have I := m_as I hp.2
        refine m_ci E hK hA I (m_coinOf l D ty o ad σ i (mStay σ i) (by omega)) go_m_coinOf dc_m_coinOf ⟨Nat.le_of_ble_eq_true rfl, Nat.le_of_ble_eq_true rfl⟩ ⟨Nat.le_refl 0, Nat.le_refl 0⟩ hl.1 (Nat.le_of_ble_eq_true rfl) rfl dX1_offer_34 (fun r34 σ34 H locs hp I => ?_)
        refine top_i (y := mCoinOf σ i (mStay σ i)) hp.1 ?_
        have I := m_as I hp.2
        refine lv_iadd hx hb dX1_offer_37 ?_
        refine lv_istore_n (lv' := [(2, .int ((sumI (mOfF σ T) i) + (mCoinOf σ i (mStay σ i)))), (0, .ref o), (1, .int (nI n)), (3, .int (nI i))]) hx hb dX1_offer_38 rfl hl (by decide) rfl (fun ls hl => ?_)
        refine lv_iinc (v := nI (i + 1)) (lv' := [(3, .int (nI (i + 1))), (2, .int ((sumI (mOfF σ T) i) + (mCoinOf σ i (mStay σ i)))), (0, .ref o), (1, .int (nI n))]) hx hb dX1_offer_39 hl (k := 3) rfl (nI_1 _) (by decide) rfl (fun ls hl => ?_)
        refine lv_goto (tgt := 4) hx hb dX1_offer_42 (by decide) ?_
        exact ih4 _ _ ls (m_as I (rfl)) (lv_as (lv_sub (l' := [(0, .ref o), (1, .int (nI n)), (2, .int ((sumI (mOfF σ T) i) + (mCoinOf σ i (mStay σ i)))), (3, .int (nI (i + 1)))]) hl [2, 3, 1, 0] rfl) (by simp [sumI, mOfF, c20]))
      · refine lv_iconst (v := 0) hx hb dX1_offer_23 (by decide) ?_
        refine lv_goto (tgt := 37) hx hb dX1_offer_24 (by decide) ?_
        refine lv_iadd hx hb dX1_offer_37 ?_
        refine lv_istore_n (lv' := [(2, .int ((sumI (mOfF σ T) i) + 0)), (0, .ref o), (1, .int (nI n)), (3, .int (nI i))]) hx hb dX1_offer_38 rfl hl (by decide) rfl (fun ls hl => ?_)
        refine lv_iinc (v := nI (i + 1)) (lv' := [(3, .int (nI (i + 1))), (2, .int ((sumI (mOfF σ T) i) + 0)), (0, .ref o), (1, .int (nI n))]) hx hb dX1_offer_39 hl (k := 3) rfl (nI_1 _) (by decide) rfl (fun ls hl => ?_)
        refine lv_goto (tgt := 4) hx hb dX1_offer_42 (by decide) ?_
        exact ih4 _ _ ls (m_as I (rfl)) (lv_as (lv_sub (l' := [(0, .ref o), (1, .int (nI n)), (2, .int ((sumI (mOfF σ T) i) + 0)), (3, .int (nI (i + 1)))]) hl [2, 3, 1, 0] rfl) (by simp [sumI, mOfF, c20]))
  exact L4 0 (Nat.zero_le _) _ _ ls (m_as I (rfl)) (lv_as (lv_sub (l' := [(0, .ref o), (1, .int (nI n)), (2, .int 0), (3, .int 0)]) hl [2, 3, 1, 0] rfl) (rfl))
theorem dc_m_offer : yX1_offer.cls = RX1 ∧ yX1_offer.cls ≠ "java/lang/invoke/MethodHandle" ∧ yX1_offer.cls ≠ "java/lang/invoke/VarHandle" ∧ (parseMethodDescriptor yX1_offer.desc).map (fun d => d.parameters.length) = some 1 := by decide +kernel
theorem go_m_offer : GoodIn lw_all (wsV RX1 254 RX1 yX1_offer (ws_ yX1_offer cX1_offer 4 none)) := lw_V q1435 q1437 qs65 q75 q1438
def plF (T n : Nat) (go : Nat → Sg → Sg) (g : Nat) (c : Nat) (z : Sg) : Sg := if mMay (up z 41 g (nI c)) g c T then go (g + 1) (up z 41 g (nI c)) else up z 41 g (nI c)
def plE (T n : Nat) : Nat → Nat → Sg → Sg
  | 0, _, s => mOffer s n T
  | r + 1, g, s => up (fo (plF T n (plE T n r) g) (T + 1) s) 41 g (nI (T + 1))
theorem mOffer_k {k : Nat} (h : k < 42) (σ : Sg) (n T : Nat) : mOffer σ n T k = σ k := by
  unfold mOffer
  split
  · rfl
  · rw [cpb_k (by omega), up_rk (by omega)]
theorem plE_k {k : Nat} (h : k < 41) (T n : Nat) : ∀ (r g : Nat) (s : Sg), plE T n r g s k = s k
  | 0, g, s => mOffer_k (by omega) s n T
  | r + 1, g, s => by
    show up _ _ _ _ k = _
    rw [up_rk (by omega), fo_k (fun c z => ?_)]
    unfold plF
    split
    · rw [plE_k h T n r, up_rk (by omega)]
    · rw [up_rk (by omega)]
theorem plF_k {k : Nat} (h : k < 41) (T n r g c : Nat) (z : Sg) : plF T n (plE T n r) g c z k = z k := by
  unfold plF
  split
  · rw [plE_k h T n r, up_rk (by omega)]
  · rw [up_rk (by omega)]
/-- what is chosen for those ahead stays -/
theorem plE_c (T n : Nat) : ∀ (r g x : Nat) (s : Sg), x < g → plE T n r g s 41 x = s 41 x
  | 0, g, x, s, h => congrFun (mOffer_k (by omega) s n T) x
  | r + 1, g, x, s, h => by
    show up _ _ _ _ _ _ = _
    rw [up_i (by omega)]
    have key : ∀ c, fo (plF T n (plE T n r) g) c s 41 x = s 41 x := by
      intro c
      induction c with
      | zero => rfl
      | succ c ih =>
        show plF T n (plE T n r) g c _ 41 x = _
        unfold plF
        split
        · rw [plE_c T n r (g + 1) x _ (by omega), up_i (by omega)]; exact ih
        · rw [up_i (by omega)]; exact ih
    exact key _
def mPlan (σ : Sg) (n T : Nat) : Sg := if n = 0 then up (up σ 43 0 (-1)) 43 0 0 else plE T n n 0 (up σ 43 0 (-1))
theorem mPlan_k {k : Nat} (h : k < 41) (σ : Sg) (n T : Nat) : mPlan σ n T k = σ k := by
  unfold mPlan
  split
  · rw [up_rk (by omega), up_rk (by omega)]
  · rw [plE_k h, up_rk (by omega)]
theorem nI_m1p (c : Nat) : nI c - 1 + 1 = nI c := by
  cases c with
  | zero => decide
  | succ c => rw [nI_m1]; exact nI_1 c
theorem m_findPlan (l : Launch) (D : va_G) (ty : Nat → ClassId) (o : Nat) (ad : Nat → Nat) (σ : Sg) (T : Nat) (hT : T ≤ 6) (h5 : σ 5 0 = nI T) (G : Nat) (hG : G ≤ 8) (h16 : σ 16 0 = nI G) : mKv l yX1_findPlan cX1_findPlan 3 3 D ty o ad σ [] (fun τ => τ = mPlan σ (min G 6) T) := by
  refine Kv.of (by decide) (Nat.le_of_ble_eq_true rfl) ?_
  intro p e s m below meth c A ls args E hK hA hX hlk hr hnm I hl
  have hx := E.1
  have hb := E.2.1
  have hl : lv_has ls 3 [(0, .ref o)] := hl
  refine nameQ (fun Q hQ => ?_)
  refine lv_aload_n hx hb dX1_findPlan_0 rfl (lv_at hl 0 rfl) ?_
  refine m_ci E hK hA I (m_planned l D ty o ad σ G hG h16) go_m_planned dc_m_planned ⟨Nat.le_of_ble_eq_true rfl, Nat.le_of_ble_eq_true rfl⟩ ⟨Nat.le_refl 0, Nat.le_refl 0⟩ hl.1 (Nat.le_of_ble_eq_true rfl) rfl dX1_findPlan_1 (fun r1 σ1 H locs hp I => ?_)
  refine top_i (y := nI (min G 6)) hp.1 ?_
  have I := m_as I hp.2
  obtain ⟨n, hn⟩ : ∃ n, n = min G 6 := ⟨_, rfl⟩
  rw [← hn] at hQ
  refine top_i (y := nI n) (by rw [hn]) ?_
  refine lv_istore_n (lv' := [(1, .int (nI n)), (0, .ref o)]) hx hb dX1_findPlan_4 rfl hl (by decide) rfl (fun ls hl => ?_)
  refine lv_aload_n hx hb dX1_findPlan_5 rfl (lv_at hl 1 rfl) ?_
  refine lv_iconst (v := (-1)) hx hb dX1_findPlan_6 (by decide) ?_
  refine m_put E hK I 43 rfl rfl q1158 rfl rfl rfl dX1_findPlan_7 (fun H locs I => ?_)
  refine lv_iload_n hx hb dX1_findPlan_10 rfl (lv_at hl 0 rfl) ?_
  refine lv_if_ne (tgt := 20) hx hb dX1_findPlan_11 (by decide) (fun c11 => ?_) (fun c11 => ?_)
  · refine lv_iconst (v := 0) hx hb dX1_findPlan_20 (by decide) ?_
    refine lv_istore_n (lv' := [(2, .int 0), (1, .int (nI n)), (0, .ref o)]) hx hb dX1_findPlan_21 rfl hl (by decide) rfl (fun ls hl => ?_)
    refine lv_aload_n hx hb dX1_findPlan_22 rfl (lv_at hl 2 rfl) ?_
    refine m_get E hK I 41 rfl q1156 rfl dX1_findPlan_23 ?_
    refine lv_iconst (v := 0) hx hb dX1_findPlan_26 (by decide) ?_
    refine lv_iconst (v := (-1)) hx hb dX1_findPlan_27 (by decide) ?_
    refine top_2 (y := nI 0) rfl ?_
    refine m_ast (i := 0) E hK I 26 rfl rfl rfl dX1_findPlan_28 (by simp only [mLn]; omega) (fun H locs I => ?_)
    have hn0 : 0 < n := by rcases Nat.eq_zero_or_pos n with h | h; exact absurd (by rw [h]; decide) c11; exact h
    have C : ∀ r g, g + r + 1 = n → ∀ s0 : Sg, s0 5 0 = nI T → (∀ (H : Heap) (locs : List Loc) (ls : Array Slot), gI s D A (mW ty o ad (plE T n (r + 1) g s0)) H locs → lv_has ls 3 [(0, .ref o), (1, .int (nI n)), (2, .int (nI g - 1))] → W p l e (rmL 3) s m args below meth c H locs 0 0 Q (F0 m 29 ls [])) → ∀ (H : Heap) (locs : List Loc) (ls : Array Slot), gI s D A (mW ty o ad (up s0 41 g (-1))) H locs → lv_has ls 3 [(0, .ref o), (1, .int (nI n)), (2, .int (nI g))] → W p l e (rmL 3) s m args below meth c H locs 0 0 Q (F0 m 29 ls []) := by
      intro r
      induction r with
      | zero =>
        intro g hgr s0 h50 cont
        have hg6 : g < 6 := by omega
        have f5 : ∀ k, fo (plF T n (plE T n 0) g) k s0 5 0 = nI T := fun k => (congrFun (fo_k (fun i z => plF_k (by omega) T n 0 g i z) k s0) 0).trans h50
        have B : ∀ k, k ≤ T + 1 → ∀ (H : Heap) (locs : List Loc) (ls : Array Slot), gI s D A (mW ty o ad (up (fo (plF T n (plE T n 0) g) k s0) 41 g (nI k))) H locs → lv_has ls 3 [(0, .ref o), (1, .int (nI n)), (2, .int (nI g))] → W p l e (rmL 3) s m args below meth c H locs 0 0 Q (F0 m 43 ls []) := by
          refine dn_ind (T + 1) ?_ ?_
          · intro H locs ls I hl
            refine lv_aload_n hx hb dX1_findPlan_43 rfl (lv_at hl 0 rfl) ?_
            refine m_get E hK I 41 rfl q1156 rfl dX1_findPlan_44 ?_
            refine lv_iload_n hx hb dX1_findPlan_47 rfl (lv_at hl 2 rfl) ?_
            refine m_ald (i := g) E hK I 26 rfl rfl rfl dX1_findPlan_48 (by simp only [mLn]; omega) ?_
            refine top_i (y := nI (T + 1)) (up_s _ _ _ _) ?_
            refine lv_aload_n hx hb dX1_findPlan_49 rfl (lv_at hl 0 rfl) ?_
            refine m_get (v := .int (nI T)) E hK I 5 rfl q1120 (congrArg Value.int ((up_k (by decide) _ _ _ _).trans (f5 _))) dX1_findPlan_50 ?_
            refine lv_icmp_gt (tgt := 83) hx hb dX1_findPlan_53 (by decide) (fun c53 => ?_) (fun c53 => absurd c53 (fun h => h (nI_lt (by omega) (by omega))))
            refine lv_aload_n hx hb dX1_findPlan_83 rfl (lv_at hl 0 rfl) ?_
            refine m_get E hK I 41 rfl q1156 rfl dX1_findPlan_84 ?_
            refine lv_iload_n hx hb dX1_findPlan_87 rfl (lv_at hl 2 rfl) ?_
            refine m_ald (i := g) E hK I 26 rfl rfl rfl dX1_findPlan_88 (by simp only [mLn]; omega) ?_
            refine top_i (y := nI (T + 1)) (up_s _ _ _ _) ?_
            refine lv_aload_n hx hb dX1_findPlan_89 rfl (lv_at hl 0 rfl) ?_
            refine m_get (v := .int (nI T)) E hK I 5 rfl q1120 (congrArg Value.int ((up_k (by decide) _ _ _ _).trans (f5 _))) dX1_findPlan_90 ?_
            refine lv_icmp_le (tgt := 102) hx hb dX1_findPlan_93 (by decide) (fun c93 => absurd c93 (nI_ge (by omega) (by omega))) (fun c93 => ?_)
            refine lv_iinc (v := (nI g - 1)) (lv' := [(2, .int (nI g - 1)), (0, .ref o), (1, .int (nI n))]) hx hb dX1_findPlan_96 hl (k := 2) rfl (nI_dec g) (by decide) rfl (fun ls hl => ?_)
            refine lv_goto (tgt := 29) hx hb dX1_findPlan_99 (by decide) ?_
            exact cont _ _ ls I (lv_sub (l' := [(0, .ref o), (1, .int (nI n)), (2, .int (nI g - 1))]) hl [1, 2, 0] rfl)
          · intro k hc ihc H locs ls I hl
            obtain ⟨s1, hs1⟩ : ∃ z, z = up (fo (plF T n (plE T n 0) g) k s0) 41 g (nI k) := ⟨_, rfl⟩
            have I := m_as I hs1.symm
            have g5 : s1 5 0 = nI T := by rw [hs1]; exact (up_k (by decide) _ _ _ _).trans (f5 _)
            have gc : s1 41 g = nI k := by rw [hs1]; exact up_s _ _ _ _
            refine lv_aload_n hx hb dX1_findPlan_43 rfl (lv_at hl 0 rfl) ?_
            refine m_get E hK I 41 rfl q1156 rfl dX1_findPlan_44 ?_
            refine lv_iload_n hx hb dX1_findPlan_47 rfl (lv_at hl 2 rfl) ?_
            refine m_ald (i := g) E hK I 26 rfl rfl rfl dX1_findPlan_48 (by simp only [mLn]; omega) ?_
            refine top_i (y := nI k) (gc) ?_
            refine lv_aload_n hx hb dX1_findPlan_49 rfl (lv_at hl 0 rfl) ?_
            refine m_get (v := .int (nI T)) E hK I 5 rfl q1120 (congrArg Value.int (g5)) dX1_findPlan_50 ?_
            refine lv_icmp_gt (tgt := 83) hx hb dX1_findPlan_53 (by decide) (fun c53 => absurd c53 (nI_nlt (by omega) (by omega))) (fun c53 => ?_)
            refine lv_aload_n hx hb dX1_findPlan_56 rfl (lv_at hl 0 rfl) ?_
            refine lv_iload_n hx hb dX1_findPlan_57 rfl (lv_at hl 2 rfl) ?_
            refine lv_aload_n hx hb dX1_findPlan_58 rfl (lv_at hl 0 rfl) ?_
            refine m_get E hK I 41 rfl q1156 rfl dX1_findPlan_59 ?_
            refine lv_iload_n hx hb dX1_findPlan_62 rfl (lv_at hl 2 rfl) ?_
            refine m_ald (i := g) E hK I 26 rfl rfl rfl dX1_findPlan_63 (by simp only [mLn]; omega) ?_
            refine top_i (y := nI k) (gc) ?_
            refine m_ci E hK hA I (m_maySit l D ty o ad s1 g k hg6 T hT g5 (by omega)) go_m_maySit dc_m_maySit ⟨Nat.le_of_ble_eq_true rfl, Nat.le_of_ble_eq_true rfl⟩ ⟨Nat.le_refl 0, Nat.le_refl 0⟩ hl.1 (Nat.le_of_ble_eq_true rfl) rfl dX1_findPlan_64 (fun r64 σ64 H locs hp I => ?_)
            refine top_i (y := bI (mMay s1 g k T)) hp.1 ?_
            have I := m_as I hp.2
            refine b_ne (tgt := 83) hx hb dX1_findPlan_67 (by decide) (fun c67 => ?_) (fun c67 => ?_)
            · refine lv_aload_n hx hb dX1_findPlan_83 rfl (lv_at hl 0 rfl) ?_
              refine m_get E hK I 41 rfl q1156 rfl dX1_findPlan_84 ?_
              refine lv_iload_n hx hb dX1_findPlan_87 rfl (lv_at hl 2 rfl) ?_
              refine m_ald (i := g) E hK I 26 rfl rfl rfl dX1_findPlan_88 (by simp only [mLn]; omega) ?_
              refine top_i (y := nI k) (gc) ?_
              refine lv_aload_n hx hb dX1_findPlan_89 rfl (lv_at hl 0 rfl) ?_
              refine m_get (v := .int (nI T)) E hK I 5 rfl q1120 (congrArg Value.int (g5)) dX1_findPlan_90 ?_
              refine lv_icmp_le (tgt := 102) hx hb dX1_findPlan_93 (by decide) (fun c93 => ?_) (fun c93 => absurd c93 (fun h => h (nI_le (by omega) (by omega))))
              refine lv_iload_n hx hb dX1_findPlan_102 rfl (lv_at hl 2 rfl) ?_
              refine lv_iload_n hx hb dX1_findPlan_103 rfl (lv_at hl 1 rfl) ?_
              refine lv_iconst (v := 1) hx hb dX1_findPlan_104 (by decide) ?_
              refine lv_isub hx hb dX1_findPlan_105 ?_
              refine top_i (y := nI (n - 1)) (nI_p hn0) ?_
              refine lv_icmp_ge (tgt := 122) hx hb dX1_findPlan_106 (by decide) (fun c106 => ?_) (fun c106 => absurd c106 (fun h => h (nI_le (by omega) (by omega))))
              refine lv_aload_n hx hb dX1_findPlan_122 rfl (lv_at hl 0 rfl) ?_
              refine lv_iload_n hx hb dX1_findPlan_123 rfl (lv_at hl 1 rfl) ?_
              refine m_cv E hK hA I (m_offer l D ty o ad s1 n (by omega) T hT g5) go_m_offer dc_m_offer ⟨Nat.le_of_ble_eq_true rfl, Nat.le_of_ble_eq_true rfl⟩ ⟨Nat.le_refl 0, Nat.le_refl 0⟩ hl.1 (Nat.le_of_ble_eq_true rfl) rfl dX1_findPlan_124 (fun σ124 H locs hp I => ?_)
              have I := m_as I hp
              refine lv_goto (tgt := 29) hx hb dX1_findPlan_127 (by decide) ?_
              have I := m_as I (show _ = fo (plF T n (plE T n 0) g) (k + 1) s0 by show _ = plF T n (plE T n 0) g k _; rw [plF, ← hs1, c67]; rfl)
              have hZ : fo (plF T n (plE T n 0) g) (k + 1) s0 41 g = nI k := by show plF T n (plE T n 0) g k _ 41 g = _; rw [plF, ← hs1, c67]; exact (congrFun (mOffer_k (by omega) s1 n T) g).trans gc
              refine lv_iload_n hx hb dX1_findPlan_29 rfl (lv_at hl 2 rfl) ?_
              refine lv_if_lt (tgt := 130) hx hb dX1_findPlan_30 (by decide) (fun c30 => absurd c30 (nI_pos (by omega))) (fun c30 => ?_)
              refine lv_aload_n hx hb dX1_findPlan_33 rfl (lv_at hl 0 rfl) ?_
              refine m_get E hK I 41 rfl q1156 rfl dX1_findPlan_34 ?_
              refine lv_iload_n hx hb dX1_findPlan_37 rfl (lv_at hl 2 rfl) ?_
              refine lv_dup2_11 hx hb dX1_findPlan_38 rfl rfl ?_
              refine m_ald (i := g) E hK I 26 rfl rfl rfl dX1_findPlan_39 (by simp only [mLn]; omega) ?_
              refine lv_iconst (v := 1) hx hb dX1_findPlan_40 (by decide) ?_
              refine lv_iadd hx hb dX1_findPlan_41 ?_
              refine top_i (y := nI (k + 1)) (by rw [hZ]; exact nI_1 k) ?_
              refine m_ast (i := g) E hK I 26 rfl rfl rfl dX1_findPlan_42 (by simp only [mLn]; omega) (fun H locs I => ?_)
              exact ihc _ _ ls I (lv_sub (l' := [(0, .ref o), (1, .int (nI n)), (2, .int (nI g))]) hl [0, 1, 2] rfl)
            · refine lv_aload_n hx hb dX1_findPlan_70 rfl (lv_at hl 0 rfl) ?_
              refine m_get E hK I 41 rfl q1156 rfl dX1_findPlan_71 ?_
              refine lv_iload_n hx hb dX1_findPlan_74 rfl (lv_at hl 2 rfl) ?_
              refine lv_dup2_11 hx hb dX1_findPlan_75 rfl rfl ?_
              refine m_ald (i := g) E hK I 26 rfl rfl rfl dX1_findPlan_76 (by simp only [mLn]; omega) ?_
              refine lv_iconst (v := 1) hx hb dX1_findPlan_77 (by decide) ?_
              refine lv_iadd hx hb dX1_findPlan_78 ?_
              refine top_i (y := nI (k + 1)) (by rw [gc]; exact nI_1 k) ?_
              refine m_ast (i := g) E hK I 26 rfl rfl rfl dX1_findPlan_79 (by simp only [mLn]; omega) (fun H locs I => ?_)
              refine lv_goto (tgt := 43) hx hb dX1_findPlan_80 (by decide) ?_
              exact ihc _ _ ls (m_as I (by show _ = up (plF T n (plE T n 0) g k (fo (plF T n (plE T n 0) g) k s0)) 41 g (nI (k + 1)); rw [plF, ← hs1, c67]; rfl)) (lv_sub (l' := [(0, .ref o), (1, .int (nI n)), (2, .int (nI g))]) hl [0, 1, 2] rfl)
        intro H locs ls I hl
        refine lv_iload_n hx hb dX1_findPlan_29 rfl (lv_at hl 2 rfl) ?_
        refine lv_if_lt (tgt := 130) hx hb dX1_findPlan_30 (by decide) (fun c30 => absurd c30 (nI_pos (by omega))) (fun c30 => ?_)
        refine lv_aload_n hx hb dX1_findPlan_33 rfl (lv_at hl 0 rfl) ?_
        refine m_get E hK I 41 rfl q1156 rfl dX1_findPlan_34 ?_
        refine lv_iload_n hx hb dX1_findPlan_37 rfl (lv_at hl 2 rfl) ?_
        refine lv_dup2_11 hx hb dX1_findPlan_38 rfl rfl ?_
        refine m_ald (i := g) E hK I 26 rfl rfl rfl dX1_findPlan_39 (by simp only [mLn]; omega) ?_
        refine lv_iconst (v := 1) hx hb dX1_findPlan_40 (by decide) ?_
        refine lv_iadd hx hb dX1_findPlan_41 ?_
        refine top_i (y := nI 0) (by rw [up_s]; decide) ?_
        refine m_ast (i := g) E hK I 26 rfl rfl rfl dX1_findPlan_42 (by simp only [mLn]; omega) (fun H locs I => ?_)
        exact B 0 (by omega) _ _ ls (m_as I (up_up _ _ _ _ _)) (lv_sub (l' := [(0, .ref o), (1, .int (nI n)), (2, .int (nI g))]) hl [0, 1, 2] rfl)
      | succ r ihr =>
        intro g hgr s0 h50 cont
        have hg6 : g < 6 := by omega
        have f5 : ∀ k, fo (plF T n (plE T n (r + 1)) g) k s0 5 0 = nI T := fun k => (congrFun (fo_k (fun i z => plF_k (by omega) T n (r + 1) g i z) k s0) 0).trans h50
        have B : ∀ k, k ≤ T + 1 → ∀ (H : Heap) (locs : List Loc) (ls : Array Slot), gI s D A (mW ty o ad (up (fo (plF T n (plE T n (r + 1)) g) k s0) 41 g (nI k))) H locs → lv_has ls 3 [(0, .ref o), (1, .int (nI n)), (2, .int (nI g))] → W p l e (rmL 3) s m args below meth c H locs 0 0 Q (F0 m 43 ls []) := by
          refine dn_ind (T + 1) ?_ ?_
          · intro H locs ls I hl
            refine lv_aload_n hx hb dX1_findPlan_43 rfl (lv_at hl 0 rfl) ?_
            refine m_get E hK I 41 rfl q1156 rfl dX1_findPlan_44 ?_
            refine lv_iload_n hx hb dX1_findPlan_47 rfl (lv_at hl 2 rfl) ?_
            refine m_ald (i := g) E hK I 26 rfl rfl rfl dX1_findPlan_48 (by simp only [mLn]; omega) ?_
            refine top_i (y := nI (T + 1)) (up_s _ _ _ _) ?_
            refine lv_aload_n hx hb dX1_findPlan_49 rfl (lv_at hl 0 rfl) ?_
            refine m_get (v := .int (nI T)) E hK I 5 rfl q1120 (congrArg Value.int ((up_k (by decide) _ _ _ _).trans (f5 _))) dX1_findPlan_50 ?_
            refine lv_icmp_gt (tgt := 83) hx hb dX1_findPlan_53 (by decide) (fun c53 => ?_) (fun c53 => absurd c53 (fun h => h (nI_lt (by omega) (by omega))))
            refine lv_aload_n hx hb dX1_findPlan_83 rfl (lv_at hl 0 rfl) ?_
            refine m_get E hK I 41 rfl q1156 rfl dX1_findPlan_84 ?_
            refine lv_iload_n hx hb dX1_findPlan_87 rfl (lv_at hl 2 rfl) ?_
            refine m_ald (i := g) E hK I 26 rfl rfl rfl dX1_findPlan_88 (by simp only [mLn]; omega) ?_
            refine top_i (y := nI (T + 1)) (up_s _ _ _ _) ?_
            refine lv_aload_n hx hb dX1_findPlan_89 rfl (lv_at hl 0 rfl) ?_
            refine m_get (v := .int (nI T)) E hK I 5 rfl q1120 (congrArg Value.int ((up_k (by decide) _ _ _ _).trans (f5 _))) dX1_findPlan_90 ?_
            refine lv_icmp_le (tgt := 102) hx hb dX1_findPlan_93 (by decide) (fun c93 => absurd c93 (nI_ge (by omega) (by omega))) (fun c93 => ?_)
            refine lv_iinc (v := (nI g - 1)) (lv' := [(2, .int (nI g - 1)), (0, .ref o), (1, .int (nI n))]) hx hb dX1_findPlan_96 hl (k := 2) rfl (nI_dec g) (by decide) rfl (fun ls hl => ?_)
            refine lv_goto (tgt := 29) hx hb dX1_findPlan_99 (by decide) ?_
            exact cont _ _ ls I (lv_sub (l' := [(0, .ref o), (1, .int (nI n)), (2, .int (nI g - 1))]) hl [1, 2, 0] rfl)
          · intro k hc ihc H locs ls I hl
            obtain ⟨s1, hs1⟩ : ∃ z, z = up (fo (plF T n (plE T n (r + 1)) g) k s0) 41 g (nI k) := ⟨_, rfl⟩
            have I := m_as I hs1.symm
            have g5 : s1 5 0 = nI T := by rw [hs1]; exact (up_k (by decide) _ _ _ _).trans (f5 _)
            have gc : s1 41 g = nI k := by rw [hs1]; exact up_s _ _ _ _
            refine lv_aload_n hx hb dX1_findPlan_43 rfl (lv_at hl 0 rfl) ?_
            refine m_get E hK I 41 rfl q1156 rfl dX1_findPlan_44 ?_
            refine lv_iload_n hx hb dX1_findPlan_47 rfl (lv_at hl 2 rfl) ?_
            refine m_ald (i := g) E hK I 26 rfl rfl rfl dX1_findPlan_48 (by simp only [mLn]; omega) ?_
            refine top_i (y := nI k) (gc) ?_
            refine lv_aload_n hx hb dX1_findPlan_49 rfl (lv_at hl 0 rfl) ?_
            refine m_get (v := .int (nI T)) E hK I 5 rfl q1120 (congrArg Value.int (g5)) dX1_findPlan_50 ?_
            refine lv_icmp_gt (tgt := 83) hx hb dX1_findPlan_53 (by decide) (fun c53 => absurd c53 (nI_nlt (by omega) (by omega))) (fun c53 => ?_)
            refine lv_aload_n hx hb dX1_findPlan_56 rfl (lv_at hl 0 rfl) ?_
            refine lv_iload_n hx hb dX1_findPlan_57 rfl (lv_at hl 2 rfl) ?_
            refine lv_aload_n hx hb dX1_findPlan_58 rfl (lv_at hl 0 rfl) ?_
            refine m_get E hK I 41 rfl q1156 rfl dX1_findPlan_59 ?_
            refine lv_iload_n hx hb dX1_findPlan_62 rfl (lv_at hl 2 rfl) ?_
            refine m_ald (i := g) E hK I 26 rfl rfl rfl dX1_findPlan_63 (by simp only [mLn]; omega) ?_
            refine top_i (y := nI k) (gc) ?_
            refine m_ci E hK hA I (m_maySit l D ty o ad s1 g k hg6 T hT g5 (by omega)) go_m_maySit dc_m_maySit ⟨Nat.le_of_ble_eq_true rfl, Nat.le_of_ble_eq_true rfl⟩ ⟨Nat.le_refl 0, Nat.le_refl 0⟩ hl.1 (Nat.le_of_ble_eq_true rfl) rfl dX1_findPlan_64 (fun r64 σ64 H locs hp I => ?_)
            refine top_i (y := bI (mMay s1 g k T)) hp.1 ?_
            have I := m_as I hp.2
            refine b_ne (tgt := 83) hx hb dX1_findPlan_67 (by decide) (fun c67 => ?_) (fun c67 => ?_)
            · refine lv_aload_n hx hb dX1_findPlan_83 rfl (lv_at hl 0 rfl) ?_
              refine m_get E hK I 41 rfl q1156 rfl dX1_findPlan_84 ?_
              refine lv_iload_n hx hb dX1_findPlan_87 rfl (lv_at hl 2 rfl) ?_
              refine m_ald (i := g) E hK I 26 rfl rfl rfl dX1_findPlan_88 (by simp only [mLn]; omega) ?_
              refine top_i (y := nI k) (gc) ?_
              refine lv_aload_n hx hb dX1_findPlan_89 rfl (lv_at hl 0 rfl) ?_
              refine m_get (v := .int (nI T)) E hK I 5 rfl q1120 (congrArg Value.int (g5)) dX1_findPlan_90 ?_
              refine lv_icmp_le (tgt := 102) hx hb dX1_findPlan_93 (by decide) (fun c93 => ?_) (fun c93 => absurd c93 (fun h => h (nI_le (by omega) (by omega))))
              refine lv_iload_n hx hb dX1_findPlan_102 rfl (lv_at hl 2 rfl) ?_
              refine lv_iload_n hx hb dX1_findPlan_103 rfl (lv_at hl 1 rfl) ?_
              refine lv_iconst (v := 1) hx hb dX1_findPlan_104 (by decide) ?_
              refine lv_isub hx hb dX1_findPlan_105 ?_
              refine top_i (y := nI (n - 1)) (nI_p hn0) ?_
              refine lv_icmp_ge (tgt := 122) hx hb dX1_findPlan_106 (by decide) (fun c106 => absurd c106 (nI_ge (by omega) (by omega))) (fun c106 => ?_)
              refine lv_iinc (v := nI (g + 1)) (lv' := [(2, .int (nI (g + 1))), (0, .ref o), (1, .int (nI n))]) hx hb dX1_findPlan_109 hl (k := 2) rfl (nI_1 _) (by decide) rfl (fun ls hl => ?_)
              refine lv_aload_n hx hb dX1_findPlan_112 rfl (lv_at hl 1 rfl) ?_
              refine m_get E hK I 41 rfl q1156 rfl dX1_findPlan_113 ?_
              refine lv_iload_n hx hb dX1_findPlan_116 rfl (lv_at hl 0 rfl) ?_
              refine lv_iconst (v := (-1)) hx hb dX1_findPlan_117 (by decide) ?_
              refine m_ast (i := (g + 1)) E hK I 26 rfl rfl rfl dX1_findPlan_118 (by simp only [mLn]; omega) (fun H locs I => ?_)
              refine lv_goto (tgt := 29) hx hb dX1_findPlan_119 (by decide) ?_
              refine ihr (g + 1) (by omega) s1 g5 ?_ _ _ ls I (lv_sub (l' := [(0, .ref o), (1, .int (nI n)), (2, .int (nI (g + 1)))]) hl [1, 2, 0] rfl)
              intro H locs ls I hl
              have hl := lv_as (L' := [(0, .ref o), (1, .int (nI n)), (2, .int (nI g))]) hl (by rw [nI_m1])
              have I := m_as I (show _ = fo (plF T n (plE T n (r + 1)) g) (k + 1) s0 by show _ = plF T n (plE T n (r + 1)) g k _; rw [plF, ← hs1, c67]; rfl)
              have hZ : fo (plF T n (plE T n (r + 1)) g) (k + 1) s0 41 g = nI k := by show plF T n (plE T n (r + 1)) g k _ 41 g = _; rw [plF, ← hs1, c67]; exact (plE_c T n (r + 1) (g + 1) g s1 (by omega)).trans gc
              refine lv_iload_n hx hb dX1_findPlan_29 rfl (lv_at hl 2 rfl) ?_
              refine lv_if_lt (tgt := 130) hx hb dX1_findPlan_30 (by decide) (fun c30 => absurd c30 (nI_pos (by omega))) (fun c30 => ?_)
              refine lv_aload_n hx hb dX1_findPlan_33 rfl (lv_at hl 0 rfl) ?_
              refine m_get E hK I 41 rfl q1156 rfl dX1_findPlan_34 ?_
              refine lv_iload_n hx hb dX1_findPlan_37 rfl (lv_at hl 2 rfl) ?_
              refine lv_dup2_11 hx hb dX1_findPlan_38 rfl rfl ?_
              refine m_ald (i := g) E hK I 26 rfl rfl rfl dX1_findPlan_39 (by simp only [mLn]; omega) ?_
              refine lv_iconst (v := 1) hx hb dX1_findPlan_40 (by decide) ?_
              refine lv_iadd hx hb dX1_findPlan_41 ?_
              refine top_i (y := nI (k + 1)) (by rw [hZ]; exact nI_1 k) ?_
              refine m_ast (i := g) E hK I 26 rfl rfl rfl dX1_findPlan_42 (by simp only [mLn]; omega) (fun H locs I => ?_)
              exact ihc _ _ ls I (lv_sub (l' := [(0, .ref o), (1, .int (nI n)), (2, .int (nI g))]) hl [0, 1, 2] rfl)
            · refine lv_aload_n hx hb dX1_findPlan_70 rfl (lv_at hl 0 rfl) ?_
              refine m_get E hK I 41 rfl q1156 rfl dX1_findPlan_71 ?_
              refine lv_iload_n hx hb dX1_findPlan_74 rfl (lv_at hl 2 rfl) ?_
              refine lv_dup2_11 hx hb dX1_findPlan_75 rfl rfl ?_
              refine m_ald (i := g) E hK I 26 rfl rfl rfl dX1_findPlan_76 (by simp only [mLn]; omega) ?_
              refine lv_iconst (v := 1) hx hb dX1_findPlan_77 (by decide) ?_
              refine lv_iadd hx hb dX1_findPlan_78 ?_
              refine top_i (y := nI (k + 1)) (by rw [gc]; exact nI_1 k) ?_
              refine m_ast (i := g) E hK I 26 rfl rfl rfl dX1_findPlan_79 (by simp only [mLn]; omega) (fun H locs I => ?_)
              refine lv_goto (tgt := 43) hx hb dX1_findPlan_80 (by decide) ?_
              exact ihc _ _ ls (m_as I (by show _ = up (plF T n (plE T n (r + 1)) g k (fo (plF T n (plE T n (r + 1)) g) k s0)) 41 g (nI (k + 1)); rw [plF, ← hs1, c67]; rfl)) (lv_sub (l' := [(0, .ref o), (1, .int (nI n)), (2, .int (nI g))]) hl [0, 1, 2] rfl)
        intro H locs ls I hl
        refine lv_iload_n hx hb dX1_findPlan_29 rfl (lv_at hl 2 rfl) ?_
        refine lv_if_lt (tgt := 130) hx hb dX1_findPlan_30 (by decide) (fun c30 => absurd c30 (nI_pos (by omega))) (fun c30 => ?_)
        refine lv_aload_n hx hb dX1_findPlan_33 rfl (lv_at hl 0 rfl) ?_
        refine m_get E hK I 41 rfl q1156 rfl dX1_findPlan_34 ?_
        refine lv_iload_n hx hb dX1_findPlan_37 rfl (lv_at hl 2 rfl) ?_
        refine lv_dup2_11 hx hb dX1_findPlan_38 rfl rfl ?_
        refine m_ald (i := g) E hK I 26 rfl rfl rfl dX1_findPlan_39 (by simp only [mLn]; omega) ?_
        refine lv_iconst (v := 1) hx hb dX1_findPlan_40 (by decide) ?_
        refine lv_iadd hx hb dX1_findPlan_41 ?_
        refine top_i (y := nI 0) (by rw [up_s]; decide) ?_
        refine m_ast (i := g) E hK I 26 rfl rfl rfl dX1_findPlan_42 (by simp only [mLn]; omega) (fun H locs I => ?_)
        exact B 0 (by omega) _ _ ls (m_as I (up_up _ _ _ _ _)) (lv_sub (l' := [(0, .ref o), (1, .int (nI n)), (2, .int (nI g))]) hl [0, 1, 2] rfl)
    refine C (n - 1) 0 (by omega) (up σ 43 0 (-1)) ((up_k (by decide) _ _ _ _).trans h5) ?_ _ _ ls I (lv_sub (l' := [(0, .ref o), (1, .int (nI n)), (2, .int 0)]) hl [2, 1, 0] rfl)
    intro H locs ls I hl
    refine lv_iload_n hx hb dX1_findPlan_29 rfl (lv_at hl 2 rfl) ?_
    refine lv_if_lt (tgt := 130) hx hb dX1_findPlan_30 (by decide) (fun c30 => ?_) (fun c30 => absurd c30 (fun h => h (by decide)))
    subst hQ
    exact r_v E hlk hr I (Nat.le_refl 0) (Nat.le_refl 0) dX1_findPlan_130 (by rw [mPlan, if_neg (by omega), show n - 1 + 1 = n by omega])
  · refine lv_aload_n hx hb dX1_findPlan_14 rfl (lv_at hl 1 rfl) ?_
    refine lv_iconst (v := 0) hx hb dX1_findPlan_15 (by decide) ?_
    refine m_put E hK I 43 rfl rfl q1158 rfl rfl rfl dX1_findPlan_16 (fun H locs I => ?_)
    subst hQ
    exact r_v E hlk hr I (Nat.le_refl 0) (Nat.le_refl 0) dX1_findPlan_19 (by rw [mPlan, if_pos ((nI_i (a := n) (b := 0) (by omega) (by omega)).mp c11)])
theorem dc_m_findPlan : yX1_findPlan.cls = RX1 ∧ yX1_findPlan.cls ≠ "java/lang/invoke/MethodHandle" ∧ yX1_findPlan.cls ≠ "java/lang/invoke/VarHandle" ∧ (parseMethodDescriptor yX1_findPlan.desc).map (fun d => d.parameters.length) = some 0 := by decide +kernel
theorem go_m_findPlan : GoodIn lw_all (wsV RX1 257 RX1 yX1_findPlan (ws_ yX1_findPlan cX1_findPlan 3 none)) := lw_V q1427 q1429 qs63 q75 q1430
theorem wi_q {q : Int32} {n : Nat} (hn : n ≤ 6) (h : wi q (-1) (nI n - 1) = true) (h0 : 0 ≤ q) : ∃ j : Nat, j < n ∧ q = nI j := by
  refine wi_idx (by omega) ?_
  simp only [wi, Bool.and_eq_true, Bool.not_eq_true', decide_eq_false_iff_not] at h ⊢
  exact ⟨Int32.not_lt.mpr h0, h.2⟩
theorem m_plan (l : Launch) (D : va_G) (ty : Nat → ClassId) (o : Nat) (ad : Nat → Nat) (σ : Sg) (q : Int32) (T : Nat) (hT : T ≤ 6) (h5 : σ 5 0 = nI T) (G : Nat) (hG : G ≤ 8) (h16 : σ 16 0 = nI G) : mKi l yX1_plan cX1_plan 2 .int 4 D ty o ad σ [.int q] (fun r τ => r = (if wi q (-1) (nI (min G 6) - 1) then (if mCafe σ then (if 0 ≤ q then mPlan σ (min G 6) T 42 (q).toNatClampNeg else mPlan σ (min G 6) T 43 0) else (-3)) else (-1)) ∧ τ = if wi q (-1) (nI (min G 6) - 1) && mCafe σ then mPlan σ (min G 6) T else σ) := by
  refine Ki.of (by decide) (Nat.le_of_ble_eq_true rfl) ?_
  intro p e s m below meth c A ls args E hK hA hX hlk hr I hl
  have hx := E.1
  have hb := E.2.1
  have hl : lv_has ls 2 [(0, .ref o), (1, .int q)] := hl
  refine lv_iload_n hx hb dX1_plan_0 rfl (lv_at hl 1 rfl) ?_
  refine lv_iconst (v := (-1)) hx hb dX1_plan_1 (by decide) ?_
  refine lv_aload_n hx hb dX1_plan_2 rfl (lv_at hl 0 rfl) ?_
  refine m_ci E hK hA I (m_planned l D ty o ad σ G hG h16) go_m_planned dc_m_planned ⟨Nat.le_of_ble_eq_true rfl, Nat.le_of_ble_eq_true rfl⟩ ⟨Nat.le_refl 0, Nat.le_refl 0⟩ hl.1 (Nat.le_of_ble_eq_true rfl) rfl dX1_plan_3 (fun r3 σ3 H locs hp I => ?_)
  refine top_i (y := nI (min G 6)) hp.1 ?_
  have I := m_as I hp.2
  refine lv_iconst (v := 1) hx hb dX1_plan_6 (by decide) ?_
  refine lv_isub hx hb dX1_plan_7 ?_
  refine c_Si E (m_within l q (-1) ((nI (min G 6)) - 1)) go_m_within ⟨rfl, rfl⟩ dc_m_within ⟨Nat.le_of_ble_eq_true rfl, Nat.le_of_ble_eq_true rfl⟩ ⟨Nat.le_refl 0, Nat.le_refl 0⟩ hl.1 (Nat.le_of_ble_eq_true rfl) rfl dX1_plan_8 (fun r8 hp => ?_)
  refine top_i (y := bI (wi q (-1) ((nI (min G 6)) - 1))) hp ?_
  refine b_ne (tgt := 16) hx hb dX1_plan_11 (by decide) (fun c11 => ?_) (fun c11 => ?_)
  · refine lv_aload_n hx hb dX1_plan_16 rfl (lv_at hl 0 rfl) ?_
    refine m_ci E hK hA I (m_isCafe l D ty o ad σ) go_m_isCafe dc_m_isCafe ⟨Nat.le_of_ble_eq_true rfl, Nat.le_of_ble_eq_true rfl⟩ ⟨Nat.le_refl 0, Nat.le_refl 0⟩ hl.1 (Nat.le_of_ble_eq_true rfl) rfl dX1_plan_17 (fun r17 σ17 H locs hp I => ?_)
    refine top_i (y := bI (mCafe σ)) hp.1 ?_
    have I := m_as I hp.2
    refine b_ne (tgt := 26) hx hb dX1_plan_20 (by decide) (fun c20 => ?_) (fun c20 => ?_)
    · refine lv_aload_n hx hb dX1_plan_26 rfl (lv_at hl 0 rfl) ?_
      refine m_cv E hK hA I (m_findPlan l D ty o ad σ T hT h5 G hG h16) go_m_findPlan dc_m_findPlan ⟨Nat.le_of_ble_eq_true rfl, Nat.le_of_ble_eq_true rfl⟩ ⟨Nat.le_refl 0, Nat.le_refl 0⟩ hl.1 (Nat.le_of_ble_eq_true rfl) rfl dX1_plan_27 (fun σ27 H locs hp I => ?_)
      have I := m_as I hp
      obtain ⟨s1, hs1⟩ : ∃ z, z = mPlan σ (min G 6) T := ⟨_, rfl⟩
      have I := m_as I hs1.symm
      refine lv_iload_n hx hb dX1_plan_30 rfl (lv_at hl 1 rfl) ?_
      refine lv_if_ge (tgt := 41) hx hb dX1_plan_31 (by decide) (fun c31 => ?_) (fun c31 => ?_)
      · obtain ⟨j, hj, ej⟩ := wi_q (by omega) c11 c31
        subst ej
        refine lv_aload_n hx hb dX1_plan_41 rfl (lv_at hl 0 rfl) ?_
        refine m_get E hK I 42 rfl q1157 rfl dX1_plan_42 ?_
        refine lv_iload_n hx hb dX1_plan_45 rfl (lv_at hl 1 rfl) ?_
        refine m_ald (i := j) E hK I 27 rfl rfl rfl dX1_plan_46 (by simp only [mLn]; omega) ?_
        exact r_i E hlk hr I (Nat.le_refl 0) (Nat.le_refl 0) dX1_plan_47 (⟨by simp only [c11, c20, if_true, Bool.and_self, ← hs1]; rw [if_pos c31, nI_clamp (show j < 2 ^ 31 by omega)], by simp only [c11, c20, if_true, Bool.and_self, ← hs1]⟩)
      · refine lv_aload_n hx hb dX1_plan_34 rfl (lv_at hl 0 rfl) ?_
        refine m_get E hK I 43 rfl q1158 rfl dX1_plan_35 ?_
        refine lv_goto (tgt := 47) hx hb dX1_plan_38 (by decide) ?_
        exact r_i E hlk hr I (Nat.le_refl 0) (Nat.le_refl 0) dX1_plan_47 (⟨by simp only [c11, c20, if_true, Bool.and_self, ← hs1]; rw [if_neg c31], by simp only [c11, c20, if_true, Bool.and_self, ← hs1]⟩)
    · refine lv_bipush (v := (-3)) hx hb dX1_plan_23 (by decide) ?_
      exact r_i E hlk hr I (Nat.le_refl 0) (Nat.le_refl 0) dX1_plan_25 (⟨by simp [c11, c20], by simp [c11, c20]⟩)
  · refine lv_iconst (v := (-1)) hx hb dX1_plan_14 (by decide) ?_
    exact r_i E hlk hr I (Nat.le_refl 0) (Nat.le_refl 0) dX1_plan_15 (⟨by simp [c11], by simp [c11]⟩)
theorem dc_m_plan : yX1_plan.cls = RX1 ∧ yX1_plan.cls ≠ "java/lang/invoke/MethodHandle" ∧ yX1_plan.cls ≠ "java/lang/invoke/VarHandle" ∧ (parseMethodDescriptor yX1_plan.desc).map (fun d => d.parameters.length) = some 1 := by decide +kernel
