set_option maxRecDepth 100000
set_option maxHeartbeats 4000000
def fo {α : Type} (f : Nat → α → α) : Nat → α → α
  | 0, a => a
  | n + 1, a => f n (fo f n a)
theorem fo_k {f : Nat → Sg → Sg} {k : Nat} (h : ∀ i s, f i s k = s k) : ∀ (n : Nat) (s : Sg), fo f n s k = s k
  | 0, _ => rfl
  | n + 1, s => (h n _).trans (fo_k h n s)
theorem mCan_no {σ : Sg} {g n : Nat} (h : mCan σ g n = false) : mTakes σ g n = σ := by
  unfold mCan at h
  unfold mTakes
  simp only [Bool.or_eq_false_iff, Bool.and_eq_false_iff] at h
  cases hb : mBest σ g n with
  | some b => rw [hb] at h; simp at h
  | none =>
    by_cases hj : σ 10 0 = 0
    · simp [hj]
    · simp only [if_neg hj, mJoin]
      rcases h.2 with h1 | h1
      · simp [hj] at h1
      · cases hq : mJn σ g n with
        | none => rfl
        | some t => rw [hq] at h1; simp at h1
theorem mSit_no {σ : Sg} {g q T G : Nat} (h : mCan σ g T = false) : mSit σ g q T G = σ := by
  simp [mSit, h, mCan_no h]
theorem mSitS_k {k : Nat} (h : k < 30 ∨ 35 < k) (σ : Sg) (g q T G : Nat) : mSitS σ g q T G k = σ k := by
  simp only [mSitS]
  rw [up_rk (by omega), up_rk (by omega), up_rk (by omega), mTakes_k (by omega)]
theorem mSit_k {k : Nat} (h : k < 30 ∨ 35 < k) (σ : Sg) (g q T G : Nat) : mSit σ g q T G k = σ k := by
  unfold mSit
  by_cases hc : mCan σ g T = true
  · rw [if_pos hc, up_rk (by omega), mSitS_k h]
  · rw [if_neg hc, mTakes_k (by omega)]
def mComes (σ : Sg) (g q T G : Nat) : Sg := if σ 22 g ≤ nI (cnt (mTak σ) T) then (if mCan σ g T then mSit σ g q T G else up σ 32 g (if σ 27 0 ≤ 0 then 3 else 2)) else up σ 32 g 4
def mTries (σ : Sg) (g q T G : Nat) : Sg := if mCan σ g T then up (mSit σ g q T G) 37 g (nI q - σ 19 g) else (if nI q - σ 19 g < σ 27 0 then σ else up (up σ 32 g 3) 37 g (nI q - σ 19 g))
theorem mComes_k {k : Nat} (h : k < 30 ∨ 40 < k) (σ : Sg) (g q T G : Nat) : mComes σ g q T G k = σ k := by
  unfold mComes
  split
  · split
    · exact mSit_k (by omega) _ _ _ _ _
    · exact up_rk (by omega) _ _ _
  · exact up_rk (by omega) _ _ _
theorem mTries_k {k : Nat} (h : k < 30 ∨ 40 < k) (σ : Sg) (g q T G : Nat) : mTries σ g q T G k = σ k := by
  unfold mTries
  split
  · rw [up_rk (by omega), mSit_k (by omega)]
  · split
    · rfl
    · rw [up_rk (by omega), up_rk (by omega)]
theorem tw_x {q : Nat} (hq : q < 400) (h : ¬ nI q < nI (min (q + 1) 100)) : (100 : Int32) ≤ nI (min (q + 1) 100) := by
  rcases Nat.lt_or_ge q 100 with h1 | h1
  · exact absurd (nI_lt (by omega) (by omega)) h
  · exact nI_le (a := 100) (by omega) (by omega)
def mTryG (q T G w : Nat) (g : Nat) (s : Sg) : Sg := if s 32 g = 2 then (if s 19 g = nI w then mTries s g q T G else s) else s
def mTryW (q T G : Nat) (w : Nat) (s : Sg) : Sg := fo (mTryG q T G w) G s
def mTry (σ : Sg) (q T G : Nat) : Sg := fo (mTryW q T G) (min (q + 1) 100) σ
theorem mTryG_k {k : Nat} (h : k < 30 ∨ 40 < k) (q T G w i : Nat) (s : Sg) : mTryG q T G w i s k = s k := by
  unfold mTryG
  split
  · split
    · exact mTries_k h _ _ _ _ _
    · rfl
  · rfl
theorem mTryW_k {k : Nat} (h : k < 30 ∨ 40 < k) (q T G i : Nat) (s : Sg) : mTryW q T G i s k = s k := fo_k (fun j u => mTryG_k h q T G i j u) _ _
theorem mTry_k {k : Nat} (h : k < 30 ∨ 40 < k) (σ : Sg) (q T G : Nat) : mTry σ q T G k = σ k := fo_k (fun j u => mTryW_k h q T G j u) _ _
theorem m_comesIn (l : Launch) (D : va_G) (ty : Nat → ClassId) (o : Nat) (ad : Nat → Nat) (σ : Sg) (g : Nat) (q : Nat) (hg : g < 8) (T : Nat) (hT : T ≤ 6) (h23 : σ 23 0 = nI T) (G : Nat) (hG : G ≤ 8) (h16 : σ 16 0 = nI G) : mKv l yX1_comesIn cX1_comesIn 3 5 D ty o ad σ [.int (nI g), .int (nI q)] (fun τ => τ = mComes σ g q T G) := by
  refine Kv.of (by decide) (Nat.le_of_ble_eq_true rfl) ?_
  intro p e s m below meth c A ls args E hK hA hX hlk hr hnm I hl
  have hx := E.1
  have hb := E.2.1
  have hl : lv_has ls 3 [(0, .ref o), (1, .int (nI g)), (2, .int (nI q))] := hl
  refine lv_aload_n hx hb dX1_comesIn_0 rfl (lv_at hl 0 rfl) ?_
  refine m_ci E hK hA I (m_manyTaken l D ty o ad σ T hT h23) go_m_manyTaken dc_m_manyTaken ⟨Nat.le_of_ble_eq_true rfl, Nat.le_of_ble_eq_true rfl⟩ ⟨Nat.le_refl 0, Nat.le_refl 0⟩ hl.1 (Nat.le_of_ble_eq_true rfl) rfl dX1_comesIn_1 (fun r1 σ1 H locs hp I => ?_)
  refine top_i (y := nI (cnt (mTak σ) T)) hp.1 ?_
  have I := m_as I hp.2
  refine lv_aload_n hx hb dX1_comesIn_4 rfl (lv_at hl 0 rfl) ?_
  refine m_get E hK I 22 rfl q1137 rfl dX1_comesIn_5 ?_
  refine lv_iload_n hx hb dX1_comesIn_8 rfl (lv_at hl 1 rfl) ?_
  refine m_ald (i := g) E hK I 12 rfl rfl rfl dX1_comesIn_9 (by simp only [mLn]; omega) ?_
  refine lv_icmp_ge (tgt := 23) hx hb dX1_comesIn_10 (by decide) (fun c10 => ?_) (fun c10 => ?_)
  · refine lv_aload_n hx hb dX1_comesIn_23 rfl (lv_at hl 0 rfl) ?_
    refine lv_iload_n hx hb dX1_comesIn_24 rfl (lv_at hl 1 rfl) ?_
    refine lv_iload_n hx hb dX1_comesIn_25 rfl (lv_at hl 2 rfl) ?_
    refine m_ci E hK hA I (m_sitsDown l D ty o ad σ g q (by omega) T hT h23 G hG h16) go_m_sitsDown dc_m_sitsDown ⟨Nat.le_of_ble_eq_true rfl, Nat.le_of_ble_eq_true rfl⟩ ⟨Nat.le_refl 0, Nat.le_refl 0⟩ hl.1 (Nat.le_of_ble_eq_true rfl) rfl dX1_comesIn_26 (fun r26 σ26 H locs hp I => ?_)
    refine top_i (y := bI (mCan σ g T)) hp.1 ?_
    have I := m_as I hp.2
    refine b_ne (tgt := 50) hx hb dX1_comesIn_29 (by decide) (fun c29 => ?_) (fun c29 => ?_)
    · exact r_v E hlk hr I (Nat.le_refl 0) (Nat.le_refl 0) dX1_comesIn_50 (by simp [mComes, c10, c29])
    · have I := m_as I (mSit_no c29)
      refine lv_aload_n hx hb dX1_comesIn_32 rfl (lv_at hl 0 rfl) ?_
      refine m_get E hK I 32 rfl q1147 rfl dX1_comesIn_33 ?_
      refine lv_iload_n hx hb dX1_comesIn_36 rfl (lv_at hl 1 rfl) ?_
      refine lv_aload_n hx hb dX1_comesIn_37 rfl (lv_at hl 0 rfl) ?_
      refine m_get E hK I 27 rfl q1142 rfl dX1_comesIn_38 ?_
      refine lv_if_le (tgt := 48) hx hb dX1_comesIn_41 (by decide) (fun c41 => ?_) (fun c41 => ?_)
      · refine lv_iconst (v := 3) hx hb dX1_comesIn_48 (by decide) ?_
        refine m_ast (i := g) E hK I 17 rfl rfl rfl dX1_comesIn_49 (by simp only [mLn]; omega) (fun H locs I => ?_)
        exact r_v E hlk hr I (Nat.le_refl 0) (Nat.le_refl 0) dX1_comesIn_50 (by simp [mComes, c10, c29, c41])
      · refine lv_iconst (v := 2) hx hb dX1_comesIn_44 (by decide) ?_
        refine lv_goto (tgt := 49) hx hb dX1_comesIn_45 (by decide) ?_
        refine m_ast (i := g) E hK I 17 rfl rfl rfl dX1_comesIn_49 (by simp only [mLn]; omega) (fun H locs I => ?_)
        exact r_v E hlk hr I (Nat.le_refl 0) (Nat.le_refl 0) dX1_comesIn_50 (by simp [mComes, c10, c29, c41])
  · refine lv_aload_n hx hb dX1_comesIn_13 rfl (lv_at hl 0 rfl) ?_
    refine m_get E hK I 32 rfl q1147 rfl dX1_comesIn_14 ?_
    refine lv_iload_n hx hb dX1_comesIn_17 rfl (lv_at hl 1 rfl) ?_
    refine lv_iconst (v := 4) hx hb dX1_comesIn_18 (by decide) ?_
    refine m_ast (i := g) E hK I 17 rfl rfl rfl dX1_comesIn_19 (by simp only [mLn]; omega) (fun H locs I => ?_)
    refine lv_goto (tgt := 50) hx hb dX1_comesIn_20 (by decide) ?_
    exact r_v E hlk hr I (Nat.le_refl 0) (Nat.le_refl 0) dX1_comesIn_50 (by simp [mComes, c10])
theorem dc_m_comesIn : yX1_comesIn.cls = RX1 ∧ yX1_comesIn.cls ≠ "java/lang/invoke/MethodHandle" ∧ yX1_comesIn.cls ≠ "java/lang/invoke/VarHandle" ∧ (parseMethodDescriptor yX1_comesIn.desc).map (fun d => d.parameters.length) = some 2 := by decide +kernel
theorem go_m_comesIn : GoodIn lw_all (wsV RX1 201 RX1 yX1_comesIn (ws_ yX1_comesIn cX1_comesIn 3 none)) := lw_V q1394 q1396 qs59 q75 q1397
theorem m_triesAgain (l : Launch) (D : va_G) (ty : Nat → ClassId) (o : Nat) (ad : Nat → Nat) (σ : Sg) (g : Nat) (q : Nat) (hg : g < 8) (T : Nat) (hT : T ≤ 6) (h23 : σ 23 0 = nI T) (G : Nat) (hG : G ≤ 8) (h16 : σ 16 0 = nI G) : mKv l yX1_triesAgain cX1_triesAgain 3 5 D ty o ad σ [.int (nI g), .int (nI q)] (fun τ => τ = mTries σ g q T G) := by
  refine Kv.of (by decide) (Nat.le_of_ble_eq_true rfl) ?_
  intro p e s m below meth c A ls args E hK hA hX hlk hr hnm I hl
  have hx := E.1
  have hb := E.2.1
  have hl : lv_has ls 3 [(0, .ref o), (1, .int (nI g)), (2, .int (nI q))] := hl
  refine lv_aload_n hx hb dX1_triesAgain_0 rfl (lv_at hl 0 rfl) ?_
  refine lv_iload_n hx hb dX1_triesAgain_1 rfl (lv_at hl 1 rfl) ?_
  refine lv_iload_n hx hb dX1_triesAgain_2 rfl (lv_at hl 2 rfl) ?_
  refine m_ci E hK hA I (m_sitsDown l D ty o ad σ g q (by omega) T hT h23 G hG h16) go_m_sitsDown dc_m_sitsDown ⟨Nat.le_of_ble_eq_true rfl, Nat.le_of_ble_eq_true rfl⟩ ⟨Nat.le_refl 0, Nat.le_refl 0⟩ hl.1 (Nat.le_of_ble_eq_true rfl) rfl dX1_triesAgain_3 (fun r3 σ3 H locs hp I => ?_)
  refine top_i (y := bI (mCan σ g T)) hp.1 ?_
  have I := m_as I hp.2
  refine b_eq (tgt := 26) hx hb dX1_triesAgain_6 (by decide) (fun c6 => ?_) (fun c6 => ?_)
  · have I := m_as I (mSit_no c6)
    refine lv_iload_n hx hb dX1_triesAgain_26 rfl (lv_at hl 2 rfl) ?_
    refine lv_aload_n hx hb dX1_triesAgain_27 rfl (lv_at hl 0 rfl) ?_
    refine m_get E hK I 19 rfl q1134 rfl dX1_triesAgain_28 ?_
    refine lv_iload_n hx hb dX1_triesAgain_31 rfl (lv_at hl 1 rfl) ?_
    refine m_ald (i := g) E hK I 9 rfl rfl rfl dX1_triesAgain_32 (by simp only [mLn]; omega) ?_
    refine lv_isub hx hb dX1_triesAgain_33 ?_
    refine lv_aload_n hx hb dX1_triesAgain_34 rfl (lv_at hl 0 rfl) ?_
    refine m_get E hK I 27 rfl q1142 rfl dX1_triesAgain_35 ?_
    refine lv_icmp_lt (tgt := 62) hx hb dX1_triesAgain_38 (by decide) (fun c38 => ?_) (fun c38 => ?_)
    · exact r_v E hlk hr I (Nat.le_refl 0) (Nat.le_refl 0) dX1_triesAgain_62 (by simp [mTries, mSit_k, up_k, c6, c38])
    · refine lv_aload_n hx hb dX1_triesAgain_41 rfl (lv_at hl 0 rfl) ?_
      refine m_get E hK I 32 rfl q1147 rfl dX1_triesAgain_42 ?_
      refine lv_iload_n hx hb dX1_triesAgain_45 rfl (lv_at hl 1 rfl) ?_
      refine lv_iconst (v := 3) hx hb dX1_triesAgain_46 (by decide) ?_
      refine m_ast (i := g) E hK I 17 rfl rfl rfl dX1_triesAgain_47 (by simp only [mLn]; omega) (fun H locs I => ?_)
      refine lv_aload_n hx hb dX1_triesAgain_48 rfl (lv_at hl 0 rfl) ?_
      refine m_get E hK I 37 rfl q1152 rfl dX1_triesAgain_49 ?_
      refine lv_iload_n hx hb dX1_triesAgain_52 rfl (lv_at hl 1 rfl) ?_
      refine lv_iload_n hx hb dX1_triesAgain_53 rfl (lv_at hl 2 rfl) ?_
      refine lv_aload_n hx hb dX1_triesAgain_54 rfl (lv_at hl 0 rfl) ?_
      refine m_get E hK I 19 rfl q1134 rfl dX1_triesAgain_55 ?_
      refine lv_iload_n hx hb dX1_triesAgain_58 rfl (lv_at hl 1 rfl) ?_
      refine m_ald (i := g) E hK I 9 rfl rfl rfl dX1_triesAgain_59 (by simp only [mLn]; omega) ?_
      refine lv_isub hx hb dX1_triesAgain_60 ?_
      refine m_ast (i := g) E hK I 22 rfl rfl rfl dX1_triesAgain_61 (by simp only [mLn]; omega) (fun H locs I => ?_)
      exact r_v E hlk hr I (Nat.le_refl 0) (Nat.le_refl 0) dX1_triesAgain_62 (by simp [mTries, mSit_k, up_k, c6, c38])
  · refine lv_aload_n hx hb dX1_triesAgain_9 rfl (lv_at hl 0 rfl) ?_
    refine m_get E hK I 37 rfl q1152 rfl dX1_triesAgain_10 ?_
    refine lv_iload_n hx hb dX1_triesAgain_13 rfl (lv_at hl 1 rfl) ?_
    refine lv_iload_n hx hb dX1_triesAgain_14 rfl (lv_at hl 2 rfl) ?_
    refine lv_aload_n hx hb dX1_triesAgain_15 rfl (lv_at hl 0 rfl) ?_
    refine m_get E hK I 19 rfl q1134 rfl dX1_triesAgain_16 ?_
    refine lv_iload_n hx hb dX1_triesAgain_19 rfl (lv_at hl 1 rfl) ?_
    refine m_ald (i := g) E hK I 9 rfl rfl rfl dX1_triesAgain_20 (by simp only [mLn]; omega) ?_
    refine lv_isub hx hb dX1_triesAgain_21 ?_
    refine m_ast (i := g) E hK I 22 rfl rfl rfl dX1_triesAgain_22 (by simp only [mLn]; omega) (fun H locs I => ?_)
    refine lv_goto (tgt := 62) hx hb dX1_triesAgain_23 (by decide) ?_
    exact r_v E hlk hr I (Nat.le_refl 0) (Nat.le_refl 0) dX1_triesAgain_62 (by simp [mTries, mSit_k, up_k, c6])
theorem dc_m_triesAgain : yX1_triesAgain.cls = RX1 ∧ yX1_triesAgain.cls ≠ "java/lang/invoke/MethodHandle" ∧ yX1_triesAgain.cls ≠ "java/lang/invoke/VarHandle" ∧ (parseMethodDescriptor yX1_triesAgain.desc).map (fun d => d.parameters.length) = some 2 := by decide +kernel
theorem go_m_triesAgain : GoodIn lw_all (wsV RX1 214 RX1 yX1_triesAgain (ws_ yX1_triesAgain cX1_triesAgain 3 none)) := lw_V q1382 q1384 qs56 q75 q1385
theorem m_tryWaiting (l : Launch) (D : va_G) (ty : Nat → ClassId) (o : Nat) (ad : Nat → Nat) (σ : Sg) (q : Nat) (hq : q < 400) (T : Nat) (hT : T ≤ 6) (h23 : σ 23 0 = nI T) (G : Nat) (hG : G ≤ 8) (h16 : σ 16 0 = nI G) : mKv l yX1_tryWaiting cX1_tryWaiting 4 6 D ty o ad σ [.int (nI q)] (fun τ => τ = mTry σ q T G) := by
  refine Kv.of (by decide) (Nat.le_of_ble_eq_true rfl) ?_
  intro p e s m below meth c A ls args E hK hA hX hlk hr hnm I hl
  have hx := E.1
  have hb := E.2.1
  have hl : lv_has ls 4 [(0, .ref o), (1, .int (nI q))] := hl
  refine nameQ (fun Q hQ => ?_)
  refine lv_iconst (v := 0) hx hb dX1_tryWaiting_0 (by decide) ?_
  refine lv_istore_n (lv' := [(2, .int 0), (0, .ref o), (1, .int (nI q))]) hx hb dX1_tryWaiting_1 rfl hl (by decide) rfl (fun ls hl => ?_)
  have L2 : ∀ i, i ≤ (min (q + 1) 100) → ∀ (H : Heap) (locs : List Loc) (ls : Array Slot), gI s D A (mW ty o ad (fo (mTryW q T G) i σ)) H locs → lv_has ls 4 [(0, .ref o), (1, .int (nI q)), (2, .int (nI i))] → W p l e (rmL 6) s m args below meth c H locs 0 0 Q (F0 m 2 ls []) := by
    refine dn_ind (min (q + 1) 100) ?_ ?_
    · intro H locs ls I hl
      refine lv_iload_n hx hb dX1_tryWaiting_2 rfl (lv_at hl 2 rfl) ?_
      refine lv_iload_n hx hb dX1_tryWaiting_3 rfl (lv_at hl 1 rfl) ?_
      refine lv_icmp_gt (tgt := 61) hx hb dX1_tryWaiting_4 (by decide) (fun c4 => ?_) (fun c4 => ?_)
      · subst hQ
        exact r_v E hlk hr I (Nat.le_refl 0) (Nat.le_refl 0) dX1_tryWaiting_61 (rfl)
      · refine lv_iload_n hx hb dX1_tryWaiting_7 rfl (lv_at hl 2 rfl) ?_
        refine lv_bipush (v := 100) hx hb dX1_tryWaiting_8 (by decide) ?_
        refine lv_icmp_ge (tgt := 61) hx hb dX1_tryWaiting_10 (by decide) (fun c10 => ?_) (fun c10 => absurd c10 (fun h => h (tw_x hq c4)))
        subst hQ
        exact r_v E hlk hr I (Nat.le_refl 0) (Nat.le_refl 0) dX1_tryWaiting_61 (rfl)
    · intro i hi ih2 H locs ls I hl
      refine lv_iload_n hx hb dX1_tryWaiting_2 rfl (lv_at hl 2 rfl) ?_
      refine lv_iload_n hx hb dX1_tryWaiting_3 rfl (lv_at hl 1 rfl) ?_
      refine lv_icmp_gt (tgt := 61) hx hb dX1_tryWaiting_4 (by decide) (fun c4 => absurd c4 (nI_nlt (by omega) (by omega))) (fun c4 => ?_)
      refine lv_iload_n hx hb dX1_tryWaiting_7 rfl (lv_at hl 2 rfl) ?_
      refine lv_bipush (v := 100) hx hb dX1_tryWaiting_8 (by decide) ?_
      refine lv_icmp_ge (tgt := 61) hx hb dX1_tryWaiting_10 (by decide) (fun c10 => absurd c10 (nI_ge (b := 100) (by omega) (by omega))) (fun c10 => ?_)
      refine lv_iconst (v := 0) hx hb dX1_tryWaiting_13 (by decide) ?_
      refine lv_istore_n (lv' := [(3, .int 0), (0, .ref o), (1, .int (nI q)), (2, .int (nI i))]) hx hb dX1_tryWaiting_14 rfl hl (by decide) rfl (fun ls hl => ?_)
      obtain ⟨s0, hs0⟩ : ∃ z, z = fo (mTryW q T G) i σ := ⟨_, rfl⟩
      have I := m_as I hs0.symm
      have f16 : s0 16 0 = nI G := by rw [hs0, fo_k (fun j u => mTryW_k (by omega) q T G j u)]; exact h16
      have f23 : s0 23 0 = nI T := by rw [hs0, fo_k (fun j u => mTryW_k (by omega) q T G j u)]; exact h23
      have L15 : ∀ j, j ≤ G → ∀ (H : Heap) (locs : List Loc) (ls : Array Slot), gI s D A (mW ty o ad (fo (mTryG q T G i) j s0)) H locs → lv_has ls 4 [(0, .ref o), (1, .int (nI q)), (2, .int (nI i)), (3, .int (nI j))] → W p l e (rmL 6) s m args below meth c H locs 0 0 Q (F0 m 15 ls []) := by
        refine dn_ind G ?_ ?_
        · intro H locs ls I hl
          refine lv_iload_n hx hb dX1_tryWaiting_15 rfl (lv_at hl 3 rfl) ?_
          refine lv_aload_n hx hb dX1_tryWaiting_16 rfl (lv_at hl 0 rfl) ?_
          refine m_get (v := .int (nI G)) E hK I 16 rfl q1131 (congrArg Value.int ((congrFun (fo_k (fun u z => mTryG_k (by omega) q T G i u z) _ _) 0).trans f16)) dX1_tryWaiting_17 ?_
          refine lv_icmp_ge (tgt := 55) hx hb dX1_tryWaiting_20 (by decide) (fun c20 => ?_) (fun c20 => absurd c20 (fun h => h (Int32.le_refl _)))
          refine lv_iinc (v := nI (i + 1)) (lv' := [(2, .int (nI (i + 1))), (0, .ref o), (1, .int (nI q)), (3, .int (nI G))]) hx hb dX1_tryWaiting_55 hl (k := 2) rfl (nI_1 _) (by decide) rfl (fun ls hl => ?_)
          refine lv_goto (tgt := 2) hx hb dX1_tryWaiting_58 (by decide) ?_
          exact ih2 _ _ ls (m_as I (by rw [hs0]; rfl)) (lv_as (lv_sub (l' := [(0, .ref o), (1, .int (nI q)), (2, .int (nI (i + 1)))]) hl [1, 2, 0] rfl) (rfl))
        · intro j hj ih15 H locs ls I hl
          refine lv_iload_n hx hb dX1_tryWaiting_15 rfl (lv_at hl 3 rfl) ?_
          refine lv_aload_n hx hb dX1_tryWaiting_16 rfl (lv_at hl 0 rfl) ?_
          refine m_get (v := .int (nI G)) E hK I 16 rfl q1131 (congrArg Value.int ((congrFun (fo_k (fun u z => mTryG_k (by omega) q T G i u z) _ _) 0).trans f16)) dX1_tryWaiting_17 ?_
          refine lv_icmp_ge (tgt := 55) hx hb dX1_tryWaiting_20 (by decide) (fun c20 => absurd c20 (nI_ge hj (by omega))) (fun c20 => ?_)
          refine lv_aload_n hx hb dX1_tryWaiting_23 rfl (lv_at hl 0 rfl) ?_
          refine m_get E hK I 32 rfl q1147 rfl dX1_tryWaiting_24 ?_
          refine lv_iload_n hx hb dX1_tryWaiting_27 rfl (lv_at hl 3 rfl) ?_
          refine m_ald (i := j) E hK I 17 rfl rfl rfl dX1_tryWaiting_28 (by simp only [mLn]; omega) ?_
          refine lv_iconst (v := 2) hx hb dX1_tryWaiting_29 (by decide) ?_
          refine lv_icmp_ne (tgt := 49) hx hb dX1_tryWaiting_30 (by decide) (fun c30 => ?_) (fun c30 => ?_)
          · refine lv_iinc (v := nI (j + 1)) (lv' := [(3, .int (nI (j + 1))), (0, .ref o), (1, .int (nI q)), (2, .int (nI i))]) hx hb dX1_tryWaiting_49 hl (k := 3) rfl (nI_1 _) (by decide) rfl (fun ls hl => ?_)
            refine lv_goto (tgt := 15) hx hb dX1_tryWaiting_52 (by decide) ?_
            exact ih15 _ _ ls (m_as I (by simp [fo, mTryG, c30])) (lv_as (lv_sub (l' := [(0, .ref o), (1, .int (nI q)), (2, .int (nI i)), (3, .int (nI (j + 1)))]) hl [1, 2, 3, 0] rfl) (rfl))
          · refine lv_aload_n hx hb dX1_tryWaiting_33 rfl (lv_at hl 0 rfl) ?_
            refine m_get E hK I 19 rfl q1134 rfl dX1_tryWaiting_34 ?_
            refine lv_iload_n hx hb dX1_tryWaiting_37 rfl (lv_at hl 3 rfl) ?_
            refine m_ald (i := j) E hK I 9 rfl rfl rfl dX1_tryWaiting_38 (by simp only [mLn]; omega) ?_
            refine lv_iload_n hx hb dX1_tryWaiting_39 rfl (lv_at hl 2 rfl) ?_
            refine lv_icmp_ne (tgt := 49) hx hb dX1_tryWaiting_40 (by decide) (fun c40 => ?_) (fun c40 => ?_)
            · refine lv_iinc (v := nI (j + 1)) (lv' := [(3, .int (nI (j + 1))), (0, .ref o), (1, .int (nI q)), (2, .int (nI i))]) hx hb dX1_tryWaiting_49 hl (k := 3) rfl (nI_1 _) (by decide) rfl (fun ls hl => ?_)
              refine lv_goto (tgt := 15) hx hb dX1_tryWaiting_52 (by decide) ?_
              exact ih15 _ _ ls (m_as I (by simp [fo, mTryG, c30, c40])) (lv_as (lv_sub (l' := [(0, .ref o), (1, .int (nI q)), (2, .int (nI i)), (3, .int (nI (j + 1)))]) hl [1, 2, 3, 0] rfl) (rfl))
            · refine lv_aload_n hx hb dX1_tryWaiting_43 rfl (lv_at hl 0 rfl) ?_
              refine lv_iload_n hx hb dX1_tryWaiting_44 rfl (lv_at hl 3 rfl) ?_
              refine lv_iload_n hx hb dX1_tryWaiting_45 rfl (lv_at hl 1 rfl) ?_
              refine m_cv E hK hA I (m_triesAgain l D ty o ad (fo (mTryG q T G i) j s0) j q (by omega) T hT ((congrFun (fo_k (fun u z => mTryG_k (by omega) q T G i u z) _ _) 0).trans f23) G hG ((congrFun (fo_k (fun u z => mTryG_k (by omega) q T G i u z) _ _) 0).trans f16)) go_m_triesAgain dc_m_triesAgain ⟨Nat.le_of_ble_eq_true rfl, Nat.le_of_ble_eq_true rfl⟩ ⟨Nat.le_refl 0, Nat.le_refl 0⟩ hl.1 (Nat.le_of_ble_eq_true rfl) rfl dX1_tryWaiting_46 (fun σ46 H locs hp I => ?_)
              have I := m_as I hp
              refine lv_iinc (v := nI (j + 1)) (lv' := [(3, .int (nI (j + 1))), (0, .ref o), (1, .int (nI q)), (2, .int (nI i))]) hx hb dX1_tryWaiting_49 hl (k := 3) rfl (nI_1 _) (by decide) rfl (fun ls hl => ?_)
              refine lv_goto (tgt := 15) hx hb dX1_tryWaiting_52 (by decide) ?_
              exact ih15 _ _ ls (m_as I (by simp [fo, mTryG, c30, c40])) (lv_as (lv_sub (l' := [(0, .ref o), (1, .int (nI q)), (2, .int (nI i)), (3, .int (nI (j + 1)))]) hl [1, 2, 3, 0] rfl) (rfl))
      exact L15 0 (Nat.zero_le _) _ _ ls (m_as I (rfl)) (lv_as (lv_sub (l' := [(0, .ref o), (1, .int (nI q)), (2, .int (nI i)), (3, .int 0)]) hl [1, 2, 3, 0] rfl) (rfl))
  exact L2 0 (Nat.zero_le _) _ _ ls (m_as I (rfl)) (lv_as (lv_sub (l' := [(0, .ref o), (1, .int (nI q)), (2, .int 0)]) hl [1, 2, 0] rfl) (rfl))
theorem dc_m_tryWaiting : yX1_tryWaiting.cls = RX1 ∧ yX1_tryWaiting.cls ≠ "java/lang/invoke/MethodHandle" ∧ yX1_tryWaiting.cls ≠ "java/lang/invoke/VarHandle" ∧ (parseMethodDescriptor yX1_tryWaiting.desc).map (fun d => d.parameters.length) = some 1 := by decide +kernel
theorem go_m_tryWaiting : GoodIn lw_all (wsV RX1 198 RX1 yX1_tryWaiting (ws_ yX1_tryWaiting cX1_tryWaiting 4 none)) := lw_V q1378 q1380 qs55 q75 q1381
def setB (σ : Sg) (k : Nat) (f : Nat → Bool) (n : Nat) : Sg := fun a b => if a = k ∧ b < n then bI (f b) else σ a b
theorem setB_0 (σ : Sg) (k : Nat) (f : Nat → Bool) : σ = setB σ k f 0 := by funext a b; simp [setB]
theorem setB_s (σ : Sg) (k : Nat) (f : Nat → Bool) (n : Nat) {v : Bool} (h : v = f n) : up (setB σ k f n) k n (bI v) = setB σ k f (n + 1) := by
  subst h
  funext a b
  by_cases ha : a = k
  · by_cases hb : b = n
    · simp [setB, up, ha, hb]
    · have : (b < n + 1) = (b < n) := by apply propext; omega
      simp [setB, up, ha, hb, this]
  · simp [setB, up, ha]
theorem setB_k {a k : Nat} (h : a ≠ k) (σ : Sg) (f : Nat → Bool) (n : Nat) : setB σ k f n a = σ a := by
  funext b; simp [setB, h]
def mWet (σ : Sg) (T g : Nat) : Bool := decide (σ 32 g = 1) && anyB (mSunT σ g) T
theorem mSunT_c {σ τ : Sg} (h1 : τ 30 = σ 30) (h2 : τ 24 = σ 24) (g : Nat) : mSunT τ g = mSunT σ g := by
  funext t; simp [mSunT, h1, h2]
def mRise (T : Nat) (g : Nat) (s : Sg) : Sg := if s 40 g = 0 then s else clr s g T
def mMove (q T : Nat) (g : Nat) (s : Sg) : Sg := if s 40 g = 0 then s else (if mCan s g T then mTakes s g T else up (mGoes s g (nI q)) 35 g (nI q))
def mRain1 (σ : Sg) (T G : Nat) : Sg := fo (mRise T) G (setB σ 40 (mWet σ T) G)
def mRain2 (σ : Sg) (T : Nat) : Sg := setB σ 31 (fun t => decide (σ 24 t = 0)) T
def mRain (σ : Sg) (q T G : Nat) : Sg := fo (mMove q T) G (mRain2 (mRain1 σ T G) T)
theorem clr_rk {a : Nat} (h : a ≠ 30) (σ : Sg) (g n : Nat) : clr σ g n a = σ a := funext fun b => clr_k h σ g n b
theorem mRise_k {k : Nat} (h : k ≠ 30) (T g : Nat) (s : Sg) : mRise T g s k = s k := by
  unfold mRise
  split
  · rfl
  · exact clr_rk h _ _ _
theorem mGoes_k {k : Nat} (h : k < 30 ∨ 40 < k) (σ : Sg) (g : Nat) (x : Int32) : mGoes σ g x k = σ k := by
  unfold mGoes
  rw [up_rk (by omega), up_rk (by omega)]
theorem mMove_k {k : Nat} (h : k < 30 ∨ 40 < k) (q T g : Nat) (s : Sg) : mMove q T g s k = s k := by
  unfold mMove
  split
  · rfl
  · split
    · exact mTakes_k (by omega) _ _ _
    · rw [up_rk (by omega), mGoes_k h]
theorem mRain1_k {k : Nat} (h : k ≠ 30) (h2 : k ≠ 40) (σ : Sg) (T G : Nat) : mRain1 σ T G k = σ k := by
  unfold mRain1
  rw [fo_k (fun i s => mRise_k h T i s), setB_k h2]
theorem mRain2_k {k : Nat} (h : k ≠ 31) (σ : Sg) (T : Nat) : mRain2 σ T k = σ k := setB_k h _ _ _
theorem mRain_k {k : Nat} (h : k < 30 ∨ 40 < k) (σ : Sg) (q T G : Nat) : mRain σ q T G k = σ k := by
  unfold mRain
  rw [fo_k (fun i s => mMove_k h q T i s), mRain2_k (by omega), mRain1_k (by omega) (by omega)]
theorem m_rainsOn (l : Launch) (D : va_G) (ty : Nat → ClassId) (o : Nat) (ad : Nat → Nat) (σ : Sg) (q : Nat) (T : Nat) (hT : T ≤ 6) (h23 : σ 23 0 = nI T) (G : Nat) (hG : G ≤ 8) (h16 : σ 16 0 = nI G) : mKv l yX1_rainsOn cX1_rainsOn 3 5 D ty o ad σ [.int (nI q)] (fun τ => τ = mRain σ q T G) := by
  refine Kv.of (by decide) (Nat.le_of_ble_eq_true rfl) ?_
  intro p e s m below meth c A ls args E hK hA hX hlk hr hnm I hl
  have hx := E.1
  have hb := E.2.1
  have hl : lv_has ls 3 [(0, .ref o), (1, .int (nI q))] := hl
  refine nameQ (fun Q hQ => ?_)
  refine lv_iconst (v := 0) hx hb dX1_rainsOn_0 (by decide) ?_
  refine lv_istore_n (lv' := [(2, .int 0), (0, .ref o), (1, .int (nI q))]) hx hb dX1_rainsOn_1 rfl hl (by decide) rfl (fun ls hl => ?_)
  have L2 : ∀ i, i ≤ G → ∀ (H : Heap) (locs : List Loc) (ls : Array Slot), gI s D A (mW ty o ad (setB σ 40 (mWet σ T) i)) H locs → lv_has ls 3 [(0, .ref o), (1, .int (nI q)), (2, .int (nI i))] → W p l e (rmL 5) s m args below meth c H locs 0 0 Q (F0 m 2 ls []) := by
    refine dn_ind G ?_ ?_
    · intro H locs ls I hl
      refine lv_iload_n hx hb dX1_rainsOn_2 rfl (lv_at hl 2 rfl) ?_
      refine lv_aload_n hx hb dX1_rainsOn_3 rfl (lv_at hl 0 rfl) ?_
      refine m_get (v := .int (nI G)) E hK I 16 rfl q1131 (congrArg Value.int (by rw [setB_k (by decide)]; exact h16)) dX1_rainsOn_4 ?_
      refine lv_icmp_ge (tgt := 45) hx hb dX1_rainsOn_7 (by decide) (fun c7 => ?_) (fun c7 => absurd c7 (fun h => h (Int32.le_refl _)))
      refine lv_iconst (v := 0) hx hb dX1_rainsOn_45 (by decide) ?_
      refine lv_istore_n (lv' := [(2, .int 0), (0, .ref o), (1, .int (nI q))]) hx hb dX1_rainsOn_46 rfl hl (by decide) rfl (fun ls hl => ?_)
      obtain ⟨s1, hs1⟩ : ∃ z, z = setB σ 40 (mWet σ T) G := ⟨_, rfl⟩
      have I := m_as I hs1.symm
      have f16 : s1 16 0 = nI G := by rw [hs1, setB_k (by decide)]; exact h16
      have f23 : s1 23 0 = nI T := by rw [hs1, setB_k (by decide)]; exact h23
      have L47 : ∀ i, i ≤ G → ∀ (H : Heap) (locs : List Loc) (ls : Array Slot), gI s D A (mW ty o ad (fo (mRise T) i s1)) H locs → lv_has ls 3 [(0, .ref o), (1, .int (nI q)), (2, .int (nI i))] → W p l e (rmL 5) s m args below meth c H locs 0 0 Q (F0 m 47 ls []) := by
        refine dn_ind G ?_ ?_
        · intro H locs ls I hl
          refine lv_iload_n hx hb dX1_rainsOn_47 rfl (lv_at hl 2 rfl) ?_
          refine lv_aload_n hx hb dX1_rainsOn_48 rfl (lv_at hl 0 rfl) ?_
          refine m_get (v := .int (nI G)) E hK I 16 rfl q1131 (congrArg Value.int (by rw [fo_k (fun i s => mRise_k (by decide) T i s)]; exact f16)) dX1_rainsOn_49 ?_
          refine lv_icmp_ge (tgt := 75) hx hb dX1_rainsOn_52 (by decide) (fun c52 => ?_) (fun c52 => absurd c52 (fun h => h (Int32.le_refl _)))
          refine lv_iconst (v := 0) hx hb dX1_rainsOn_75 (by decide) ?_
          refine lv_istore_n (lv' := [(2, .int 0), (0, .ref o), (1, .int (nI q))]) hx hb dX1_rainsOn_76 rfl hl (by decide) rfl (fun ls hl => ?_)
          have I := m_as I (show _ = mRain1 σ T G by rw [hs1]; rfl)
          obtain ⟨s2, hs2⟩ : ∃ z, z = mRain1 σ T G := ⟨_, rfl⟩
          have I := m_as I hs2.symm
          have g16 : s2 16 0 = nI G := by rw [hs2, mRain1_k (by decide) (by decide)]; exact h16
          have g23 : s2 23 0 = nI T := by rw [hs2, mRain1_k (by decide) (by decide)]; exact h23
          have L77 : ∀ i, i ≤ T → ∀ (H : Heap) (locs : List Loc) (ls : Array Slot), gI s D A (mW ty o ad (setB s2 31 (fun t => decide (s2 24 t = 0)) i)) H locs → lv_has ls 3 [(0, .ref o), (1, .int (nI q)), (2, .int (nI i))] → W p l e (rmL 5) s m args below meth c H locs 0 0 Q (F0 m 77 ls []) := by
            refine dn_ind T ?_ ?_
            · intro H locs ls I hl
              refine lv_iload_n hx hb dX1_rainsOn_77 rfl (lv_at hl 2 rfl) ?_
              refine lv_aload_n hx hb dX1_rainsOn_78 rfl (lv_at hl 0 rfl) ?_
              refine m_get (v := .int (nI T)) E hK I 23 rfl q1138 (congrArg Value.int (by rw [setB_k (by decide)]; exact g23)) dX1_rainsOn_79 ?_
              refine lv_icmp_ge (tgt := 111) hx hb dX1_rainsOn_82 (by decide) (fun c82 => ?_) (fun c82 => absurd c82 (fun h => h (Int32.le_refl _)))
              refine lv_iconst (v := 0) hx hb dX1_rainsOn_111 (by decide) ?_
              refine lv_istore_n (lv' := [(2, .int 0), (0, .ref o), (1, .int (nI q))]) hx hb dX1_rainsOn_112 rfl hl (by decide) rfl (fun ls hl => ?_)
              have I := m_as I (show _ = mRain2 s2 T from rfl)
              obtain ⟨s3, hs3⟩ : ∃ z, z = mRain2 s2 T := ⟨_, rfl⟩
              have I := m_as I hs3.symm
              have k16 : s3 16 0 = nI G := by rw [hs3, mRain2_k (by decide)]; exact g16
              have k23 : s3 23 0 = nI T := by rw [hs3, mRain2_k (by decide)]; exact g23
              have L113 : ∀ i, i ≤ G → ∀ (H : Heap) (locs : List Loc) (ls : Array Slot), gI s D A (mW ty o ad (fo (mMove q T) i s3)) H locs → lv_has ls 3 [(0, .ref o), (1, .int (nI q)), (2, .int (nI i))] → W p l e (rmL 5) s m args below meth c H locs 0 0 Q (F0 m 113 ls []) := by
                refine dn_ind G ?_ ?_
                · intro H locs ls I hl
                  refine lv_iload_n hx hb dX1_rainsOn_113 rfl (lv_at hl 2 rfl) ?_
                  refine lv_aload_n hx hb dX1_rainsOn_114 rfl (lv_at hl 0 rfl) ?_
                  refine m_get (v := .int (nI G)) E hK I 16 rfl q1131 (congrArg Value.int (by rw [fo_k (fun i s => mMove_k (by omega) q T i s)]; exact k16)) dX1_rainsOn_115 ?_
                  refine lv_icmp_ge (tgt := 157) hx hb dX1_rainsOn_118 (by decide) (fun c118 => ?_) (fun c118 => absurd c118 (fun h => h (Int32.le_refl _)))
                  subst hQ
                  exact r_v E hlk hr I (Nat.le_refl 0) (Nat.le_refl 0) dX1_rainsOn_157 (by rw [mRain, ← hs2, ← hs3])
                · intro i hi ih113 H locs ls I hl
                  refine lv_iload_n hx hb dX1_rainsOn_113 rfl (lv_at hl 2 rfl) ?_
                  refine lv_aload_n hx hb dX1_rainsOn_114 rfl (lv_at hl 0 rfl) ?_
                  refine m_get (v := .int (nI G)) E hK I 16 rfl q1131 (congrArg Value.int (by rw [fo_k (fun i s => mMove_k (by omega) q T i s)]; exact k16)) dX1_rainsOn_115 ?_
                  refine lv_icmp_ge (tgt := 157) hx hb dX1_rainsOn_118 (by decide) (fun c118 => absurd c118 (nI_ge hi (by omega))) (fun c118 => ?_)
                  refine lv_aload_n hx hb dX1_rainsOn_121 rfl (lv_at hl 0 rfl) ?_
                  refine m_get E hK I 40 rfl q1155 rfl dX1_rainsOn_122 ?_
                  refine lv_iload_n hx hb dX1_rainsOn_125 rfl (lv_at hl 2 rfl) ?_
                  refine m_zld (i := i) E hK I 25 rfl rfl rfl dX1_rainsOn_126 (by simp only [mLn]; omega) ?_
                  refine lv_if_eq (tgt := 151) hx hb dX1_rainsOn_127 (by decide) (fun c127 => ?_) (fun c127 => ?_)
                  · refine lv_iinc (v := nI (i + 1)) (lv' := [(2, .int (nI (i + 1))), (0, .ref o), (1, .int (nI q))]) hx hb dX1_rainsOn_151 hl (k := 2) rfl (nI_1 _) (by decide) rfl (fun ls hl => ?_)
                    refine lv_goto (tgt := 113) hx hb dX1_rainsOn_154 (by decide) ?_
                    exact ih113 _ _ ls (m_as I (by simp [fo, mMove, c127])) (lv_as (lv_sub (l' := [(0, .ref o), (1, .int (nI q)), (2, .int (nI (i + 1)))]) hl [1, 2, 0] rfl) (rfl))
                  · refine lv_aload_n hx hb dX1_rainsOn_130 rfl (lv_at hl 0 rfl) ?_
                    refine lv_iload_n hx hb dX1_rainsOn_131 rfl (lv_at hl 2 rfl) ?_
                    refine m_ci E hK hA I (m_takesTable l D ty o ad (fo (mMove q T) i s3) i (by omega) T hT (by rw [fo_k (fun i s => mMove_k (by omega) q T i s)]; exact k23)) go_m_takesTable dc_m_takesTable ⟨Nat.le_of_ble_eq_true rfl, Nat.le_of_ble_eq_true rfl⟩ ⟨Nat.le_refl 0, Nat.le_refl 0⟩ hl.1 (Nat.le_of_ble_eq_true rfl) rfl dX1_rainsOn_132 (fun r132 σ132 H locs hp I => ?_)
                    refine top_i (y := bI (mCan (fo (mMove q T) i s3) i T)) hp.1 ?_
                    have I := m_as I hp.2
                    refine b_ne (tgt := 151) hx hb dX1_rainsOn_135 (by decide) (fun c135 => ?_) (fun c135 => ?_)
                    · refine lv_iinc (v := nI (i + 1)) (lv' := [(2, .int (nI (i + 1))), (0, .ref o), (1, .int (nI q))]) hx hb dX1_rainsOn_151 hl (k := 2) rfl (nI_1 _) (by decide) rfl (fun ls hl => ?_)
                      refine lv_goto (tgt := 113) hx hb dX1_rainsOn_154 (by decide) ?_
                      exact ih113 _ _ ls (m_as I (by simp [fo, mMove, c127, c135])) (lv_as (lv_sub (l' := [(0, .ref o), (1, .int (nI q)), (2, .int (nI (i + 1)))]) hl [1, 2, 0] rfl) (rfl))
                    · have I := m_as I (mCan_no c135)
                      refine lv_aload_n hx hb dX1_rainsOn_138 rfl (lv_at hl 0 rfl) ?_
                      refine lv_iload_n hx hb dX1_rainsOn_139 rfl (lv_at hl 2 rfl) ?_
                      refine lv_iload_n hx hb dX1_rainsOn_140 rfl (lv_at hl 1 rfl) ?_
                      refine m_cv E hK hA I (m_goes l D ty o ad (fo (mMove q T) i s3) i (nI q) (by omega)) go_m_goes dc_m_goes ⟨Nat.le_of_ble_eq_true rfl, Nat.le_of_ble_eq_true rfl⟩ ⟨Nat.le_refl 0, Nat.le_refl 0⟩ hl.1 (Nat.le_of_ble_eq_true rfl) rfl dX1_rainsOn_141 (fun σ141 H locs hp I => ?_)
                      have I := m_as I hp
                      refine lv_aload_n hx hb dX1_rainsOn_144 rfl (lv_at hl 0 rfl) ?_
                      refine m_get E hK I 35 rfl q1150 rfl dX1_rainsOn_145 ?_
                      refine lv_iload_n hx hb dX1_rainsOn_148 rfl (lv_at hl 2 rfl) ?_
                      refine lv_iload_n hx hb dX1_rainsOn_149 rfl (lv_at hl 1 rfl) ?_
                      refine m_ast (i := i) E hK I 20 rfl rfl rfl dX1_rainsOn_150 (by simp only [mLn]; omega) (fun H locs I => ?_)
                      refine lv_iinc (v := nI (i + 1)) (lv' := [(2, .int (nI (i + 1))), (0, .ref o), (1, .int (nI q))]) hx hb dX1_rainsOn_151 hl (k := 2) rfl (nI_1 _) (by decide) rfl (fun ls hl => ?_)
                      refine lv_goto (tgt := 113) hx hb dX1_rainsOn_154 (by decide) ?_
                      exact ih113 _ _ ls (m_as I (by simp [fo, mMove, c127, c135])) (lv_as (lv_sub (l' := [(0, .ref o), (1, .int (nI q)), (2, .int (nI (i + 1)))]) hl [1, 2, 0] rfl) (rfl))
              exact L113 0 (Nat.zero_le _) _ _ ls (m_as I (rfl)) (lv_as (lv_sub (l' := [(0, .ref o), (1, .int (nI q)), (2, .int 0)]) hl [1, 2, 0] rfl) (rfl))
            · intro i hi ih77 H locs ls I hl
              refine lv_iload_n hx hb dX1_rainsOn_77 rfl (lv_at hl 2 rfl) ?_
              refine lv_aload_n hx hb dX1_rainsOn_78 rfl (lv_at hl 0 rfl) ?_
              refine m_get (v := .int (nI T)) E hK I 23 rfl q1138 (congrArg Value.int (by rw [setB_k (by decide)]; exact g23)) dX1_rainsOn_79 ?_
              refine lv_icmp_ge (tgt := 111) hx hb dX1_rainsOn_82 (by decide) (fun c82 => absurd c82 (nI_ge hi (by omega))) (fun c82 => ?_)
              refine lv_aload_n hx hb dX1_rainsOn_85 rfl (lv_at hl 0 rfl) ?_
              refine m_get E hK I 31 rfl q1146 rfl dX1_rainsOn_86 ?_
              refine lv_iload_n hx hb dX1_rainsOn_89 rfl (lv_at hl 2 rfl) ?_
              refine lv_aload_n hx hb dX1_rainsOn_90 rfl (lv_at hl 0 rfl) ?_
              refine m_get E hK I 24 rfl q1139 rfl dX1_rainsOn_91 ?_
              refine lv_iload_n hx hb dX1_rainsOn_94 rfl (lv_at hl 2 rfl) ?_
              refine m_ald (i := i) E hK I 13 rfl rfl rfl dX1_rainsOn_95 (by simp only [mLn]; omega) ?_
              refine lv_if_ne (tgt := 103) hx hb dX1_rainsOn_96 (by decide) (fun c96 => ?_) (fun c96 => ?_)
              · refine lv_iconst (v := 0) hx hb dX1_rainsOn_103 (by decide) ?_
                refine m_zst (b := false) (i := i) E hK I 16 rfl rfl rfl dX1_rainsOn_104 (by simp only [mLn]; omega) (fun H locs I => ?_)
                refine lv_iinc (v := nI (i + 1)) (lv' := [(2, .int (nI (i + 1))), (0, .ref o), (1, .int (nI q))]) hx hb dX1_rainsOn_105 hl (k := 2) rfl (nI_1 _) (by decide) rfl (fun ls hl => ?_)
                refine lv_goto (tgt := 77) hx hb dX1_rainsOn_108 (by decide) ?_
                exact ih77 _ _ ls (m_as I (setB_s _ _ _ _ (by simp only [setB_k (show 24 ≠ 31 by decide)] at c96; simp [c96]))) (lv_as (lv_sub (l' := [(0, .ref o), (1, .int (nI q)), (2, .int (nI (i + 1)))]) hl [1, 2, 0] rfl) (rfl))
              · refine lv_iconst (v := 1) hx hb dX1_rainsOn_99 (by decide) ?_
                refine lv_goto (tgt := 104) hx hb dX1_rainsOn_100 (by decide) ?_
                refine m_zst (b := true) (i := i) E hK I 16 rfl rfl rfl dX1_rainsOn_104 (by simp only [mLn]; omega) (fun H locs I => ?_)
                refine lv_iinc (v := nI (i + 1)) (lv' := [(2, .int (nI (i + 1))), (0, .ref o), (1, .int (nI q))]) hx hb dX1_rainsOn_105 hl (k := 2) rfl (nI_1 _) (by decide) rfl (fun ls hl => ?_)
                refine lv_goto (tgt := 77) hx hb dX1_rainsOn_108 (by decide) ?_
                exact ih77 _ _ ls (m_as I (setB_s _ _ _ _ (by simp only [setB_k (show 24 ≠ 31 by decide)] at c96; simp [c96]))) (lv_as (lv_sub (l' := [(0, .ref o), (1, .int (nI q)), (2, .int (nI (i + 1)))]) hl [1, 2, 0] rfl) (rfl))
          exact L77 0 (Nat.zero_le _) _ _ ls (m_as I (setB_0 _ _ _)) (lv_as (lv_sub (l' := [(0, .ref o), (1, .int (nI q)), (2, .int 0)]) hl [1, 2, 0] rfl) (rfl))
        · intro i hi ih47 H locs ls I hl
          refine lv_iload_n hx hb dX1_rainsOn_47 rfl (lv_at hl 2 rfl) ?_
          refine lv_aload_n hx hb dX1_rainsOn_48 rfl (lv_at hl 0 rfl) ?_
          refine m_get (v := .int (nI G)) E hK I 16 rfl q1131 (congrArg Value.int (by rw [fo_k (fun i s => mRise_k (by decide) T i s)]; exact f16)) dX1_rainsOn_49 ?_
          refine lv_icmp_ge (tgt := 75) hx hb dX1_rainsOn_52 (by decide) (fun c52 => absurd c52 (nI_ge hi (by omega))) (fun c52 => ?_)
          refine lv_aload_n hx hb dX1_rainsOn_55 rfl (lv_at hl 0 rfl) ?_
          refine m_get E hK I 40 rfl q1155 rfl dX1_rainsOn_56 ?_
          refine lv_iload_n hx hb dX1_rainsOn_59 rfl (lv_at hl 2 rfl) ?_
          refine m_zld (i := i) E hK I 25 rfl rfl rfl dX1_rainsOn_60 (by simp only [mLn]; omega) ?_
          refine lv_if_eq (tgt := 69) hx hb dX1_rainsOn_61 (by decide) (fun c61 => ?_) (fun c61 => ?_)
          · refine lv_iinc (v := nI (i + 1)) (lv' := [(2, .int (nI (i + 1))), (0, .ref o), (1, .int (nI q))]) hx hb dX1_rainsOn_69 hl (k := 2) rfl (nI_1 _) (by decide) rfl (fun ls hl => ?_)
            refine lv_goto (tgt := 47) hx hb dX1_rainsOn_72 (by decide) ?_
            exact ih47 _ _ ls (m_as I (by simp [fo, mRise, c61])) (lv_as (lv_sub (l' := [(0, .ref o), (1, .int (nI q)), (2, .int (nI (i + 1)))]) hl [1, 2, 0] rfl) (rfl))
          · refine lv_aload_n hx hb dX1_rainsOn_64 rfl (lv_at hl 0 rfl) ?_
            refine lv_iload_n hx hb dX1_rainsOn_65 rfl (lv_at hl 2 rfl) ?_
            refine m_cv E hK hA I (m_getsUp l D ty o ad (fo (mRise T) i s1) i (by omega) T hT (by rw [fo_k (fun i s => mRise_k (by decide) T i s)]; exact f23)) go_m_getsUp dc_m_getsUp ⟨Nat.le_of_ble_eq_true rfl, Nat.le_of_ble_eq_true rfl⟩ ⟨Nat.le_refl 0, Nat.le_refl 0⟩ hl.1 (Nat.le_of_ble_eq_true rfl) rfl dX1_rainsOn_66 (fun σ66 H locs hp I => ?_)
            have I := m_as I hp
            refine lv_iinc (v := nI (i + 1)) (lv' := [(2, .int (nI (i + 1))), (0, .ref o), (1, .int (nI q))]) hx hb dX1_rainsOn_69 hl (k := 2) rfl (nI_1 _) (by decide) rfl (fun ls hl => ?_)
            refine lv_goto (tgt := 47) hx hb dX1_rainsOn_72 (by decide) ?_
            exact ih47 _ _ ls (m_as I (by simp [fo, mRise, c61])) (lv_as (lv_sub (l' := [(0, .ref o), (1, .int (nI q)), (2, .int (nI (i + 1)))]) hl [1, 2, 0] rfl) (rfl))
      exact L47 0 (Nat.zero_le _) _ _ ls (m_as I (rfl)) (lv_as (lv_sub (l' := [(0, .ref o), (1, .int (nI q)), (2, .int 0)]) hl [1, 2, 0] rfl) (rfl))
    · intro i hi ih2 H locs ls I hl
      refine lv_iload_n hx hb dX1_rainsOn_2 rfl (lv_at hl 2 rfl) ?_
      refine lv_aload_n hx hb dX1_rainsOn_3 rfl (lv_at hl 0 rfl) ?_
      refine m_get (v := .int (nI G)) E hK I 16 rfl q1131 (congrArg Value.int (by rw [setB_k (by decide)]; exact h16)) dX1_rainsOn_4 ?_
      refine lv_icmp_ge (tgt := 45) hx hb dX1_rainsOn_7 (by decide) (fun c7 => absurd c7 (nI_ge hi (by omega))) (fun c7 => ?_)
      refine lv_aload_n hx hb dX1_rainsOn_10 rfl (lv_at hl 0 rfl) ?_
      refine m_get E hK I 40 rfl q1155 rfl dX1_rainsOn_11 ?_
      refine lv_iload_n hx hb dX1_rainsOn_14 rfl (lv_at hl 2 rfl) ?_
      refine lv_aload_n hx hb dX1_rainsOn_15 rfl (lv_at hl 0 rfl) ?_
      refine m_get E hK I 32 rfl q1147 rfl dX1_rainsOn_16 ?_
      refine lv_iload_n hx hb dX1_rainsOn_19 rfl (lv_at hl 2 rfl) ?_
      refine m_ald (i := i) E hK I 17 rfl rfl rfl dX1_rainsOn_20 (by simp only [mLn]; omega) ?_
      refine lv_iconst (v := 1) hx hb dX1_rainsOn_21 (by decide) ?_
      refine lv_icmp_ne (tgt := 37) hx hb dX1_rainsOn_22 (by decide) (fun c22 => ?_) (fun c22 => ?_)
      · refine lv_iconst (v := 0) hx hb dX1_rainsOn_37 (by decide) ?_
        refine m_zst (b := false) (i := i) E hK I 25 rfl rfl rfl dX1_rainsOn_38 (by simp only [mLn]; omega) (fun H locs I => ?_)
        refine lv_iinc (v := nI (i + 1)) (lv' := [(2, .int (nI (i + 1))), (0, .ref o), (1, .int (nI q))]) hx hb dX1_rainsOn_39 hl (k := 2) rfl (nI_1 _) (by decide) rfl (fun ls hl => ?_)
        refine lv_goto (tgt := 2) hx hb dX1_rainsOn_42 (by decide) ?_
        exact ih2 _ _ ls (m_as I (setB_s _ _ _ _ (by simp only [setB_k (show 32 ≠ 40 by decide), mSunT_c (setB_k (show 30 ≠ 40 by decide) _ _ _) (setB_k (show 24 ≠ 40 by decide) _ _ _)] at c22; simp [mWet, c22]))) (lv_as (lv_sub (l' := [(0, .ref o), (1, .int (nI q)), (2, .int (nI (i + 1)))]) hl [1, 2, 0] rfl) (rfl))
      · refine lv_aload_n hx hb dX1_rainsOn_25 rfl (lv_at hl 0 rfl) ?_
        refine lv_iload_n hx hb dX1_rainsOn_26 rfl (lv_at hl 2 rfl) ?_
        refine m_ci E hK hA I (m_isInSun l D ty o ad (setB σ 40 (mWet σ T) i) i (by omega) T hT (by rw [setB_k (by decide)]; exact h23)) go_m_isInSun dc_m_isInSun ⟨Nat.le_of_ble_eq_true rfl, Nat.le_of_ble_eq_true rfl⟩ ⟨Nat.le_refl 0, Nat.le_refl 0⟩ hl.1 (Nat.le_of_ble_eq_true rfl) rfl dX1_rainsOn_27 (fun r27 σ27 H locs hp I => ?_)
        refine top_i (y := bI (anyB (mSunT (setB σ 40 (mWet σ T) i) i) T)) hp.1 ?_
        have I := m_as I hp.2
        refine b_eq (tgt := 37) hx hb dX1_rainsOn_30 (by decide) (fun c30 => ?_) (fun c30 => ?_)
        · refine lv_iconst (v := 0) hx hb dX1_rainsOn_37 (by decide) ?_
          refine m_zst (b := false) (i := i) E hK I 25 rfl rfl rfl dX1_rainsOn_38 (by simp only [mLn]; omega) (fun H locs I => ?_)
          refine lv_iinc (v := nI (i + 1)) (lv' := [(2, .int (nI (i + 1))), (0, .ref o), (1, .int (nI q))]) hx hb dX1_rainsOn_39 hl (k := 2) rfl (nI_1 _) (by decide) rfl (fun ls hl => ?_)
          refine lv_goto (tgt := 2) hx hb dX1_rainsOn_42 (by decide) ?_
          exact ih2 _ _ ls (m_as I (setB_s _ _ _ _ (by simp only [setB_k (show 32 ≠ 40 by decide), mSunT_c (setB_k (show 30 ≠ 40 by decide) _ _ _) (setB_k (show 24 ≠ 40 by decide) _ _ _)] at c22 c30; simp [mWet, c22, c30]))) (lv_as (lv_sub (l' := [(0, .ref o), (1, .int (nI q)), (2, .int (nI (i + 1)))]) hl [1, 2, 0] rfl) (rfl))
        · refine lv_iconst (v := 1) hx hb dX1_rainsOn_33 (by decide) ?_
          refine lv_goto (tgt := 38) hx hb dX1_rainsOn_34 (by decide) ?_
          refine m_zst (b := true) (i := i) E hK I 25 rfl rfl rfl dX1_rainsOn_38 (by simp only [mLn]; omega) (fun H locs I => ?_)
          refine lv_iinc (v := nI (i + 1)) (lv' := [(2, .int (nI (i + 1))), (0, .ref o), (1, .int (nI q))]) hx hb dX1_rainsOn_39 hl (k := 2) rfl (nI_1 _) (by decide) rfl (fun ls hl => ?_)
          refine lv_goto (tgt := 2) hx hb dX1_rainsOn_42 (by decide) ?_
          exact ih2 _ _ ls (m_as I (setB_s _ _ _ _ (by simp only [setB_k (show 32 ≠ 40 by decide), mSunT_c (setB_k (show 30 ≠ 40 by decide) _ _ _) (setB_k (show 24 ≠ 40 by decide) _ _ _)] at c22 c30; simp [mWet, c22, c30]))) (lv_as (lv_sub (l' := [(0, .ref o), (1, .int (nI q)), (2, .int (nI (i + 1)))]) hl [1, 2, 0] rfl) (rfl))
  exact L2 0 (Nat.zero_le _) _ _ ls (m_as I (setB_0 _ _ _)) (lv_as (lv_sub (l' := [(0, .ref o), (1, .int (nI q)), (2, .int 0)]) hl [1, 2, 0] rfl) (rfl))
theorem dc_m_rainsOn : yX1_rainsOn.cls = RX1 ∧ yX1_rainsOn.cls ≠ "java/lang/invoke/MethodHandle" ∧ yX1_rainsOn.cls ≠ "java/lang/invoke/VarHandle" ∧ (parseMethodDescriptor yX1_rainsOn.desc).map (fun d => d.parameters.length) = some 1 := by decide +kernel
theorem go_m_rainsOn : GoodIn lw_all (wsV RX1 195 RX1 yX1_rainsOn (ws_ yX1_rainsOn cX1_rainsOn 3 none)) := lw_V q1350 q1352 qs48 q75 q1353
