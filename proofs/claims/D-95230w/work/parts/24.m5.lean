set_option maxRecDepth 100000
set_option maxHeartbeats 4000000
def mLeave (q T : Nat) (g : Nat) (s : Sg) : Sg := if s 32 g = 1 then (if nI q < s 35 g then s else mGoes (clr s g T) g (nI q)) else s
def mCome (q T G : Nat) (g : Nat) (s : Sg) : Sg := if s 19 g = nI q then (if nI g = s 29 0 then s else mComes s g q T G) else s
def mM1 (σ : Sg) (q T G : Nat) : Sg := fo (mLeave q T) G σ
def mM2 (σ : Sg) (q T G : Nat) : Sg := if nI q = σ 28 0 then mRain σ q T G else σ
def mMinute (σ : Sg) (q T G : Nat) : Sg := fo (mCome q T G) G (mTry (mM2 (mM1 σ q T G) q T G) q T G)
theorem mLeave_k {k : Nat} (h : k < 30 ∨ 40 < k) (q T g : Nat) (s : Sg) : mLeave q T g s k = s k := by
  unfold mLeave
  split
  · split
    · rfl
    · rw [mGoes_k h, clr_rk (by omega)]
  · rfl
theorem mCome_k {k : Nat} (h : k < 30 ∨ 40 < k) (q T G g : Nat) (s : Sg) : mCome q T G g s k = s k := by
  unfold mCome
  split
  · split
    · rfl
    · exact mComes_k h _ _ _ _ _
  · rfl
theorem mM1_k {k : Nat} (h : k < 30 ∨ 40 < k) (σ : Sg) (q T G : Nat) : mM1 σ q T G k = σ k := fo_k (fun i s => mLeave_k h q T i s) _ _
theorem mM2_k {k : Nat} (h : k < 30 ∨ 40 < k) (σ : Sg) (q T G : Nat) : mM2 σ q T G k = σ k := by
  unfold mM2
  split
  · exact mRain_k h _ _ _ _
  · rfl
theorem mMinute_k {k : Nat} (h : k < 30 ∨ 40 < k) (σ : Sg) (q T G : Nat) : mMinute σ q T G k = σ k := by
  unfold mMinute
  rw [fo_k (fun i s => mCome_k h q T G i s), mTry_k h, mM2_k h, mM1_k h]
def mIn1 (σ : Sg) (n : Nat) : Sg := fun a b => if b < n then (if a = 30 then -9 else if a = 31 then bI false else σ a b) else σ a b
def mIn2 (σ : Sg) (n : Nat) : Sg := fun a b => if b < n then (if a = 32 then 0 else if a = 33 then -9 else if a = 34 then -9 else if a = 35 then -9 else if a = 36 then 0 else if a = 37 then 0 else σ a b) else σ a b
theorem mIn1_0 (σ : Sg) : σ = mIn1 σ 0 := by funext a b; simp [mIn1]
theorem mIn2_0 (σ : Sg) : σ = mIn2 σ 0 := by funext a b; simp [mIn2]
theorem lt_s1 {b n : Nat} (h : ¬ b = n) : (b < n + 1) = (b < n) := by apply propext; omega
theorem mIn1_s (σ : Sg) (n : Nat) : up (up (mIn1 σ n) 30 n (-9)) 31 n (bI false) = mIn1 σ (n + 1) := by
  funext a b
  by_cases hb : b = n
  · subst hb
    by_cases h1 : a = 30
    · simp [mIn1, up, h1]
    · by_cases h2 : a = 31
      · simp [mIn1, up, h2]
      · simp [mIn1, up, h1, h2]
  · simp [mIn1, up, hb, lt_s1 hb]
theorem mIn2_s (σ : Sg) (n : Nat) : up (up (up (up (up (up (mIn2 σ n) 32 n 0) 33 n (-9)) 34 n (-9)) 35 n (-9)) 36 n 0) 37 n 0 = mIn2 σ (n + 1) := by
  funext a b
  by_cases hb : b = n
  · subst hb
    by_cases h1 : a = 32
    · simp [mIn2, up, h1]
    · by_cases h2 : a = 33
      · simp [mIn2, up, h2]
      · by_cases h3 : a = 34
        · simp [mIn2, up, h3]
        · by_cases h4 : a = 35
          · simp [mIn2, up, h4]
          · by_cases h5 : a = 36
            · simp [mIn2, up, h5]
            · by_cases h6 : a = 37
              · simp [mIn2, up, h6]
              · simp [mIn2, up, h1, h2, h3, h4, h5, h6]
  · simp [mIn2, up, hb, lt_s1 hb]
def mInit (σ : Sg) : Sg := mIn2 (mIn1 σ 6) 8
theorem mIn1_k {k : Nat} (h : k < 30 ∨ 40 < k) (σ : Sg) (n : Nat) : mIn1 σ n k = σ k := by
  funext b; simp [mIn1, show k ≠ 30 by omega, show k ≠ 31 by omega]
theorem mIn2_k {k : Nat} (h : k < 30 ∨ 40 < k) (σ : Sg) (n : Nat) : mIn2 σ n k = σ k := by
  funext b; simp [mIn2, show k ≠ 32 by omega, show k ≠ 33 by omega, show k ≠ 34 by omega, show k ≠ 35 by omega, show k ≠ 36 by omega, show k ≠ 37 by omega]
theorem mInit_k {k : Nat} (h : k < 30 ∨ 40 < k) (σ : Sg) : mInit σ k = σ k := by unfold mInit; rw [mIn2_k h, mIn1_k h]
def mEve1 (s : Sg) (q T : Nat) : Sg := up s 38 q (nI (cnt (mTak s) T))
def mEve2 (s : Sg) (q G : Nat) : Sg := up s 39 q (nI (cnt (mWt s (-9)) G))
def mStep (T G : Nat) (q : Nat) (s : Sg) : Sg := mEve2 (mEve1 (mMinute s q T G) q T) q G
theorem mStep_k {k : Nat} (h : k < 30 ∨ 40 < k) (T G q : Nat) (s : Sg) : mStep T G q s k = s k := by
  unfold mStep mEve2 mEve1
  rw [up_rk (by omega), up_rk (by omega), mMinute_k h]
def mDays (σ : Sg) (T G n : Nat) : Sg := fo (mStep T G) n (mInit σ)
def mDay (σ : Sg) (T G : Nat) : Sg := mDays σ T G 400
theorem mDays_k {k : Nat} (h : k < 30 ∨ 40 < k) (σ : Sg) (T G n : Nat) : mDays σ T G n k = σ k := by
  unfold mDays
  rw [fo_k (fun i s => mStep_k h T G i s), mInit_k h]
theorem mDay_k {k : Nat} (h : k < 30 ∨ 40 < k) (σ : Sg) (T G : Nat) : mDay σ T G k = σ k := mDays_k h _ _ _ _
theorem m_goMinute (l : Launch) (D : va_G) (ty : Nat → ClassId) (o : Nat) (ad : Nat → Nat) (σ : Sg) (q : Nat) (hq : q < 400) (T : Nat) (hT : T ≤ 6) (h23 : σ 23 0 = nI T) (G : Nat) (hG : G ≤ 8) (h16 : σ 16 0 = nI G) : mKv l yX1_goMinute cX1_goMinute 3 7 D ty o ad σ [.int (nI q)] (fun τ => τ = mMinute σ q T G) := by
  refine Kv.of (by decide) (Nat.le_of_ble_eq_true rfl) ?_
  intro p e s m below meth c A ls args E hK hA hX hlk hr hnm I hl
  have hx := E.1
  have hb := E.2.1
  have hl : lv_has ls 3 [(0, .ref o), (1, .int (nI q))] := hl
  refine nameQ (fun Q hQ => ?_)
  refine lv_iconst (v := 0) hx hb dX1_goMinute_0 (by decide) ?_
  refine lv_istore_n (lv' := [(2, .int 0), (0, .ref o), (1, .int (nI q))]) hx hb dX1_goMinute_1 rfl hl (by decide) rfl (fun ls hl => ?_)
  have L2 : ∀ i, i ≤ G → ∀ (H : Heap) (locs : List Loc) (ls : Array Slot), gI s D A (mW ty o ad (fo (mLeave q T) i σ)) H locs → lv_has ls 3 [(0, .ref o), (1, .int (nI q)), (2, .int (nI i))] → W p l e (rmL 7) s m args below meth c H locs 0 0 Q (F0 m 2 ls []) := by
    refine dn_ind G ?_ ?_
    · intro H locs ls I hl
      refine lv_iload_n hx hb dX1_goMinute_2 rfl (lv_at hl 2 rfl) ?_
      refine lv_aload_n hx hb dX1_goMinute_3 rfl (lv_at hl 0 rfl) ?_
      refine m_get (v := .int (nI G)) E hK I 16 rfl q1131 (congrArg Value.int ((congrFun (fo_k (fun i s => mLeave_k (by omega) q T i s) _ _) 0).trans h16)) dX1_goMinute_4 ?_
      refine lv_icmp_ge (tgt := 47) hx hb dX1_goMinute_7 (by decide) (fun c7 => ?_) (fun c7 => absurd c7 (fun h => h (Int32.le_refl _)))
      have I := m_as I (show _ = mM1 σ q T G from rfl)
      obtain ⟨s1, hs1⟩ : ∃ z, z = mM1 σ q T G := ⟨_, rfl⟩
      have I := m_as I hs1.symm
      have f16 : s1 16 0 = nI G := by rw [hs1, mM1_k (by omega)]; exact h16
      have f23 : s1 23 0 = nI T := by rw [hs1, mM1_k (by omega)]; exact h23
      refine lv_iload_n hx hb dX1_goMinute_47 rfl (lv_at hl 1 rfl) ?_
      refine lv_aload_n hx hb dX1_goMinute_48 rfl (lv_at hl 0 rfl) ?_
      refine m_get E hK I 28 rfl q1143 rfl dX1_goMinute_49 ?_
      refine lv_icmp_ne (tgt := 60) hx hb dX1_goMinute_52 (by decide) (fun c52 => ?_) (fun c52 => ?_)
      · have I := m_as I (show _ = mM2 s1 q T G by simp [mM2, c52])
        obtain ⟨s2, hs2⟩ : ∃ z, z = mM2 s1 q T G := ⟨_, rfl⟩
        have I := m_as I hs2.symm
        have g16 : s2 16 0 = nI G := by rw [hs2, mM2_k (by omega)]; exact f16
        have g23 : s2 23 0 = nI T := by rw [hs2, mM2_k (by omega)]; exact f23
        refine lv_aload_n hx hb dX1_goMinute_60 rfl (lv_at hl 0 rfl) ?_
        refine lv_iload_n hx hb dX1_goMinute_61 rfl (lv_at hl 1 rfl) ?_
        refine m_cv E hK hA I (m_tryWaiting l D ty o ad s2 q hq T hT g23 G hG g16) go_m_tryWaiting dc_m_tryWaiting ⟨Nat.le_of_ble_eq_true rfl, Nat.le_of_ble_eq_true rfl⟩ ⟨Nat.le_refl 0, Nat.le_refl 0⟩ hl.1 (Nat.le_of_ble_eq_true rfl) rfl dX1_goMinute_62 (fun σ62 H locs hp I => ?_)
        have I := m_as I hp
        refine lv_iconst (v := 0) hx hb dX1_goMinute_65 (by decide) ?_
        refine lv_istore_n (lv' := [(2, .int 0), (0, .ref o), (1, .int (nI q))]) hx hb dX1_goMinute_66 rfl hl (by decide) rfl (fun ls hl => ?_)
        obtain ⟨s3, hs3⟩ : ∃ z, z = mTry s2 q T G := ⟨_, rfl⟩
        have I := m_as I hs3.symm
        have k16 : s3 16 0 = nI G := by rw [hs3, mTry_k (by omega)]; exact g16
        have k23 : s3 23 0 = nI T := by rw [hs3, mTry_k (by omega)]; exact g23
        have L67 : ∀ i, i ≤ G → ∀ (H : Heap) (locs : List Loc) (ls : Array Slot), gI s D A (mW ty o ad (fo (mCome q T G) i s3)) H locs → lv_has ls 3 [(0, .ref o), (1, .int (nI q)), (2, .int (nI i))] → W p l e (rmL 7) s m args below meth c H locs 0 0 Q (F0 m 67 ls []) := by
          refine dn_ind G ?_ ?_
          · intro H locs ls I hl
            refine lv_iload_n hx hb dX1_goMinute_67 rfl (lv_at hl 2 rfl) ?_
            refine lv_aload_n hx hb dX1_goMinute_68 rfl (lv_at hl 0 rfl) ?_
            refine m_get (v := .int (nI G)) E hK I 16 rfl q1131 (congrArg Value.int ((congrFun (fo_k (fun i s => mCome_k (by omega) q T G i s) _ _) 0).trans k16)) dX1_goMinute_69 ?_
            refine lv_icmp_ge (tgt := 105) hx hb dX1_goMinute_72 (by decide) (fun c72 => ?_) (fun c72 => absurd c72 (fun h => h (Int32.le_refl _)))
            subst hQ
            exact r_v E hlk hr I (Nat.le_refl 0) (Nat.le_refl 0) dX1_goMinute_105 (by rw [mMinute, ← hs1, ← hs2, ← hs3])
          · intro i hi ih67 H locs ls I hl
            refine lv_iload_n hx hb dX1_goMinute_67 rfl (lv_at hl 2 rfl) ?_
            refine lv_aload_n hx hb dX1_goMinute_68 rfl (lv_at hl 0 rfl) ?_
            refine m_get (v := .int (nI G)) E hK I 16 rfl q1131 (congrArg Value.int ((congrFun (fo_k (fun i s => mCome_k (by omega) q T G i s) _ _) 0).trans k16)) dX1_goMinute_69 ?_
            refine lv_icmp_ge (tgt := 105) hx hb dX1_goMinute_72 (by decide) (fun c72 => absurd c72 (nI_ge hi (by omega))) (fun c72 => ?_)
            refine lv_aload_n hx hb dX1_goMinute_75 rfl (lv_at hl 0 rfl) ?_
            refine m_get E hK I 19 rfl q1134 rfl dX1_goMinute_76 ?_
            refine lv_iload_n hx hb dX1_goMinute_79 rfl (lv_at hl 2 rfl) ?_
            refine m_ald (i := i) E hK I 9 rfl rfl rfl dX1_goMinute_80 (by simp only [mLn]; omega) ?_
            refine lv_iload_n hx hb dX1_goMinute_81 rfl (lv_at hl 1 rfl) ?_
            refine lv_icmp_ne (tgt := 99) hx hb dX1_goMinute_82 (by decide) (fun c82 => ?_) (fun c82 => ?_)
            · refine lv_iinc (v := nI (i + 1)) (lv' := [(2, .int (nI (i + 1))), (0, .ref o), (1, .int (nI q))]) hx hb dX1_goMinute_99 hl (k := 2) rfl (nI_1 _) (by decide) rfl (fun ls hl => ?_)
              refine lv_goto (tgt := 67) hx hb dX1_goMinute_102 (by decide) ?_
              exact ih67 _ _ ls (m_as I (by simp [fo, mCome, c82])) (lv_as (lv_sub (l' := [(0, .ref o), (1, .int (nI q)), (2, .int (nI (i + 1)))]) hl [1, 2, 0] rfl) (rfl))
            · refine lv_iload_n hx hb dX1_goMinute_85 rfl (lv_at hl 2 rfl) ?_
              refine lv_aload_n hx hb dX1_goMinute_86 rfl (lv_at hl 0 rfl) ?_
              refine m_get E hK I 29 rfl q1144 rfl dX1_goMinute_87 ?_
              refine lv_icmp_eq (tgt := 99) hx hb dX1_goMinute_90 (by decide) (fun c90 => ?_) (fun c90 => ?_)
              · refine lv_iinc (v := nI (i + 1)) (lv' := [(2, .int (nI (i + 1))), (0, .ref o), (1, .int (nI q))]) hx hb dX1_goMinute_99 hl (k := 2) rfl (nI_1 _) (by decide) rfl (fun ls hl => ?_)
                refine lv_goto (tgt := 67) hx hb dX1_goMinute_102 (by decide) ?_
                exact ih67 _ _ ls (m_as I (by simp [fo, mCome, c82, c90])) (lv_as (lv_sub (l' := [(0, .ref o), (1, .int (nI q)), (2, .int (nI (i + 1)))]) hl [1, 2, 0] rfl) (rfl))
              · refine lv_aload_n hx hb dX1_goMinute_93 rfl (lv_at hl 0 rfl) ?_
                refine lv_iload_n hx hb dX1_goMinute_94 rfl (lv_at hl 2 rfl) ?_
                refine lv_iload_n hx hb dX1_goMinute_95 rfl (lv_at hl 1 rfl) ?_
                refine m_cv E hK hA I (m_comesIn l D ty o ad (fo (mCome q T G) i s3) i q (by omega) T hT ((congrFun (fo_k (fun i s => mCome_k (by omega) q T G i s) _ _) 0).trans k23) G hG ((congrFun (fo_k (fun i s => mCome_k (by omega) q T G i s) _ _) 0).trans k16)) go_m_comesIn dc_m_comesIn ⟨Nat.le_of_ble_eq_true rfl, Nat.le_of_ble_eq_true rfl⟩ ⟨Nat.le_refl 0, Nat.le_refl 0⟩ hl.1 (Nat.le_of_ble_eq_true rfl) rfl dX1_goMinute_96 (fun σ96 H locs hp I => ?_)
                have I := m_as I hp
                refine lv_iinc (v := nI (i + 1)) (lv' := [(2, .int (nI (i + 1))), (0, .ref o), (1, .int (nI q))]) hx hb dX1_goMinute_99 hl (k := 2) rfl (nI_1 _) (by decide) rfl (fun ls hl => ?_)
                refine lv_goto (tgt := 67) hx hb dX1_goMinute_102 (by decide) ?_
                exact ih67 _ _ ls (m_as I (by simp [fo, mCome, c82, c90])) (lv_as (lv_sub (l' := [(0, .ref o), (1, .int (nI q)), (2, .int (nI (i + 1)))]) hl [1, 2, 0] rfl) (rfl))
        exact L67 0 (Nat.zero_le _) _ _ ls (m_as I (rfl)) (lv_as (lv_sub (l' := [(0, .ref o), (1, .int (nI q)), (2, .int 0)]) hl [1, 2, 0] rfl) (rfl))
      · refine lv_aload_n hx hb dX1_goMinute_55 rfl (lv_at hl 0 rfl) ?_
        refine lv_iload_n hx hb dX1_goMinute_56 rfl (lv_at hl 1 rfl) ?_
        refine m_cv E hK hA I (m_rainsOn l D ty o ad s1 q T hT f23 G hG f16) go_m_rainsOn dc_m_rainsOn ⟨Nat.le_of_ble_eq_true rfl, Nat.le_of_ble_eq_true rfl⟩ ⟨Nat.le_refl 0, Nat.le_refl 0⟩ hl.1 (Nat.le_of_ble_eq_true rfl) rfl dX1_goMinute_57 (fun σ57 H locs hp I => ?_)
        have I := m_as I hp
        have I := m_as I (show _ = mM2 s1 q T G by simp [mM2, c52])
        obtain ⟨s2, hs2⟩ : ∃ z, z = mM2 s1 q T G := ⟨_, rfl⟩
        have I := m_as I hs2.symm
        have g16 : s2 16 0 = nI G := by rw [hs2, mM2_k (by omega)]; exact f16
        have g23 : s2 23 0 = nI T := by rw [hs2, mM2_k (by omega)]; exact f23
        refine lv_aload_n hx hb dX1_goMinute_60 rfl (lv_at hl 0 rfl) ?_
        refine lv_iload_n hx hb dX1_goMinute_61 rfl (lv_at hl 1 rfl) ?_
        refine m_cv E hK hA I (m_tryWaiting l D ty o ad s2 q hq T hT g23 G hG g16) go_m_tryWaiting dc_m_tryWaiting ⟨Nat.le_of_ble_eq_true rfl, Nat.le_of_ble_eq_true rfl⟩ ⟨Nat.le_refl 0, Nat.le_refl 0⟩ hl.1 (Nat.le_of_ble_eq_true rfl) rfl dX1_goMinute_62 (fun σ62 H locs hp I => ?_)
        have I := m_as I hp
        refine lv_iconst (v := 0) hx hb dX1_goMinute_65 (by decide) ?_
        refine lv_istore_n (lv' := [(2, .int 0), (0, .ref o), (1, .int (nI q))]) hx hb dX1_goMinute_66 rfl hl (by decide) rfl (fun ls hl => ?_)
        obtain ⟨s3, hs3⟩ : ∃ z, z = mTry s2 q T G := ⟨_, rfl⟩
        have I := m_as I hs3.symm
        have k16 : s3 16 0 = nI G := by rw [hs3, mTry_k (by omega)]; exact g16
        have k23 : s3 23 0 = nI T := by rw [hs3, mTry_k (by omega)]; exact g23
        have L67 : ∀ i, i ≤ G → ∀ (H : Heap) (locs : List Loc) (ls : Array Slot), gI s D A (mW ty o ad (fo (mCome q T G) i s3)) H locs → lv_has ls 3 [(0, .ref o), (1, .int (nI q)), (2, .int (nI i))] → W p l e (rmL 7) s m args below meth c H locs 0 0 Q (F0 m 67 ls []) := by
          refine dn_ind G ?_ ?_
          · intro H locs ls I hl
            refine lv_iload_n hx hb dX1_goMinute_67 rfl (lv_at hl 2 rfl) ?_
            refine lv_aload_n hx hb dX1_goMinute_68 rfl (lv_at hl 0 rfl) ?_
            refine m_get (v := .int (nI G)) E hK I 16 rfl q1131 (congrArg Value.int ((congrFun (fo_k (fun i s => mCome_k (by omega) q T G i s) _ _) 0).trans k16)) dX1_goMinute_69 ?_
            refine lv_icmp_ge (tgt := 105) hx hb dX1_goMinute_72 (by decide) (fun c72 => ?_) (fun c72 => absurd c72 (fun h => h (Int32.le_refl _)))
            subst hQ
            exact r_v E hlk hr I (Nat.le_refl 0) (Nat.le_refl 0) dX1_goMinute_105 (by rw [mMinute, ← hs1, ← hs2, ← hs3])
          · intro i hi ih67 H locs ls I hl
            refine lv_iload_n hx hb dX1_goMinute_67 rfl (lv_at hl 2 rfl) ?_
            refine lv_aload_n hx hb dX1_goMinute_68 rfl (lv_at hl 0 rfl) ?_
            refine m_get (v := .int (nI G)) E hK I 16 rfl q1131 (congrArg Value.int ((congrFun (fo_k (fun i s => mCome_k (by omega) q T G i s) _ _) 0).trans k16)) dX1_goMinute_69 ?_
            refine lv_icmp_ge (tgt := 105) hx hb dX1_goMinute_72 (by decide) (fun c72 => absurd c72 (nI_ge hi (by omega))) (fun c72 => ?_)
            refine lv_aload_n hx hb dX1_goMinute_75 rfl (lv_at hl 0 rfl) ?_
            refine m_get E hK I 19 rfl q1134 rfl dX1_goMinute_76 ?_
            refine lv_iload_n hx hb dX1_goMinute_79 rfl (lv_at hl 2 rfl) ?_
            refine m_ald (i := i) E hK I 9 rfl rfl rfl dX1_goMinute_80 (by simp only [mLn]; omega) ?_
            refine lv_iload_n hx hb dX1_goMinute_81 rfl (lv_at hl 1 rfl) ?_
            refine lv_icmp_ne (tgt := 99) hx hb dX1_goMinute_82 (by decide) (fun c82 => ?_) (fun c82 => ?_)
            · refine lv_iinc (v := nI (i + 1)) (lv' := [(2, .int (nI (i + 1))), (0, .ref o), (1, .int (nI q))]) hx hb dX1_goMinute_99 hl (k := 2) rfl (nI_1 _) (by decide) rfl (fun ls hl => ?_)
              refine lv_goto (tgt := 67) hx hb dX1_goMinute_102 (by decide) ?_
              exact ih67 _ _ ls (m_as I (by simp [fo, mCome, c82])) (lv_as (lv_sub (l' := [(0, .ref o), (1, .int (nI q)), (2, .int (nI (i + 1)))]) hl [1, 2, 0] rfl) (rfl))
            · refine lv_iload_n hx hb dX1_goMinute_85 rfl (lv_at hl 2 rfl) ?_
              refine lv_aload_n hx hb dX1_goMinute_86 rfl (lv_at hl 0 rfl) ?_
              refine m_get E hK I 29 rfl q1144 rfl dX1_goMinute_87 ?_
              refine lv_icmp_eq (tgt := 99) hx hb dX1_goMinute_90 (by decide) (fun c90 => ?_) (fun c90 => ?_)
              · refine lv_iinc (v := nI (i + 1)) (lv' := [(2, .int (nI (i + 1))), (0, .ref o), (1, .int (nI q))]) hx hb dX1_goMinute_99 hl (k := 2) rfl (nI_1 _) (by decide) rfl (fun ls hl => ?_)
                refine lv_goto (tgt := 67) hx hb dX1_goMinute_102 (by decide) ?_
                exact ih67 _ _ ls (m_as I (by simp [fo, mCome, c82, c90])) (lv_as (lv_sub (l' := [(0, .ref o), (1, .int (nI q)), (2, .int (nI (i + 1)))]) hl [1, 2, 0] rfl) (rfl))
              · refine lv_aload_n hx hb dX1_goMinute_93 rfl (lv_at hl 0 rfl) ?_
                refine lv_iload_n hx hb dX1_goMinute_94 rfl (lv_at hl 2 rfl) ?_
                refine lv_iload_n hx hb dX1_goMinute_95 rfl (lv_at hl 1 rfl) ?_
                refine m_cv E hK hA I (m_comesIn l D ty o ad (fo (mCome q T G) i s3) i q (by omega) T hT ((congrFun (fo_k (fun i s => mCome_k (by omega) q T G i s) _ _) 0).trans k23) G hG ((congrFun (fo_k (fun i s => mCome_k (by omega) q T G i s) _ _) 0).trans k16)) go_m_comesIn dc_m_comesIn ⟨Nat.le_of_ble_eq_true rfl, Nat.le_of_ble_eq_true rfl⟩ ⟨Nat.le_refl 0, Nat.le_refl 0⟩ hl.1 (Nat.le_of_ble_eq_true rfl) rfl dX1_goMinute_96 (fun σ96 H locs hp I => ?_)
                have I := m_as I hp
                refine lv_iinc (v := nI (i + 1)) (lv' := [(2, .int (nI (i + 1))), (0, .ref o), (1, .int (nI q))]) hx hb dX1_goMinute_99 hl (k := 2) rfl (nI_1 _) (by decide) rfl (fun ls hl => ?_)
                refine lv_goto (tgt := 67) hx hb dX1_goMinute_102 (by decide) ?_
                exact ih67 _ _ ls (m_as I (by simp [fo, mCome, c82, c90])) (lv_as (lv_sub (l' := [(0, .ref o), (1, .int (nI q)), (2, .int (nI (i + 1)))]) hl [1, 2, 0] rfl) (rfl))
        exact L67 0 (Nat.zero_le _) _ _ ls (m_as I (rfl)) (lv_as (lv_sub (l' := [(0, .ref o), (1, .int (nI q)), (2, .int 0)]) hl [1, 2, 0] rfl) (rfl))
    · intro i hi ih2 H locs ls I hl
      refine lv_iload_n hx hb dX1_goMinute_2 rfl (lv_at hl 2 rfl) ?_
      refine lv_aload_n hx hb dX1_goMinute_3 rfl (lv_at hl 0 rfl) ?_
      refine m_get (v := .int (nI G)) E hK I 16 rfl q1131 (congrArg Value.int ((congrFun (fo_k (fun i s => mLeave_k (by omega) q T i s) _ _) 0).trans h16)) dX1_goMinute_4 ?_
      refine lv_icmp_ge (tgt := 47) hx hb dX1_goMinute_7 (by decide) (fun c7 => absurd c7 (nI_ge hi (by omega))) (fun c7 => ?_)
      refine lv_aload_n hx hb dX1_goMinute_10 rfl (lv_at hl 0 rfl) ?_
      refine m_get E hK I 32 rfl q1147 rfl dX1_goMinute_11 ?_
      refine lv_iload_n hx hb dX1_goMinute_14 rfl (lv_at hl 2 rfl) ?_
      refine m_ald (i := i) E hK I 17 rfl rfl rfl dX1_goMinute_15 (by simp only [mLn]; omega) ?_
      refine lv_iconst (v := 1) hx hb dX1_goMinute_16 (by decide) ?_
      refine lv_icmp_ne (tgt := 41) hx hb dX1_goMinute_17 (by decide) (fun c17 => ?_) (fun c17 => ?_)
      · refine lv_iinc (v := nI (i + 1)) (lv' := [(2, .int (nI (i + 1))), (0, .ref o), (1, .int (nI q))]) hx hb dX1_goMinute_41 hl (k := 2) rfl (nI_1 _) (by decide) rfl (fun ls hl => ?_)
        refine lv_goto (tgt := 2) hx hb dX1_goMinute_44 (by decide) ?_
        exact ih2 _ _ ls (m_as I (by simp [fo, mLeave, c17])) (lv_as (lv_sub (l' := [(0, .ref o), (1, .int (nI q)), (2, .int (nI (i + 1)))]) hl [1, 2, 0] rfl) (rfl))
      · refine lv_aload_n hx hb dX1_goMinute_20 rfl (lv_at hl 0 rfl) ?_
        refine m_get E hK I 35 rfl q1150 rfl dX1_goMinute_21 ?_
        refine lv_iload_n hx hb dX1_goMinute_24 rfl (lv_at hl 2 rfl) ?_
        refine m_ald (i := i) E hK I 20 rfl rfl rfl dX1_goMinute_25 (by simp only [mLn]; omega) ?_
        refine lv_iload_n hx hb dX1_goMinute_26 rfl (lv_at hl 1 rfl) ?_
        refine lv_icmp_gt (tgt := 41) hx hb dX1_goMinute_27 (by decide) (fun c27 => ?_) (fun c27 => ?_)
        · refine lv_iinc (v := nI (i + 1)) (lv' := [(2, .int (nI (i + 1))), (0, .ref o), (1, .int (nI q))]) hx hb dX1_goMinute_41 hl (k := 2) rfl (nI_1 _) (by decide) rfl (fun ls hl => ?_)
          refine lv_goto (tgt := 2) hx hb dX1_goMinute_44 (by decide) ?_
          exact ih2 _ _ ls (m_as I (by simp [fo, mLeave, c17, c27])) (lv_as (lv_sub (l' := [(0, .ref o), (1, .int (nI q)), (2, .int (nI (i + 1)))]) hl [1, 2, 0] rfl) (rfl))
        · refine lv_aload_n hx hb dX1_goMinute_30 rfl (lv_at hl 0 rfl) ?_
          refine lv_iload_n hx hb dX1_goMinute_31 rfl (lv_at hl 2 rfl) ?_
          refine m_cv E hK hA I (m_getsUp l D ty o ad (fo (mLeave q T) i σ) i (by omega) T hT ((congrFun (fo_k (fun i s => mLeave_k (by omega) q T i s) _ _) 0).trans h23)) go_m_getsUp dc_m_getsUp ⟨Nat.le_of_ble_eq_true rfl, Nat.le_of_ble_eq_true rfl⟩ ⟨Nat.le_refl 0, Nat.le_refl 0⟩ hl.1 (Nat.le_of_ble_eq_true rfl) rfl dX1_goMinute_32 (fun σ32 H locs hp I => ?_)
          have I := m_as I hp
          refine lv_aload_n hx hb dX1_goMinute_35 rfl (lv_at hl 0 rfl) ?_
          refine lv_iload_n hx hb dX1_goMinute_36 rfl (lv_at hl 2 rfl) ?_
          refine lv_iload_n hx hb dX1_goMinute_37 rfl (lv_at hl 1 rfl) ?_
          refine m_cv E hK hA I (m_goes l D ty o ad (clr (fo (mLeave q T) i σ) i T) i (nI q) (by omega)) go_m_goes dc_m_goes ⟨Nat.le_of_ble_eq_true rfl, Nat.le_of_ble_eq_true rfl⟩ ⟨Nat.le_refl 0, Nat.le_refl 0⟩ hl.1 (Nat.le_of_ble_eq_true rfl) rfl dX1_goMinute_38 (fun σ38 H locs hp I => ?_)
          have I := m_as I hp
          refine lv_iinc (v := nI (i + 1)) (lv' := [(2, .int (nI (i + 1))), (0, .ref o), (1, .int (nI q))]) hx hb dX1_goMinute_41 hl (k := 2) rfl (nI_1 _) (by decide) rfl (fun ls hl => ?_)
          refine lv_goto (tgt := 2) hx hb dX1_goMinute_44 (by decide) ?_
          exact ih2 _ _ ls (m_as I (by simp [fo, mLeave, c17, c27])) (lv_as (lv_sub (l' := [(0, .ref o), (1, .int (nI q)), (2, .int (nI (i + 1)))]) hl [1, 2, 0] rfl) (rfl))
  exact L2 0 (Nat.zero_le _) _ _ ls (m_as I (rfl)) (lv_as (lv_sub (l' := [(0, .ref o), (1, .int (nI q)), (2, .int 0)]) hl [1, 2, 0] rfl) (rfl))
theorem dc_m_goMinute : yX1_goMinute.cls = RX1 ∧ yX1_goMinute.cls ≠ "java/lang/invoke/MethodHandle" ∧ yX1_goMinute.cls ≠ "java/lang/invoke/VarHandle" ∧ (parseMethodDescriptor yX1_goMinute.desc).map (fun d => d.parameters.length) = some 1 := by decide +kernel
theorem go_m_goMinute : GoodIn lw_all (wsV RX1 177 RX1 yX1_goMinute (ws_ yX1_goMinute cX1_goMinute 3 none)) := lw_V q1334 q1336 qs44 q75 q1337
theorem m_goDay (l : Launch) (D : va_G) (ty : Nat → ClassId) (o : Nat) (ad : Nat → Nat) (σ : Sg) (T : Nat) (hT : T ≤ 6) (h23 : σ 23 0 = nI T) (G : Nat) (hG : G ≤ 8) (h16 : σ 16 0 = nI G) : mKv l yX1_goDay cX1_goDay 2 8 D ty o ad σ [] (fun τ => τ = mDay σ T G) := by
  refine Kv.of (by decide) (Nat.le_of_ble_eq_true rfl) ?_
  intro p e s m below meth c A ls args E hK hA hX hlk hr hnm I hl
  have hx := E.1
  have hb := E.2.1
  have hl : lv_has ls 2 [(0, .ref o)] := hl
  refine nameQ (fun Q hQ => ?_)
  refine lv_iconst (v := 0) hx hb dX1_goDay_0 (by decide) ?_
  refine lv_istore_n (lv' := [(1, .int 0), (0, .ref o)]) hx hb dX1_goDay_1 rfl hl (by decide) rfl (fun ls hl => ?_)
  have L2 : ∀ i, i ≤ 6 → ∀ (H : Heap) (locs : List Loc) (ls : Array Slot), gI s D A (mW ty o ad (mIn1 σ i)) H locs → lv_has ls 2 [(0, .ref o), (1, .int (nI i))] → W p l e (rmL 8) s m args below meth c H locs 0 0 Q (F0 m 2 ls []) := by
    refine dn_ind 6 ?_ ?_
    · intro H locs ls I hl
      refine lv_iload_n hx hb dX1_goDay_2 rfl (lv_at hl 1 rfl) ?_
      refine lv_bipush (v := 6) hx hb dX1_goDay_3 (by decide) ?_
      refine top_i (y := nI 6) (by decide) ?_
      refine lv_icmp_ge (tgt := 29) hx hb dX1_goDay_5 (by decide) (fun c5 => ?_) (fun c5 => absurd c5 (fun h => h (Int32.le_refl _)))
      refine lv_iconst (v := 0) hx hb dX1_goDay_29 (by decide) ?_
      refine lv_istore_n (lv' := [(1, .int 0), (0, .ref o)]) hx hb dX1_goDay_30 rfl hl (by decide) rfl (fun ls hl => ?_)
      have L31 : ∀ i, i ≤ 8 → ∀ (H : Heap) (locs : List Loc) (ls : Array Slot), gI s D A (mW ty o ad (mIn2 (mIn1 σ 6) i)) H locs → lv_has ls 2 [(0, .ref o), (1, .int (nI i))] → W p l e (rmL 8) s m args below meth c H locs 0 0 Q (F0 m 31 ls []) := by
        refine dn_ind 8 ?_ ?_
        · intro H locs ls I hl
          refine lv_iload_n hx hb dX1_goDay_31 rfl (lv_at hl 1 rfl) ?_
          refine lv_bipush (v := 8) hx hb dX1_goDay_32 (by decide) ?_
          refine top_i (y := nI 8) (by decide) ?_
          refine lv_icmp_ge (tgt := 88) hx hb dX1_goDay_34 (by decide) (fun c34 => ?_) (fun c34 => absurd c34 (fun h => h (Int32.le_refl _)))
          refine lv_iconst (v := 0) hx hb dX1_goDay_88 (by decide) ?_
          refine lv_istore_n (lv' := [(1, .int 0), (0, .ref o)]) hx hb dX1_goDay_89 rfl hl (by decide) rfl (fun ls hl => ?_)
          have d16 : ∀ n, mDays σ T G n 16 0 = nI G := fun n => (congrFun (mDays_k (by omega) σ T G n) 0).trans h16
          have d23 : ∀ n, mDays σ T G n 23 0 = nI T := fun n => (congrFun (mDays_k (by omega) σ T G n) 0).trans h23
          have L90 : ∀ i, i ≤ 400 → ∀ (H : Heap) (locs : List Loc) (ls : Array Slot), gI s D A (mW ty o ad (mDays σ T G i)) H locs → lv_has ls 2 [(0, .ref o), (1, .int (nI i))] → W p l e (rmL 8) s m args below meth c H locs 0 0 Q (F0 m 90 ls []) := by
            refine dn_ind 400 ?_ ?_
            · intro H locs ls I hl
              refine lv_iload_n hx hb dX1_goDay_90 rfl (lv_at hl 1 rfl) ?_
              refine lv_sipush (v := 400) hx hb dX1_goDay_91 (by decide) ?_
              refine top_i (y := nI 400) (by decide) ?_
              refine lv_icmp_ge (tgt := 130) hx hb dX1_goDay_94 (by decide) (fun c94 => ?_) (fun c94 => absurd c94 (fun h => h (Int32.le_refl _)))
              subst hQ
              exact r_v E hlk hr I (Nat.le_refl 0) (Nat.le_refl 0) dX1_goDay_130 (rfl)
            · intro i hi ih90 H locs ls I hl
              refine lv_iload_n hx hb dX1_goDay_90 rfl (lv_at hl 1 rfl) ?_
              refine lv_sipush (v := 400) hx hb dX1_goDay_91 (by decide) ?_
              refine top_i (y := nI 400) (by decide) ?_
              refine lv_icmp_ge (tgt := 130) hx hb dX1_goDay_94 (by decide) (fun c94 => absurd c94 (nI_ge hi (by omega))) (fun c94 => ?_)
              refine lv_aload_n hx hb dX1_goDay_97 rfl (lv_at hl 0 rfl) ?_
              refine lv_iload_n hx hb dX1_goDay_98 rfl (lv_at hl 1 rfl) ?_
              refine m_cv E hK hA I (m_goMinute l D ty o ad (mDays σ T G i) i (by omega) T hT (d23 i) G hG (d16 i)) go_m_goMinute dc_m_goMinute ⟨Nat.le_of_ble_eq_true rfl, Nat.le_of_ble_eq_true rfl⟩ ⟨Nat.le_refl 0, Nat.le_refl 0⟩ hl.1 (Nat.le_of_ble_eq_true rfl) rfl dX1_goDay_99 (fun σ99 H locs hp I => ?_)
              have I := m_as I hp
              refine lv_aload_n hx hb dX1_goDay_102 rfl (lv_at hl 0 rfl) ?_
              refine m_get E hK I 38 rfl q1153 rfl dX1_goDay_103 ?_
              refine lv_iload_n hx hb dX1_goDay_106 rfl (lv_at hl 1 rfl) ?_
              refine lv_aload_n hx hb dX1_goDay_107 rfl (lv_at hl 0 rfl) ?_
              refine m_ci E hK hA I (m_manyTaken l D ty o ad (mMinute (mDays σ T G i) i T G) T hT (by rw [mMinute_k (by omega)]; exact d23 i)) go_m_manyTaken dc_m_manyTaken ⟨Nat.le_of_ble_eq_true rfl, Nat.le_of_ble_eq_true rfl⟩ ⟨Nat.le_refl 0, Nat.le_refl 0⟩ hl.1 (Nat.le_of_ble_eq_true rfl) rfl dX1_goDay_108 (fun r108 σ108 H locs hp I => ?_)
              refine top_i (y := nI (cnt (mTak (mMinute (mDays σ T G i) i T G)) T)) hp.1 ?_
              have I := m_as I hp.2
              refine m_ast (i := i) E hK I 23 rfl rfl rfl dX1_goDay_111 (by simp only [mLn]; omega) (fun H locs I => ?_)
              have I := m_as I (show _ = mEve1 (mMinute (mDays σ T G i) i T G) i T from rfl)
              refine lv_aload_n hx hb dX1_goDay_112 rfl (lv_at hl 0 rfl) ?_
              refine m_get E hK I 39 rfl q1154 rfl dX1_goDay_113 ?_
              refine lv_iload_n hx hb dX1_goDay_116 rfl (lv_at hl 1 rfl) ?_
              refine lv_aload_n hx hb dX1_goDay_117 rfl (lv_at hl 0 rfl) ?_
              refine lv_bipush (v := (-9)) hx hb dX1_goDay_118 (by decide) ?_
              refine m_ci E hK hA I (m_manyWait l D ty o ad (mEve1 (mMinute (mDays σ T G i) i T G) i T) (-9) G hG (by unfold mEve1; rw [up_k (by decide), mMinute_k (by omega)]; exact d16 i)) go_m_manyWait dc_m_manyWait ⟨Nat.le_of_ble_eq_true rfl, Nat.le_of_ble_eq_true rfl⟩ ⟨Nat.le_refl 0, Nat.le_refl 0⟩ hl.1 (Nat.le_of_ble_eq_true rfl) rfl dX1_goDay_120 (fun r120 σ120 H locs hp I => ?_)
              refine top_i (y := nI (cnt (mWt (mEve1 (mMinute (mDays σ T G i) i T G) i T) (-9)) G)) hp.1 ?_
              have I := m_as I hp.2
              refine m_ast (i := i) E hK I 24 rfl rfl rfl dX1_goDay_123 (by simp only [mLn]; omega) (fun H locs I => ?_)
              refine lv_iinc (v := nI (i + 1)) (lv' := [(1, .int (nI (i + 1))), (0, .ref o)]) hx hb dX1_goDay_124 hl (k := 1) rfl (nI_1 _) (by decide) rfl (fun ls hl => ?_)
              refine lv_goto (tgt := 90) hx hb dX1_goDay_127 (by decide) ?_
              exact ih90 _ _ ls (m_as I (rfl)) (lv_as (lv_sub (l' := [(0, .ref o), (1, .int (nI (i + 1)))]) hl [1, 0] rfl) (rfl))
          exact L90 0 (Nat.zero_le _) _ _ ls (m_as I (rfl)) (lv_as (lv_sub (l' := [(0, .ref o), (1, .int 0)]) hl [1, 0] rfl) (rfl))
        · intro i hi ih31 H locs ls I hl
          refine lv_iload_n hx hb dX1_goDay_31 rfl (lv_at hl 1 rfl) ?_
          refine lv_bipush (v := 8) hx hb dX1_goDay_32 (by decide) ?_
          refine top_i (y := nI 8) (by decide) ?_
          refine lv_icmp_ge (tgt := 88) hx hb dX1_goDay_34 (by decide) (fun c34 => absurd c34 (nI_ge hi (by omega))) (fun c34 => ?_)
          refine lv_aload_n hx hb dX1_goDay_37 rfl (lv_at hl 0 rfl) ?_
          refine m_get E hK I 32 rfl q1147 rfl dX1_goDay_38 ?_
          refine lv_iload_n hx hb dX1_goDay_41 rfl (lv_at hl 1 rfl) ?_
          refine lv_iconst (v := 0) hx hb dX1_goDay_42 (by decide) ?_
          refine m_ast (i := i) E hK I 17 rfl rfl rfl dX1_goDay_43 (by simp only [mLn]; omega) (fun H locs I => ?_)
          refine lv_aload_n hx hb dX1_goDay_44 rfl (lv_at hl 0 rfl) ?_
          refine m_get E hK I 33 rfl q1148 rfl dX1_goDay_45 ?_
          refine lv_iload_n hx hb dX1_goDay_48 rfl (lv_at hl 1 rfl) ?_
          refine lv_bipush (v := (-9)) hx hb dX1_goDay_49 (by decide) ?_
          refine m_ast (i := i) E hK I 18 rfl rfl rfl dX1_goDay_51 (by simp only [mLn]; omega) (fun H locs I => ?_)
          refine lv_aload_n hx hb dX1_goDay_52 rfl (lv_at hl 0 rfl) ?_
          refine m_get E hK I 34 rfl q1149 rfl dX1_goDay_53 ?_
          refine lv_iload_n hx hb dX1_goDay_56 rfl (lv_at hl 1 rfl) ?_
          refine lv_bipush (v := (-9)) hx hb dX1_goDay_57 (by decide) ?_
          refine m_ast (i := i) E hK I 19 rfl rfl rfl dX1_goDay_59 (by simp only [mLn]; omega) (fun H locs I => ?_)
          refine lv_aload_n hx hb dX1_goDay_60 rfl (lv_at hl 0 rfl) ?_
          refine m_get E hK I 35 rfl q1150 rfl dX1_goDay_61 ?_
          refine lv_iload_n hx hb dX1_goDay_64 rfl (lv_at hl 1 rfl) ?_
          refine lv_bipush (v := (-9)) hx hb dX1_goDay_65 (by decide) ?_
          refine m_ast (i := i) E hK I 20 rfl rfl rfl dX1_goDay_67 (by simp only [mLn]; omega) (fun H locs I => ?_)
          refine lv_aload_n hx hb dX1_goDay_68 rfl (lv_at hl 0 rfl) ?_
          refine m_get E hK I 36 rfl q1151 rfl dX1_goDay_69 ?_
          refine lv_iload_n hx hb dX1_goDay_72 rfl (lv_at hl 1 rfl) ?_
          refine lv_iconst (v := 0) hx hb dX1_goDay_73 (by decide) ?_
          refine m_ast (i := i) E hK I 21 rfl rfl rfl dX1_goDay_74 (by simp only [mLn]; omega) (fun H locs I => ?_)
          refine lv_aload_n hx hb dX1_goDay_75 rfl (lv_at hl 0 rfl) ?_
          refine m_get E hK I 37 rfl q1152 rfl dX1_goDay_76 ?_
          refine lv_iload_n hx hb dX1_goDay_79 rfl (lv_at hl 1 rfl) ?_
          refine lv_iconst (v := 0) hx hb dX1_goDay_80 (by decide) ?_
          refine m_ast (i := i) E hK I 22 rfl rfl rfl dX1_goDay_81 (by simp only [mLn]; omega) (fun H locs I => ?_)
          refine lv_iinc (v := nI (i + 1)) (lv' := [(1, .int (nI (i + 1))), (0, .ref o)]) hx hb dX1_goDay_82 hl (k := 1) rfl (nI_1 _) (by decide) rfl (fun ls hl => ?_)
          refine lv_goto (tgt := 31) hx hb dX1_goDay_85 (by decide) ?_
          exact ih31 _ _ ls (m_as I (mIn2_s _ _)) (lv_as (lv_sub (l' := [(0, .ref o), (1, .int (nI (i + 1)))]) hl [1, 0] rfl) (rfl))
      exact L31 0 (Nat.zero_le _) _ _ ls (m_as I (mIn2_0 _)) (lv_as (lv_sub (l' := [(0, .ref o), (1, .int 0)]) hl [1, 0] rfl) (rfl))
    · intro i hi ih2 H locs ls I hl
      refine lv_iload_n hx hb dX1_goDay_2 rfl (lv_at hl 1 rfl) ?_
      refine lv_bipush (v := 6) hx hb dX1_goDay_3 (by decide) ?_
      refine top_i (y := nI 6) (by decide) ?_
      refine lv_icmp_ge (tgt := 29) hx hb dX1_goDay_5 (by decide) (fun c5 => absurd c5 (nI_ge hi (by omega))) (fun c5 => ?_)
      refine lv_aload_n hx hb dX1_goDay_8 rfl (lv_at hl 0 rfl) ?_
      refine m_get E hK I 30 rfl q1145 rfl dX1_goDay_9 ?_
      refine lv_iload_n hx hb dX1_goDay_12 rfl (lv_at hl 1 rfl) ?_
      refine lv_bipush (v := (-9)) hx hb dX1_goDay_13 (by decide) ?_
      refine m_ast (i := i) E hK I 15 rfl rfl rfl dX1_goDay_15 (by simp only [mLn]; omega) (fun H locs I => ?_)
      refine lv_aload_n hx hb dX1_goDay_16 rfl (lv_at hl 0 rfl) ?_
      refine m_get E hK I 31 rfl q1146 rfl dX1_goDay_17 ?_
      refine lv_iload_n hx hb dX1_goDay_20 rfl (lv_at hl 1 rfl) ?_
      refine lv_iconst (v := 0) hx hb dX1_goDay_21 (by decide) ?_
      refine m_zst (b := false) (i := i) E hK I 16 rfl rfl rfl dX1_goDay_22 (by simp only [mLn]; omega) (fun H locs I => ?_)
      refine lv_iinc (v := nI (i + 1)) (lv' := [(1, .int (nI (i + 1))), (0, .ref o)]) hx hb dX1_goDay_23 hl (k := 1) rfl (nI_1 _) (by decide) rfl (fun ls hl => ?_)
      refine lv_goto (tgt := 2) hx hb dX1_goDay_26 (by decide) ?_
      exact ih2 _ _ ls (m_as I (mIn1_s _ _)) (lv_as (lv_sub (l' := [(0, .ref o), (1, .int (nI (i + 1)))]) hl [1, 0] rfl) (rfl))
  exact L2 0 (Nat.zero_le _) _ _ ls (m_as I (mIn1_0 _)) (lv_as (lv_sub (l' := [(0, .ref o), (1, .int 0)]) hl [1, 0] rfl) (rfl))
theorem dc_m_goDay : yX1_goDay.cls = RX1 ∧ yX1_goDay.cls ≠ "java/lang/invoke/MethodHandle" ∧ yX1_goDay.cls ≠ "java/lang/invoke/VarHandle" ∧ (parseMethodDescriptor yX1_goDay.desc).map (fun d => d.parameters.length) = some 0 := by decide +kernel
theorem go_m_goDay : GoodIn lw_all (wsV RX1 236 RX1 yX1_goDay (ws_ yX1_goDay cX1_goDay 2 none)) := lw_V q1330 q1332 qs43 q75 q1333
def cp2 (s : Sg) (n : Nat) : Sg := fun a b => if b < n then (if a = 24 then s 6 b else if a = 25 then s 7 b else s a b) else s a b
theorem cp2_0 (s : Sg) : s = cp2 s 0 := by funext a b; simp [cp2]
theorem cp2_s (s : Sg) (n : Nat) : up (up (cp2 s n) 24 n (cp2 s n 6 n)) 25 n (up (cp2 s n) 24 n (cp2 s n 6 n) 7 n) = cp2 s (n + 1) := by
  funext a b
  by_cases hb : b = n
  · subst hb
    by_cases h1 : a = 24
    · simp [cp2, up, h1]
    · by_cases h2 : a = 25
      · simp [cp2, up, h2]
      · simp [cp2, up, h1, h2]
  · simp [cp2, up, hb, lt_s1 hb]
theorem cp2_k {k : Nat} (h : k ≠ 24 ∧ k ≠ 25) (s : Sg) (n : Nat) : cp2 s n k = s k := by
  funext b; simp [cp2, h.1, h.2]
def mLay (σ : Sg) (T : Nat) : Sg := up (up (up (up (cp2 (up σ 23 0 (nI T)) T) 26 0 (σ 8 0)) 27 0 (σ 9 0)) 28 0 (σ 11 0)) 29 0 (-9)
theorem mLay_k {k : Nat} (h : k < 23 ∨ 29 < k) (σ : Sg) (T : Nat) : mLay σ T k = σ k := by
  unfold mLay
  rw [up_rk (by omega), up_rk (by omega), up_rk (by omega), up_rk (by omega), cp2_k (by omega), up_rk (by omega)]
theorem mLay_T (σ : Sg) (T : Nat) : mLay σ T 23 0 = nI T := by
  simp [mLay, up, cp2]
def mNow (σ : Sg) (T G : Nat) : Sg := mDay (mLay σ T) T G
theorem mNow_k {k : Nat} (h : k < 23 ∨ 40 < k) (σ : Sg) (T G : Nat) : mNow σ T G k = σ k := by
  unfold mNow
  rw [mDay_k (by omega), mLay_k (by omega)]
def mBy (σ : Sg) (r x : Int32) (T G : Nat) : Sg := mDay (up (up (mLay σ T) 26 0 r) 27 0 x) T G
theorem mBy_k {k : Nat} (h : k < 23 ∨ 40 < k) (σ : Sg) (r x : Int32) (T G : Nat) : mBy σ r x T G k = σ k := by
  unfold mBy
  rw [mDay_k (by omega), up_rk (by omega), up_rk (by omega), mLay_k (by omega)]
theorem m_layNow (l : Launch) (D : va_G) (ty : Nat → ClassId) (o : Nat) (ad : Nat → Nat) (σ : Sg) (T : Nat) (hT : T ≤ 6) (h5 : σ 5 0 = nI T) : mKv l yX1_layNow cX1_layNow 2 1 D ty o ad σ [] (fun τ => τ = mLay σ T) := by
  refine Kv.of (by decide) (Nat.le_of_ble_eq_true rfl) ?_
  intro p e s m below meth c A ls args E hK hA hX hlk hr hnm I hl
  have hx := E.1
  have hb := E.2.1
  have hl : lv_has ls 2 [(0, .ref o)] := hl
  refine nameQ (fun Q hQ => ?_)
  refine lv_aload_n hx hb dX1_layNow_0 rfl (lv_at hl 0 rfl) ?_
  refine lv_aload_n hx hb dX1_layNow_1 rfl (lv_at hl 0 rfl) ?_
  refine m_get (v := .int (nI T)) E hK I 5 rfl q1120 (congrArg Value.int (h5)) dX1_layNow_2 ?_
  refine m_put E hK I 23 rfl rfl q1138 rfl rfl rfl dX1_layNow_5 (fun H locs I => ?_)
  refine lv_iconst (v := 0) hx hb dX1_layNow_8 (by decide) ?_
  refine lv_istore_n (lv' := [(1, .int 0), (0, .ref o)]) hx hb dX1_layNow_9 rfl hl (by decide) rfl (fun ls hl => ?_)
  have L10 : ∀ i, i ≤ T → ∀ (H : Heap) (locs : List Loc) (ls : Array Slot), gI s D A (mW ty o ad (cp2 (up σ 23 0 (nI T)) i)) H locs → lv_has ls 2 [(0, .ref o), (1, .int (nI i))] → W p l e (rmL 1) s m args below meth c H locs 0 0 Q (F0 m 10 ls []) := by
    refine dn_ind T ?_ ?_
    · intro H locs ls I hl
      refine lv_iload_n hx hb dX1_layNow_10 rfl (lv_at hl 1 rfl) ?_
      refine lv_aload_n hx hb dX1_layNow_11 rfl (lv_at hl 0 rfl) ?_
      refine m_get (v := .int (nI T)) E hK I 5 rfl q1120 (congrArg Value.int (by simp [up, cp2, h5])) dX1_layNow_12 ?_
      refine lv_icmp_ge (tgt := 48) hx hb dX1_layNow_15 (by decide) (fun c15 => ?_) (fun c15 => absurd c15 (fun h => h (Int32.le_refl _)))
      refine lv_aload_n hx hb dX1_layNow_48 rfl (lv_at hl 0 rfl) ?_
      refine lv_aload_n hx hb dX1_layNow_49 rfl (lv_at hl 0 rfl) ?_
      refine m_get E hK I 8 rfl q1123 rfl dX1_layNow_50 ?_
      refine m_put E hK I 26 rfl rfl q1141 rfl rfl rfl dX1_layNow_53 (fun H locs I => ?_)
      refine lv_aload_n hx hb dX1_layNow_56 rfl (lv_at hl 0 rfl) ?_
      refine lv_aload_n hx hb dX1_layNow_57 rfl (lv_at hl 0 rfl) ?_
      refine m_get E hK I 9 rfl q1124 rfl dX1_layNow_58 ?_
      refine m_put E hK I 27 rfl rfl q1142 rfl rfl rfl dX1_layNow_61 (fun H locs I => ?_)
      refine lv_aload_n hx hb dX1_layNow_64 rfl (lv_at hl 0 rfl) ?_
      refine lv_aload_n hx hb dX1_layNow_65 rfl (lv_at hl 0 rfl) ?_
      refine m_get E hK I 11 rfl q1126 rfl dX1_layNow_66 ?_
      refine m_put E hK I 28 rfl rfl q1143 rfl rfl rfl dX1_layNow_69 (fun H locs I => ?_)
      refine lv_aload_n hx hb dX1_layNow_72 rfl (lv_at hl 0 rfl) ?_
      refine lv_bipush (v := (-9)) hx hb dX1_layNow_73 (by decide) ?_
      refine m_put E hK I 29 rfl rfl q1144 rfl rfl rfl dX1_layNow_75 (fun H locs I => ?_)
      subst hQ
      exact r_v E hlk hr I (Nat.le_refl 0) (Nat.le_refl 0) dX1_layNow_78 (by simp [mLay, up_k, cp2_k])
    · intro i hi ih10 H locs ls I hl
      refine lv_iload_n hx hb dX1_layNow_10 rfl (lv_at hl 1 rfl) ?_
      refine lv_aload_n hx hb dX1_layNow_11 rfl (lv_at hl 0 rfl) ?_
      refine m_get (v := .int (nI T)) E hK I 5 rfl q1120 (congrArg Value.int (by simp [up, cp2, h5])) dX1_layNow_12 ?_
      refine lv_icmp_ge (tgt := 48) hx hb dX1_layNow_15 (by decide) (fun c15 => absurd c15 (nI_ge hi (by omega))) (fun c15 => ?_)
      refine lv_aload_n hx hb dX1_layNow_18 rfl (lv_at hl 0 rfl) ?_
      refine m_get E hK I 24 rfl q1139 rfl dX1_layNow_19 ?_
      refine lv_iload_n hx hb dX1_layNow_22 rfl (lv_at hl 1 rfl) ?_
      refine lv_aload_n hx hb dX1_layNow_23 rfl (lv_at hl 0 rfl) ?_
      refine m_get E hK I 6 rfl q1121 rfl dX1_layNow_24 ?_
      refine lv_iload_n hx hb dX1_layNow_27 rfl (lv_at hl 1 rfl) ?_
      refine m_ald (i := i) E hK I 3 rfl rfl rfl dX1_layNow_28 (by simp only [mLn]; omega) ?_
      refine m_ast (i := i) E hK I 13 rfl rfl rfl dX1_layNow_29 (by simp only [mLn]; omega) (fun H locs I => ?_)
      refine lv_aload_n hx hb dX1_layNow_30 rfl (lv_at hl 0 rfl) ?_
      refine m_get E hK I 25 rfl q1140 rfl dX1_layNow_31 ?_
      refine lv_iload_n hx hb dX1_layNow_34 rfl (lv_at hl 1 rfl) ?_
      refine lv_aload_n hx hb dX1_layNow_35 rfl (lv_at hl 0 rfl) ?_
      refine m_get E hK I 7 rfl q1122 rfl dX1_layNow_36 ?_
      refine lv_iload_n hx hb dX1_layNow_39 rfl (lv_at hl 1 rfl) ?_
      refine m_ald (i := i) E hK I 4 rfl rfl rfl dX1_layNow_40 (by simp only [mLn]; omega) ?_
      refine m_ast (i := i) E hK I 14 rfl rfl rfl dX1_layNow_41 (by simp only [mLn]; omega) (fun H locs I => ?_)
      refine lv_iinc (v := nI (i + 1)) (lv' := [(1, .int (nI (i + 1))), (0, .ref o)]) hx hb dX1_layNow_42 hl (k := 1) rfl (nI_1 _) (by decide) rfl (fun ls hl => ?_)
      refine lv_goto (tgt := 10) hx hb dX1_layNow_45 (by decide) ?_
      exact ih10 _ _ ls (m_as I (cp2_s _ _)) (lv_as (lv_sub (l' := [(0, .ref o), (1, .int (nI (i + 1)))]) hl [1, 0] rfl) (rfl))
  exact L10 0 (Nat.zero_le _) _ _ ls (m_as I (cp2_0 _)) (lv_as (lv_sub (l' := [(0, .ref o), (1, .int 0)]) hl [1, 0] rfl) (rfl))
theorem dc_m_layNow : yX1_layNow.cls = RX1 ∧ yX1_layNow.cls ≠ "java/lang/invoke/MethodHandle" ∧ yX1_layNow.cls ≠ "java/lang/invoke/VarHandle" ∧ (parseMethodDescriptor yX1_layNow.desc).map (fun d => d.parameters.length) = some 0 := by decide +kernel
theorem go_m_layNow : GoodIn lw_all (wsV RX1 233 RX1 yX1_layNow (ws_ yX1_layNow cX1_layNow 2 none)) := lw_V q1326 q1328 qs42 q75 q1329
theorem m_coinNow (l : Launch) (D : va_G) (ty : Nat → ClassId) (o : Nat) (ad : Nat → Nat) (σ : Sg) (T : Nat) (hT : T ≤ 6) (h5 : σ 5 0 = nI T) (G : Nat) (hG : G ≤ 8) (h16 : σ 16 0 = nI G) : mKi l yX1_coinNow cX1_coinNow 1 .int 9 D ty o ad σ [] (fun r τ => r = sumI (mNow σ T G 36) G ∧ τ = mNow σ T G) := by
  refine Ki.of (by decide) (Nat.le_of_ble_eq_true rfl) ?_
  intro p e s m below meth c A ls args E hK hA hX hlk hr I hl
  have hx := E.1
  have hb := E.2.1
  have hl : lv_has ls 1 [(0, .ref o)] := hl
  refine lv_aload_n hx hb dX1_coinNow_0 rfl (lv_at hl 0 rfl) ?_
  refine m_cv E hK hA I (m_layNow l D ty o ad σ T hT h5) go_m_layNow dc_m_layNow ⟨Nat.le_of_ble_eq_true rfl, Nat.le_of_ble_eq_true rfl⟩ ⟨Nat.le_refl 0, Nat.le_refl 0⟩ hl.1 (Nat.le_of_ble_eq_true rfl) rfl dX1_coinNow_1 (fun σ1 H locs hp I => ?_)
  have I := m_as I hp
  refine lv_aload_n hx hb dX1_coinNow_4 rfl (lv_at hl 0 rfl) ?_
  refine m_cv E hK hA I (m_goDay l D ty o ad (mLay σ T) T hT (mLay_T σ T) G hG (by rw [mLay_k (by omega)]; exact h16)) go_m_goDay dc_m_goDay ⟨Nat.le_of_ble_eq_true rfl, Nat.le_of_ble_eq_true rfl⟩ ⟨Nat.le_refl 0, Nat.le_refl 0⟩ hl.1 (Nat.le_of_ble_eq_true rfl) rfl dX1_coinNow_5 (fun σ5 H locs hp I => ?_)
  have I := m_as I hp
  refine lv_aload_n hx hb dX1_coinNow_8 rfl (lv_at hl 0 rfl) ?_
  refine m_ci E hK hA I (m_allCoin l D ty o ad (mDay (mLay σ T) T G) G hG (by rw [mDay_k (by omega), mLay_k (by omega)]; exact h16)) go_m_allCoin dc_m_allCoin ⟨Nat.le_of_ble_eq_true rfl, Nat.le_of_ble_eq_true rfl⟩ ⟨Nat.le_refl 0, Nat.le_refl 0⟩ hl.1 (Nat.le_of_ble_eq_true rfl) rfl dX1_coinNow_9 (fun r9 σ9 H locs hp I => ?_)
  refine top_i (y := sumI ((mDay (mLay σ T) T G) 36) G) hp.1 ?_
  have I := m_as I hp.2
  exact r_i E hlk hr I (Nat.le_refl 0) (Nat.le_refl 0) dX1_coinNow_12 (⟨rfl, rfl⟩)
theorem dc_m_coinNow : yX1_coinNow.cls = RX1 ∧ yX1_coinNow.cls ≠ "java/lang/invoke/MethodHandle" ∧ yX1_coinNow.cls ≠ "java/lang/invoke/VarHandle" ∧ (parseMethodDescriptor yX1_coinNow.desc).map (fun d => d.parameters.length) = some 0 := by decide +kernel
theorem go_m_coinNow : GoodIn lw_all (wsV RX1 242 RX1 yX1_coinNow (ws_ yX1_coinNow cX1_coinNow 1 (some .int))) := lw_V q1322 q1324 qs41 q75 q1325
theorem m_coinBy (l : Launch) (D : va_G) (ty : Nat → ClassId) (o : Nat) (ad : Nat → Nat) (σ : Sg) (a : Int32) (x : Int32) (T : Nat) (hT : T ≤ 6) (h5 : σ 5 0 = nI T) (G : Nat) (hG : G ≤ 8) (h16 : σ 16 0 = nI G) : mKi l yX1_coinBy cX1_coinBy 3 .int 9 D ty o ad σ [.int a, .int x] (fun r τ => r = sumI (mBy σ a x T G 36) G ∧ τ = mBy σ a x T G) := by
  refine Ki.of (by decide) (Nat.le_of_ble_eq_true rfl) ?_
  intro p e s m below meth c A ls args E hK hA hX hlk hr I hl
  have hx := E.1
  have hb := E.2.1
  have hl : lv_has ls 3 [(0, .ref o), (1, .int a), (2, .int x)] := hl
  refine lv_aload_n hx hb dX1_coinBy_0 rfl (lv_at hl 0 rfl) ?_
  refine m_cv E hK hA I (m_layNow l D ty o ad σ T hT h5) go_m_layNow dc_m_layNow ⟨Nat.le_of_ble_eq_true rfl, Nat.le_of_ble_eq_true rfl⟩ ⟨Nat.le_refl 0, Nat.le_refl 0⟩ hl.1 (Nat.le_of_ble_eq_true rfl) rfl dX1_coinBy_1 (fun σ1 H locs hp I => ?_)
  have I := m_as I hp
  refine lv_aload_n hx hb dX1_coinBy_4 rfl (lv_at hl 0 rfl) ?_
  refine lv_iload_n hx hb dX1_coinBy_5 rfl (lv_at hl 1 rfl) ?_
  refine m_put E hK I 26 rfl rfl q1141 rfl rfl rfl dX1_coinBy_6 (fun H locs I => ?_)
  refine lv_aload_n hx hb dX1_coinBy_9 rfl (lv_at hl 0 rfl) ?_
  refine lv_iload_n hx hb dX1_coinBy_10 rfl (lv_at hl 2 rfl) ?_
  refine m_put E hK I 27 rfl rfl q1142 rfl rfl rfl dX1_coinBy_11 (fun H locs I => ?_)
  refine lv_aload_n hx hb dX1_coinBy_14 rfl (lv_at hl 0 rfl) ?_
  refine m_cv E hK hA I (m_goDay l D ty o ad (up (up (mLay σ T) 26 0 a) 27 0 x) T hT (by rw [up_k (by decide), up_k (by decide)]; exact mLay_T σ T) G hG (by rw [up_k (by decide), up_k (by decide), mLay_k (by omega)]; exact h16)) go_m_goDay dc_m_goDay ⟨Nat.le_of_ble_eq_true rfl, Nat.le_of_ble_eq_true rfl⟩ ⟨Nat.le_refl 0, Nat.le_refl 0⟩ hl.1 (Nat.le_of_ble_eq_true rfl) rfl dX1_coinBy_15 (fun σ15 H locs hp I => ?_)
  have I := m_as I hp
  refine lv_aload_n hx hb dX1_coinBy_18 rfl (lv_at hl 0 rfl) ?_
  refine m_ci E hK hA I (m_allCoin l D ty o ad (mDay (up (up (mLay σ T) 26 0 a) 27 0 x) T G) G hG (by rw [mDay_k (by omega), up_k (by decide), up_k (by decide), mLay_k (by omega)]; exact h16)) go_m_allCoin dc_m_allCoin ⟨Nat.le_of_ble_eq_true rfl, Nat.le_of_ble_eq_true rfl⟩ ⟨Nat.le_refl 0, Nat.le_refl 0⟩ hl.1 (Nat.le_of_ble_eq_true rfl) rfl dX1_coinBy_19 (fun r19 σ19 H locs hp I => ?_)
  refine top_i (y := sumI ((mDay (up (up (mLay σ T) 26 0 a) 27 0 x) T G) 36) G) hp.1 ?_
  have I := m_as I hp.2
  exact r_i E hlk hr I (Nat.le_refl 0) (Nat.le_refl 0) dX1_coinBy_22 (⟨rfl, rfl⟩)
theorem dc_m_coinBy : yX1_coinBy.cls = RX1 ∧ yX1_coinBy.cls ≠ "java/lang/invoke/MethodHandle" ∧ yX1_coinBy.cls ≠ "java/lang/invoke/VarHandle" ∧ (parseMethodDescriptor yX1_coinBy.desc).map (fun d => d.parameters.length) = some 2 := by decide +kernel
theorem go_m_coinBy : GoodIn lw_all (wsV RX1 260 RX1 yX1_coinBy (ws_ yX1_coinBy cX1_coinBy 3 (some .int))) := lw_V q1443 q1445 qs66 q75 q1446
