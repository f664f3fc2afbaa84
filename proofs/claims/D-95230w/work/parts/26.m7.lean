set_option maxRecDepth 100000
set_option maxHeartbeats 4000000
theorem nle_lt {a b : Nat} (hb : b < 2 ^ 31) (h : ¬ nI a ≤ nI b) : b < a := by
  rcases Nat.lt_or_ge b a with h1 | h1
  · exact h1
  · exact absurd (nI_le h1 hb) h
theorem nlt_le {a b : Nat} (hb : b < 2 ^ 31) (h : ¬ nI a < nI b) : b ≤ a := by
  rcases Nat.lt_or_ge a b with h1 | h1
  · exact absurd (nI_lt h1 hb) h
  · exact h1
def seatAt (a b i : Nat) : Int32 := if i < a then 2 else if i < a + b then 4 else 6
def cpm (s : Sg) (a b n : Nat) : Sg := fun x y => if y < n then (if x = 24 then 2 else if x = 25 then seatAt a b y else s x y) else s x y
theorem cpm_0 (s : Sg) (a b : Nat) : s = cpm s a b 0 := by funext x y; simp [cpm]
theorem cpm_s (s : Sg) (a b n : Nat) {v : Int32} (hv : v = seatAt a b n) : up (up (cpm s a b n) 24 n 2) 25 n v = cpm s a b (n + 1) := by
  subst hv
  funext x y
  by_cases hb : y = n
  · subst hb
    by_cases h1 : x = 24
    · simp [cpm, up, h1]
    · by_cases h2 : x = 25
      · simp [cpm, up, h2]
      · simp [cpm, up, h1, h2]
  · simp [cpm, up, hb, lt_s1 hb]
theorem cpm_k {k : Nat} (h : k ≠ 24 ∧ k ≠ 25) (s : Sg) (a b n : Nat) : cpm s a b n k = s k := by
  funext y; simp [cpm, h.1, h.2]
def mMix (σ : Sg) (a b c : Nat) : Sg := cpm (up (up σ 28 0 (-9)) 23 0 (nI (a + b + c))) a b (a + b + c)
theorem mMix_k {k : Nat} (h : k < 23 ∨ 29 < k) (σ : Sg) (a b c : Nat) : mMix σ a b c k = σ k := by
  unfold mMix
  rw [cpm_k (by omega), up_rk (by omega), up_rk (by omega)]
theorem mMix_T (σ : Sg) (a b c : Nat) : mMix σ a b c 23 0 = nI (a + b + c) := by
  unfold mMix
  rw [cpm_k (by decide), up_s]
theorem m_layMix (l : Launch) (D : va_G) (ty : Nat → ClassId) (o : Nat) (ad : Nat → Nat) (σ : Sg) (a : Nat) (b : Nat) (d : Nat) (hs : a + b + d ≤ 6) : mKv l yX1_layMix cX1_layMix 5 1 D ty o ad σ [.int (nI a), .int (nI b), .int (nI d)] (fun τ => τ = mMix σ a b d) := by
  refine Kv.of (by decide) (Nat.le_of_ble_eq_true rfl) ?_
  intro p e s m below meth c A ls args E hK hA hX hlk hr hnm I hl
  have hx := E.1
  have hb := E.2.1
  have hl : lv_has ls 5 [(0, .ref o), (1, .int (nI a)), (2, .int (nI b)), (3, .int (nI d))] := hl
  refine nameQ (fun Q hQ => ?_)
  refine lv_aload_n hx hb dX1_layMix_0 rfl (lv_at hl 0 rfl) ?_
  refine lv_bipush (v := (-9)) hx hb dX1_layMix_1 (by decide) ?_
  refine m_put E hK I 28 rfl rfl q1143 rfl rfl rfl dX1_layMix_3 (fun H locs I => ?_)
  refine lv_aload_n hx hb dX1_layMix_6 rfl (lv_at hl 0 rfl) ?_
  refine lv_iload_n hx hb dX1_layMix_7 rfl (lv_at hl 1 rfl) ?_
  refine lv_iload_n hx hb dX1_layMix_8 rfl (lv_at hl 2 rfl) ?_
  refine lv_iadd hx hb dX1_layMix_9 ?_
  refine lv_iload_n hx hb dX1_layMix_10 rfl (lv_at hl 3 rfl) ?_
  refine lv_iadd hx hb dX1_layMix_11 ?_
  refine top_i (y := nI (a + b + d)) (by rw [nI_add, nI_add]) ?_
  refine m_put E hK I 23 rfl rfl q1138 rfl rfl rfl dX1_layMix_12 (fun H locs I => ?_)
  refine lv_iconst (v := 0) hx hb dX1_layMix_15 (by decide) ?_
  refine lv_istore (lv' := [(4, .int 0), (0, .ref o), (1, .int (nI a)), (2, .int (nI b)), (3, .int (nI d))]) hx hb dX1_layMix_16 hl (by decide) rfl (fun ls hl => ?_)
  have L18 : ∀ i, i ≤ (a + b + d) → ∀ (H : Heap) (locs : List Loc) (ls : Array Slot), gI s D A (mW ty o ad (cpm (up (up σ 28 0 (-9)) 23 0 (nI (a + b + d))) a b i)) H locs → lv_has ls 5 [(0, .ref o), (1, .int (nI a)), (2, .int (nI b)), (3, .int (nI d)), (4, .int (nI i))] → W p l e (rmL 1) s m args below meth c H locs 0 0 Q (F0 m 18 ls []) := by
    refine dn_ind (a + b + d) ?_ ?_
    · intro H locs ls I hl
      refine lv_iload hx hb dX1_layMix_18 (lv_at hl 4 rfl) ?_
      refine lv_aload_n hx hb dX1_layMix_20 rfl (lv_at hl 0 rfl) ?_
      refine m_get (v := .int (nI (a + b + d))) E hK I 23 rfl q1138 (congrArg Value.int (by rw [cpm_k (by decide), up_s])) dX1_layMix_21 ?_
      refine lv_icmp_ge (tgt := 72) hx hb dX1_layMix_24 (by decide) (fun c24 => ?_) (fun c24 => absurd c24 (fun h => h (Int32.le_refl _)))
      subst hQ
      exact r_v E hlk hr I (Nat.le_refl 0) (Nat.le_refl 0) dX1_layMix_72 (rfl)
    · intro i hi ih18 H locs ls I hl
      refine lv_iload hx hb dX1_layMix_18 (lv_at hl 4 rfl) ?_
      refine lv_aload_n hx hb dX1_layMix_20 rfl (lv_at hl 0 rfl) ?_
      refine m_get (v := .int (nI (a + b + d))) E hK I 23 rfl q1138 (congrArg Value.int (by rw [cpm_k (by decide), up_s])) dX1_layMix_21 ?_
      refine lv_icmp_ge (tgt := 72) hx hb dX1_layMix_24 (by decide) (fun c24 => absurd c24 (nI_ge hi (by omega))) (fun c24 => ?_)
      refine lv_aload_n hx hb dX1_layMix_27 rfl (lv_at hl 0 rfl) ?_
      refine m_get E hK I 24 rfl q1139 rfl dX1_layMix_28 ?_
      refine lv_iload hx hb dX1_layMix_31 (lv_at hl 4 rfl) ?_
      refine lv_iconst (v := 2) hx hb dX1_layMix_33 (by decide) ?_
      refine m_ast (i := i) E hK I 13 rfl rfl rfl dX1_layMix_34 (by simp only [mLn]; omega) (fun H locs I => ?_)
      refine lv_aload_n hx hb dX1_layMix_35 rfl (lv_at hl 0 rfl) ?_
      refine m_get E hK I 25 rfl q1140 rfl dX1_layMix_36 ?_
      refine lv_iload hx hb dX1_layMix_39 (lv_at hl 4 rfl) ?_
      refine lv_iload hx hb dX1_layMix_41 (lv_at hl 4 rfl) ?_
      refine lv_iload_n hx hb dX1_layMix_43 rfl (lv_at hl 1 rfl) ?_
      refine lv_icmp_ge (tgt := 51) hx hb dX1_layMix_44 (by decide) (fun c44 => ?_) (fun c44 => ?_)
      · refine lv_iload hx hb dX1_layMix_51 (lv_at hl 4 rfl) ?_
        refine lv_iload_n hx hb dX1_layMix_53 rfl (lv_at hl 1 rfl) ?_
        refine lv_iload_n hx hb dX1_layMix_54 rfl (lv_at hl 2 rfl) ?_
        refine lv_iadd hx hb dX1_layMix_55 ?_
        refine top_i (y := nI (a + b)) (nI_add _ _) ?_
        refine lv_icmp_ge (tgt := 63) hx hb dX1_layMix_56 (by decide) (fun c56 => ?_) (fun c56 => ?_)
        · refine lv_bipush (v := 6) hx hb dX1_layMix_63 (by decide) ?_
          refine m_ast (i := i) E hK I 14 rfl rfl rfl dX1_layMix_65 (by simp only [mLn]; omega) (fun H locs I => ?_)
          refine lv_iinc (v := nI (i + 1)) (lv' := [(4, .int (nI (i + 1))), (0, .ref o), (1, .int (nI a)), (2, .int (nI b)), (3, .int (nI d))]) hx hb dX1_layMix_66 hl (k := 4) rfl (nI_1 _) (by decide) rfl (fun ls hl => ?_)
          refine lv_goto (tgt := 18) hx hb dX1_layMix_69 (by decide) ?_
          exact ih18 _ _ ls (m_as I (cpm_s _ _ _ _ (by simp [seatAt, (show ¬ i < a from fun h => nI_ge h (by omega) c44), (show ¬ i < a + b from fun h => nI_ge h (by omega) c56)]))) (lv_as (lv_sub (l' := [(0, .ref o), (1, .int (nI a)), (2, .int (nI b)), (3, .int (nI d)), (4, .int (nI (i + 1)))]) hl [1, 2, 3, 4, 0] rfl) (rfl))
        · refine lv_iconst (v := 4) hx hb dX1_layMix_59 (by decide) ?_
          refine lv_goto (tgt := 65) hx hb dX1_layMix_60 (by decide) ?_
          refine m_ast (i := i) E hK I 14 rfl rfl rfl dX1_layMix_65 (by simp only [mLn]; omega) (fun H locs I => ?_)
          refine lv_iinc (v := nI (i + 1)) (lv' := [(4, .int (nI (i + 1))), (0, .ref o), (1, .int (nI a)), (2, .int (nI b)), (3, .int (nI d))]) hx hb dX1_layMix_66 hl (k := 4) rfl (nI_1 _) (by decide) rfl (fun ls hl => ?_)
          refine lv_goto (tgt := 18) hx hb dX1_layMix_69 (by decide) ?_
          exact ih18 _ _ ls (m_as I (cpm_s _ _ _ _ (by simp [seatAt, (show ¬ i < a from fun h => nI_ge h (by omega) c44), nle_lt (show i < 2 ^ 31 by omega) c56]))) (lv_as (lv_sub (l' := [(0, .ref o), (1, .int (nI a)), (2, .int (nI b)), (3, .int (nI d)), (4, .int (nI (i + 1)))]) hl [1, 2, 3, 4, 0] rfl) (rfl))
      · refine lv_iconst (v := 2) hx hb dX1_layMix_47 (by decide) ?_
        refine lv_goto (tgt := 65) hx hb dX1_layMix_48 (by decide) ?_
        refine m_ast (i := i) E hK I 14 rfl rfl rfl dX1_layMix_65 (by simp only [mLn]; omega) (fun H locs I => ?_)
        refine lv_iinc (v := nI (i + 1)) (lv' := [(4, .int (nI (i + 1))), (0, .ref o), (1, .int (nI a)), (2, .int (nI b)), (3, .int (nI d))]) hx hb dX1_layMix_66 hl (k := 4) rfl (nI_1 _) (by decide) rfl (fun ls hl => ?_)
        refine lv_goto (tgt := 18) hx hb dX1_layMix_69 (by decide) ?_
        exact ih18 _ _ ls (m_as I (cpm_s _ _ _ _ (by simp [seatAt, nle_lt (show i < 2 ^ 31 by omega) c44]))) (lv_as (lv_sub (l' := [(0, .ref o), (1, .int (nI a)), (2, .int (nI b)), (3, .int (nI d)), (4, .int (nI (i + 1)))]) hl [1, 2, 3, 4, 0] rfl) (rfl))
  exact L18 0 (Nat.zero_le _) _ _ ls (m_as I (cpm_0 _ _ _)) (lv_as (lv_sub (l' := [(0, .ref o), (1, .int (nI a)), (2, .int (nI b)), (3, .int (nI d)), (4, .int 0)]) hl [1, 2, 3, 4, 0] rfl) (rfl))
theorem dc_m_layMix : yX1_layMix.cls = RX1 ∧ yX1_layMix.cls ≠ "java/lang/invoke/MethodHandle" ∧ yX1_layMix.cls ≠ "java/lang/invoke/VarHandle" ∧ (parseMethodDescriptor yX1_layMix.desc).map (fun d => d.parameters.length) = some 3 := by decide +kernel
theorem go_m_layMix : GoodIn lw_all (wsV RX1 263 RX1 yX1_layMix (ws_ yX1_layMix cX1_layMix 5 none)) := lw_V q1455 q1457 qs67 q75 q1458
def mixW (i : Nat) : Int32 := 2 * nI (i / 49) + 4 * nI (i / 7 % 7) + 6 * nI (i % 7)
def mixN (i : Nat) : Nat := i / 49 + i / 7 % 7 + i % 7
def mMixD (s : Sg) (T G i : Nat) : Sg := mDay (mMix (mLay s T) (i / 49) (i / 7 % 7) (i % 7)) (mixN i) G
def mMX (x : Int32) (T G : Nat) (i : Nat) (z : Sg × Int32 × Int32) : Sg × Int32 × Int32 := if 6 < nI (mixN i) then z else (if x < mixW i then z else (if sumI (mMixD z.1 T G i 36) G ≤ z.2.1 then (mMixD z.1 T G i, z.2.1, z.2.2) else (mMixD z.1 T G i, sumI (mMixD z.1 T G i 36) G, nI i)))
theorem mMixD_k {k : Nat} (h : k < 23 ∨ 40 < k) (s : Sg) (T G i : Nat) : mMixD s T G i k = s k := by
  unfold mMixD
  rw [mDay_k (by omega), mMix_k (by omega), mLay_k (by omega)]
theorem mMX_k {k : Nat} (h : k < 23 ∨ 40 < k) (x : Int32) (T G v : Nat) (z : Sg × Int32 × Int32) : (mMX x T G v z).1 k = z.1 k := by
  unfold mMX
  split
  · rfl
  · split
    · rfl
    · split <;> exact mMixD_k h _ _ _ _
def mMXR (z : Sg × Int32 × Int32) (w : Int32) : Int32 := if w = 0 then z.2.1 else if w = 1 then z.2.2 / 49 else if w = 2 then z.2.2 / 7 - z.2.2 / 7 / 7 * 7 else z.2.2 - z.2.2 / 7 * 7
theorem m_mix (l : Launch) (D : va_G) (ty : Nat → ClassId) (o : Nat) (ad : Nat → Nat) (σ : Sg) (x : Int32) (w : Int32) (T : Nat) (hT : T ≤ 6) (h5 : σ 5 0 = nI T) (G : Nat) (hG : G ≤ 8) (h16 : σ 16 0 = nI G) : mKi l yX1_mix cX1_mix 9 .int 10 D ty o ad σ [.int x, .int w] (fun r τ => r = (if wi x 2 24 && wi w 0 3 then (if mCafe σ then mMXR (fo (mMX x T G) 343 (σ, -1, 0)) w else (-3)) else (-2)) ∧ τ = if wi x 2 24 && wi w 0 3 && mCafe σ then (fo (mMX x T G) 343 (σ, -1, 0)).1 else σ) := by
  refine Ki.of (by decide) (Nat.le_of_ble_eq_true rfl) ?_
  intro p e s m below meth c A ls args E hK hA hX hlk hr I hl
  have hx := E.1
  have hb := E.2.1
  have hl : lv_has ls 9 [(0, .ref o), (1, .int x), (2, .int w)] := hl
  refine nameQ (fun Q hQ => ?_)
  refine lv_iload_n hx hb dX1_mix_0 rfl (lv_at hl 1 rfl) ?_
  refine lv_iconst (v := 2) hx hb dX1_mix_1 (by decide) ?_
  refine lv_bipush (v := 24) hx hb dX1_mix_2 (by decide) ?_
  refine c_Si E (m_within l x 2 24) go_m_within ⟨rfl, rfl⟩ dc_m_within ⟨Nat.le_of_ble_eq_true rfl, Nat.le_of_ble_eq_true rfl⟩ ⟨Nat.le_refl 0, Nat.le_refl 0⟩ hl.1 (Nat.le_of_ble_eq_true rfl) rfl dX1_mix_4 (fun r4 hp => ?_)
  refine top_i (y := bI (wi x 2 24)) hp ?_
  refine b_eq (tgt := 19) hx hb dX1_mix_7 (by decide) (fun c7 => ?_) (fun c7 => ?_)
  · refine lv_bipush (v := (-2)) hx hb dX1_mix_19 (by decide) ?_
    subst hQ
    exact r_i E hlk hr I (Nat.le_refl 0) (Nat.le_refl 0) dX1_mix_21 (⟨by simp [c7], by simp [c7]⟩)
  · refine lv_iload_n hx hb dX1_mix_10 rfl (lv_at hl 2 rfl) ?_
    refine lv_iconst (v := 0) hx hb dX1_mix_11 (by decide) ?_
    refine lv_iconst (v := 3) hx hb dX1_mix_12 (by decide) ?_
    refine c_Si E (m_within l w 0 3) go_m_within ⟨rfl, rfl⟩ dc_m_within ⟨Nat.le_of_ble_eq_true rfl, Nat.le_of_ble_eq_true rfl⟩ ⟨Nat.le_refl 0, Nat.le_refl 0⟩ hl.1 (Nat.le_of_ble_eq_true rfl) rfl dX1_mix_13 (fun r13 hp => ?_)
    refine top_i (y := bI (wi w 0 3)) hp ?_
    refine b_ne (tgt := 22) hx hb dX1_mix_16 (by decide) (fun c16 => ?_) (fun c16 => ?_)
    · refine lv_aload_n hx hb dX1_mix_22 rfl (lv_at hl 0 rfl) ?_
      refine m_ci E hK hA I (m_isCafe l D ty o ad σ) go_m_isCafe dc_m_isCafe ⟨Nat.le_of_ble_eq_true rfl, Nat.le_of_ble_eq_true rfl⟩ ⟨Nat.le_refl 0, Nat.le_refl 0⟩ hl.1 (Nat.le_of_ble_eq_true rfl) rfl dX1_mix_23 (fun r23 σ23 H locs hp I => ?_)
      refine top_i (y := bI (mCafe σ)) hp.1 ?_
      have I := m_as I hp.2
      refine b_ne (tgt := 32) hx hb dX1_mix_26 (by decide) (fun c26 => ?_) (fun c26 => ?_)
      · refine lv_iconst (v := (-1)) hx hb dX1_mix_32 (by decide) ?_
        refine lv_istore_n (lv' := [(3, .int (-1)), (0, .ref o), (1, .int x), (2, .int w)]) hx hb dX1_mix_33 rfl hl (by decide) rfl (fun ls hl => ?_)
        refine lv_iconst (v := 0) hx hb dX1_mix_34 (by decide) ?_
        refine lv_istore (lv' := [(4, .int 0), (3, .int (-1)), (0, .ref o), (1, .int x), (2, .int w)]) hx hb dX1_mix_35 hl (by decide) rfl (fun ls hl => ?_)
        refine lv_iconst (v := 0) hx hb dX1_mix_37 (by decide) ?_
        refine lv_istore (lv' := [(5, .int 0), (4, .int 0), (3, .int (-1)), (0, .ref o), (1, .int x), (2, .int w)]) hx hb dX1_mix_38 hl (by decide) rfl (fun ls hl => ?_)
        have L40 : ∀ i, i ≤ 343 → ∀ (H : Heap) (locs : List Loc) (ls : Array Slot), gI s D A (mW ty o ad ((fo (mMX x T G) i (σ, -1, 0)).1)) H locs → lv_has ls 9 [(0, .ref o), (1, .int x), (2, .int w), (3, .int ((fo (mMX x T G) i (σ, -1, 0)).2.1)), (4, .int ((fo (mMX x T G) i (σ, -1, 0)).2.2)), (5, .int (nI i))] → W p l e (rmL 10) s m args below meth c H locs 0 0 Q (F0 m 40 ls []) := by
          refine dn_ind 343 ?_ ?_
          · intro H locs ls I hl
            refine lv_iload hx hb dX1_mix_40 (lv_at hl 5 rfl) ?_
            refine lv_sipush (v := 343) hx hb dX1_mix_42 (by decide) ?_
            refine top_i (y := nI 343) (by decide) ?_
            refine lv_icmp_ge (tgt := 145) hx hb dX1_mix_45 (by decide) (fun c45 => ?_) (fun c45 => absurd c45 (fun h => h (Int32.le_refl _)))
            refine lv_iload_n hx hb dX1_mix_145 rfl (lv_at hl 2 rfl) ?_
            refine lv_if_ne (tgt := 153) hx hb dX1_mix_146 (by decide) (fun c146 => ?_) (fun c146 => ?_)
            · refine lv_iload_n hx hb dX1_mix_153 rfl (lv_at hl 2 rfl) ?_
              refine lv_iconst (v := 1) hx hb dX1_mix_154 (by decide) ?_
              refine lv_icmp_ne (tgt := 166) hx hb dX1_mix_155 (by decide) (fun c155 => ?_) (fun c155 => ?_)
              · refine lv_iload_n hx hb dX1_mix_166 rfl (lv_at hl 2 rfl) ?_
                refine lv_iconst (v := 2) hx hb dX1_mix_167 (by decide) ?_
                refine lv_icmp_ne (tgt := 182) hx hb dX1_mix_168 (by decide) (fun c168 => ?_) (fun c168 => ?_)
                · refine lv_iload hx hb dX1_mix_182 (lv_at hl 4 rfl) ?_
                  refine lv_bipush (v := 7) hx hb dX1_mix_184 (by decide) ?_
                  refine lv_irem hx hb dX1_mix_186 (by decide) ?_
                  subst hQ
                  exact r_i E hlk hr I (Nat.le_refl 0) (Nat.le_refl 0) dX1_mix_187 (⟨by simp only [c7, c16, c26, if_true, Bool.and_self]; simp [mMXR, c146, c155, c168], by simp only [c7, c16, c26, if_true, Bool.and_self]⟩)
                · refine lv_iload hx hb dX1_mix_171 (lv_at hl 4 rfl) ?_
                  refine lv_bipush (v := 7) hx hb dX1_mix_173 (by decide) ?_
                  refine lv_idiv hx hb dX1_mix_175 (by decide) ?_
                  refine lv_bipush (v := 7) hx hb dX1_mix_176 (by decide) ?_
                  refine lv_irem hx hb dX1_mix_178 (by decide) ?_
                  refine lv_goto (tgt := 187) hx hb dX1_mix_179 (by decide) ?_
                  subst hQ
                  exact r_i E hlk hr I (Nat.le_refl 0) (Nat.le_refl 0) dX1_mix_187 (⟨by simp only [c7, c16, c26, if_true, Bool.and_self]; simp [mMXR, c146, c155, c168], by simp only [c7, c16, c26, if_true, Bool.and_self]⟩)
              · refine lv_iload hx hb dX1_mix_158 (lv_at hl 4 rfl) ?_
                refine lv_bipush (v := 49) hx hb dX1_mix_160 (by decide) ?_
                refine lv_idiv hx hb dX1_mix_162 (by decide) ?_
                refine lv_goto (tgt := 187) hx hb dX1_mix_163 (by decide) ?_
                subst hQ
                exact r_i E hlk hr I (Nat.le_refl 0) (Nat.le_refl 0) dX1_mix_187 (⟨by simp only [c7, c16, c26, if_true, Bool.and_self]; simp [mMXR, c146, c155], by simp only [c7, c16, c26, if_true, Bool.and_self]⟩)
            · refine lv_iload_n hx hb dX1_mix_149 rfl (lv_at hl 3 rfl) ?_
              refine lv_goto (tgt := 187) hx hb dX1_mix_150 (by decide) ?_
              subst hQ
              exact r_i E hlk hr I (Nat.le_refl 0) (Nat.le_refl 0) dX1_mix_187 (⟨by simp only [c7, c16, c26, if_true, Bool.and_self]; simp [mMXR, c146], by simp only [c7, c16, c26, if_true, Bool.and_self]⟩)
          · intro i hi ih40 H locs ls I hl
            refine lv_iload hx hb dX1_mix_40 (lv_at hl 5 rfl) ?_
            refine lv_sipush (v := 343) hx hb dX1_mix_42 (by decide) ?_
            refine top_i (y := nI 343) (by decide) ?_
            refine lv_icmp_ge (tgt := 145) hx hb dX1_mix_45 (by decide) (fun c45 => absurd c45 (nI_ge hi (by omega))) (fun c45 => ?_)
            refine lv_iload hx hb dX1_mix_48 (lv_at hl 5 rfl) ?_
            refine lv_bipush (v := 49) hx hb dX1_mix_50 (by decide) ?_
            refine lv_idiv hx hb dX1_mix_52 (by decide) ?_
            refine top_i (y := nI (i / 49)) (pk_div (d := 49) (by omega) (by decide) (by decide)) ?_
            refine lv_istore (lv' := [(6, .int (nI (i / 49))), (0, .ref o), (1, .int x), (2, .int w), (3, .int ((fo (mMX x T G) i (σ, -1, 0)).2.1)), (4, .int ((fo (mMX x T G) i (σ, -1, 0)).2.2)), (5, .int (nI i))]) hx hb dX1_mix_53 hl (by decide) rfl (fun ls hl => ?_)
            refine lv_iload hx hb dX1_mix_55 (lv_at hl 6 rfl) ?_
            refine lv_bipush (v := 7) hx hb dX1_mix_57 (by decide) ?_
            refine lv_idiv hx hb dX1_mix_59 (by decide) ?_
            refine top_i (y := nI (i / 7)) (pk_div (d := 7) (by omega) (by decide) (by decide)) ?_
            refine lv_bipush (v := 7) hx hb dX1_mix_60 (by decide) ?_
            refine lv_irem hx hb dX1_mix_62 (by decide) ?_
            refine top_i (y := nI (i / 7 % 7)) (pk_rem (d := 7) (by omega) (by decide) (by decide)) ?_
            refine lv_istore (lv' := [(7, .int (nI (i / 7 % 7))), (6, .int (nI (i / 49))), (0, .ref o), (1, .int x), (2, .int w), (3, .int ((fo (mMX x T G) i (σ, -1, 0)).2.1)), (4, .int ((fo (mMX x T G) i (σ, -1, 0)).2.2)), (5, .int (nI i))]) hx hb dX1_mix_63 hl (by decide) rfl (fun ls hl => ?_)
            refine lv_iload hx hb dX1_mix_65 (lv_at hl 7 rfl) ?_
            refine lv_bipush (v := 7) hx hb dX1_mix_67 (by decide) ?_
            refine lv_irem hx hb dX1_mix_69 (by decide) ?_
            refine top_i (y := nI (i % 7)) (pk_rem (d := 7) (by omega) (by decide) (by decide)) ?_
            refine lv_istore (lv' := [(8, .int (nI (i % 7))), (7, .int (nI (i / 7 % 7))), (6, .int (nI (i / 49))), (0, .ref o), (1, .int x), (2, .int w), (3, .int ((fo (mMX x T G) i (σ, -1, 0)).2.1)), (4, .int ((fo (mMX x T G) i (σ, -1, 0)).2.2)), (5, .int (nI i))]) hx hb dX1_mix_70 hl (by decide) rfl (fun ls hl => ?_)
            refine lv_iload hx hb dX1_mix_72 (lv_at hl 2 rfl) ?_
            refine lv_iload hx hb dX1_mix_74 (lv_at hl 1 rfl) ?_
            refine lv_iadd hx hb dX1_mix_76 ?_
            refine lv_iload hx hb dX1_mix_77 (lv_at hl 0 rfl) ?_
            refine lv_iadd hx hb dX1_mix_79 ?_
            refine top_i (y := nI (mixN i)) (by rw [nI_add, nI_add]; rfl) ?_
            refine lv_bipush (v := 6) hx hb dX1_mix_80 (by decide) ?_
            refine lv_icmp_gt (tgt := 139) hx hb dX1_mix_82 (by decide) (fun c82 => ?_) (fun c82 => ?_)
            · refine lv_iinc (v := nI (i + 1)) (lv' := [(5, .int (nI (i + 1))), (8, .int (nI (i % 7))), (7, .int (nI (i / 7 % 7))), (6, .int (nI (i / 49))), (0, .ref o), (1, .int x), (2, .int w), (3, .int ((fo (mMX x T G) i (σ, -1, 0)).2.1)), (4, .int ((fo (mMX x T G) i (σ, -1, 0)).2.2))]) hx hb dX1_mix_139 hl (k := 8) rfl (nI_1 _) (by decide) rfl (fun ls hl => ?_)
              refine lv_goto (tgt := 40) hx hb dX1_mix_142 (by decide) ?_
              exact ih40 _ _ ls (m_as I (by simp [fo, mMX, c82])) (lv_as (lv_sub (l' := [(0, .ref o), (1, .int x), (2, .int w), (3, .int ((fo (mMX x T G) i (σ, -1, 0)).2.1)), (4, .int ((fo (mMX x T G) i (σ, -1, 0)).2.2)), (5, .int (nI (i + 1)))]) hl [4, 5, 6, 7, 8, 0] rfl) (by simp [fo, mMX, c82]))
            · refine lv_iconst (v := 2) hx hb dX1_mix_85 (by decide) ?_
              refine lv_iload hx hb dX1_mix_86 (lv_at hl 2 rfl) ?_
              refine lv_imul hx hb dX1_mix_88 ?_
              refine lv_iconst (v := 4) hx hb dX1_mix_89 (by decide) ?_
              refine lv_iload hx hb dX1_mix_90 (lv_at hl 1 rfl) ?_
              refine lv_imul hx hb dX1_mix_92 ?_
              refine lv_iadd hx hb dX1_mix_93 ?_
              refine lv_bipush (v := 6) hx hb dX1_mix_94 (by decide) ?_
              refine lv_iload hx hb dX1_mix_96 (lv_at hl 0 rfl) ?_
              refine lv_imul hx hb dX1_mix_98 ?_
              refine lv_iadd hx hb dX1_mix_99 ?_
              refine top_i (y := mixW i) (rfl) ?_
              refine lv_iload_n hx hb dX1_mix_100 rfl (lv_at hl 4 rfl) ?_
              refine lv_icmp_gt (tgt := 139) hx hb dX1_mix_101 (by decide) (fun c101 => ?_) (fun c101 => ?_)
              · refine lv_iinc (v := nI (i + 1)) (lv' := [(5, .int (nI (i + 1))), (8, .int (nI (i % 7))), (7, .int (nI (i / 7 % 7))), (6, .int (nI (i / 49))), (0, .ref o), (1, .int x), (2, .int w), (3, .int ((fo (mMX x T G) i (σ, -1, 0)).2.1)), (4, .int ((fo (mMX x T G) i (σ, -1, 0)).2.2))]) hx hb dX1_mix_139 hl (k := 8) rfl (nI_1 _) (by decide) rfl (fun ls hl => ?_)
                refine lv_goto (tgt := 40) hx hb dX1_mix_142 (by decide) ?_
                exact ih40 _ _ ls (m_as I (by simp [fo, mMX, c82, c101])) (lv_as (lv_sub (l' := [(0, .ref o), (1, .int x), (2, .int w), (3, .int ((fo (mMX x T G) i (σ, -1, 0)).2.1)), (4, .int ((fo (mMX x T G) i (σ, -1, 0)).2.2)), (5, .int (nI (i + 1)))]) hl [4, 5, 6, 7, 8, 0] rfl) (by simp [fo, mMX, c82, c101]))
              · have hN : mixN i ≤ 6 := nlt_le (a := 6) (by unfold mixN; omega) c82
                have k5 := (congrFun (fo_k1 (fun i s => mMX_k (by omega) x T G i s) i (σ, -1, 0)) 0).trans h5
                have k16 := (congrFun (fo_k1 (fun i s => mMX_k (by omega) x T G i s) i (σ, -1, 0)) 0).trans h16
                refine lv_aload_n hx hb dX1_mix_104 rfl (lv_at hl 3 rfl) ?_
                refine m_cv E hK hA I (m_layNow l D ty o ad ((fo (mMX x T G) i (σ, -1, 0)).1) T hT k5) go_m_layNow dc_m_layNow ⟨Nat.le_of_ble_eq_true rfl, Nat.le_of_ble_eq_true rfl⟩ ⟨Nat.le_refl 0, Nat.le_refl 0⟩ hl.1 (Nat.le_of_ble_eq_true rfl) rfl dX1_mix_105 (fun σ105 H locs hp I => ?_)
                have I := m_as I hp
                refine lv_aload_n hx hb dX1_mix_108 rfl (lv_at hl 3 rfl) ?_
                refine lv_iload hx hb dX1_mix_109 (lv_at hl 2 rfl) ?_
                refine lv_iload hx hb dX1_mix_111 (lv_at hl 1 rfl) ?_
                refine lv_iload hx hb dX1_mix_113 (lv_at hl 0 rfl) ?_
                refine m_cv E hK hA I (m_layMix l D ty o ad (mLay ((fo (mMX x T G) i (σ, -1, 0)).1) T) (i / 49) (i / 7 % 7) (i % 7) hN) go_m_layMix dc_m_layMix ⟨Nat.le_of_ble_eq_true rfl, Nat.le_of_ble_eq_true rfl⟩ ⟨Nat.le_refl 0, Nat.le_refl 0⟩ hl.1 (Nat.le_of_ble_eq_true rfl) rfl dX1_mix_115 (fun σ115 H locs hp I => ?_)
                have I := m_as I hp
                refine lv_aload_n hx hb dX1_mix_118 rfl (lv_at hl 3 rfl) ?_
                refine m_cv E hK hA I (m_goDay l D ty o ad (mMix (mLay ((fo (mMX x T G) i (σ, -1, 0)).1) T) (i / 49) (i / 7 % 7) (i % 7)) (mixN i) hN (mMix_T _ _ _ _) G hG (by rw [mMix_k (by omega), mLay_k (by omega)]; exact k16)) go_m_goDay dc_m_goDay ⟨Nat.le_of_ble_eq_true rfl, Nat.le_of_ble_eq_true rfl⟩ ⟨Nat.le_refl 0, Nat.le_refl 0⟩ hl.1 (Nat.le_of_ble_eq_true rfl) rfl dX1_mix_119 (fun σ119 H locs hp I => ?_)
                have I := m_as I hp
                have I := m_as I (show _ = mMixD (fo (mMX x T G) i (σ, -1, 0)).1 T G i from rfl)
                refine lv_aload_n hx hb dX1_mix_122 rfl (lv_at hl 3 rfl) ?_
                refine m_ci E hK hA I (m_allCoin l D ty o ad (mMixD (fo (mMX x T G) i (σ, -1, 0)).1 T G i) G hG (by rw [mMixD_k (by omega)]; exact k16)) go_m_allCoin dc_m_allCoin ⟨Nat.le_of_ble_eq_true rfl, Nat.le_of_ble_eq_true rfl⟩ ⟨Nat.le_refl 0, Nat.le_refl 0⟩ hl.1 (Nat.le_of_ble_eq_true rfl) rfl dX1_mix_123 (fun r123 σ123 H locs hp I => ?_)
                refine top_i (y := sumI ((mMixD (fo (mMX x T G) i (σ, -1, 0)).1 T G i) 36) G) hp.1 ?_
                have I := m_as I hp.2
                refine lv_iload_n hx hb dX1_mix_126 rfl (lv_at hl 6 rfl) ?_
                refine lv_icmp_le (tgt := 139) hx hb dX1_mix_127 (by decide) (fun c127 => ?_) (fun c127 => ?_)
                · refine lv_iinc (v := nI (i + 1)) (lv' := [(5, .int (nI (i + 1))), (8, .int (nI (i % 7))), (7, .int (nI (i / 7 % 7))), (6, .int (nI (i / 49))), (0, .ref o), (1, .int x), (2, .int w), (3, .int ((fo (mMX x T G) i (σ, -1, 0)).2.1)), (4, .int ((fo (mMX x T G) i (σ, -1, 0)).2.2))]) hx hb dX1_mix_139 hl (k := 8) rfl (nI_1 _) (by decide) rfl (fun ls hl => ?_)
                  refine lv_goto (tgt := 40) hx hb dX1_mix_142 (by decide) ?_
                  exact ih40 _ _ ls (m_as I (by simp [fo, mMX, c82, c101, c127])) (lv_as (lv_sub (l' := [(0, .ref o), (1, .int x), (2, .int w), (3, .int ((fo (mMX x T G) i (σ, -1, 0)).2.1)), (4, .int ((fo (mMX x T G) i (σ, -1, 0)).2.2)), (5, .int (nI (i + 1)))]) hl [4, 5, 6, 7, 8, 0] rfl) (by simp [fo, mMX, c82, c101, c127]))
                · refine lv_aload_n hx hb dX1_mix_130 rfl (lv_at hl 3 rfl) ?_
                  refine m_ci E hK hA I (m_allCoin l D ty o ad (mMixD (fo (mMX x T G) i (σ, -1, 0)).1 T G i) G hG (by rw [mMixD_k (by omega)]; exact k16)) go_m_allCoin dc_m_allCoin ⟨Nat.le_of_ble_eq_true rfl, Nat.le_of_ble_eq_true rfl⟩ ⟨Nat.le_refl 0, Nat.le_refl 0⟩ hl.1 (Nat.le_of_ble_eq_true rfl) rfl dX1_mix_131 (fun r131 σ131 H locs hp I => ?_)
                  refine top_i (y := sumI ((mMixD (fo (mMX x T G) i (σ, -1, 0)).1 T G i) 36) G) hp.1 ?_
                  have I := m_as I hp.2
                  refine lv_istore_n (lv' := [(3, .int (sumI ((mMixD (fo (mMX x T G) i (σ, -1, 0)).1 T G i) 36) G)), (8, .int (nI (i % 7))), (7, .int (nI (i / 7 % 7))), (6, .int (nI (i / 49))), (0, .ref o), (1, .int x), (2, .int w), (4, .int ((fo (mMX x T G) i (σ, -1, 0)).2.2)), (5, .int (nI i))]) hx hb dX1_mix_134 rfl hl (by decide) rfl (fun ls hl => ?_)
                  refine lv_iload hx hb dX1_mix_135 (lv_at hl 8 rfl) ?_
                  refine lv_istore (lv' := [(4, .int (nI i)), (3, .int (sumI ((mMixD (fo (mMX x T G) i (σ, -1, 0)).1 T G i) 36) G)), (8, .int (nI (i % 7))), (7, .int (nI (i / 7 % 7))), (6, .int (nI (i / 49))), (0, .ref o), (1, .int x), (2, .int w), (5, .int (nI i))]) hx hb dX1_mix_137 hl (by decide) rfl (fun ls hl => ?_)
                  refine lv_iinc (v := nI (i + 1)) (lv' := [(5, .int (nI (i + 1))), (4, .int (nI i)), (3, .int (sumI ((mMixD (fo (mMX x T G) i (σ, -1, 0)).1 T G i) 36) G)), (8, .int (nI (i % 7))), (7, .int (nI (i / 7 % 7))), (6, .int (nI (i / 49))), (0, .ref o), (1, .int x), (2, .int w)]) hx hb dX1_mix_139 hl (k := 8) rfl (nI_1 _) (by decide) rfl (fun ls hl => ?_)
                  refine lv_goto (tgt := 40) hx hb dX1_mix_142 (by decide) ?_
                  exact ih40 _ _ ls (m_as I (by simp [fo, mMX, c82, c101, c127])) (lv_as (lv_sub (l' := [(0, .ref o), (1, .int x), (2, .int w), (3, .int (sumI ((mMixD (fo (mMX x T G) i (σ, -1, 0)).1 T G i) 36) G)), (4, .int (nI i)), (5, .int (nI (i + 1)))]) hl [6, 7, 8, 2, 1, 0] rfl) (by simp [fo, mMX, c82, c101, c127]))
        exact L40 0 (Nat.zero_le _) _ _ ls (m_as I (rfl)) (lv_as (lv_sub (l' := [(0, .ref o), (1, .int x), (2, .int w), (3, .int (-1)), (4, .int 0), (5, .int 0)]) hl [3, 4, 5, 2, 1, 0] rfl) (rfl))
      · refine lv_bipush (v := (-3)) hx hb dX1_mix_29 (by decide) ?_
        subst hQ
        exact r_i E hlk hr I (Nat.le_refl 0) (Nat.le_refl 0) dX1_mix_31 (⟨by simp [c7, c16, c26], by simp [c7, c16, c26]⟩)
    · refine lv_bipush (v := (-2)) hx hb dX1_mix_19 (by decide) ?_
      subst hQ
      exact r_i E hlk hr I (Nat.le_refl 0) (Nat.le_refl 0) dX1_mix_21 (⟨by simp [c7, c16], by simp [c7, c16]⟩)
theorem dc_m_mix : yX1_mix.cls = RX1 ∧ yX1_mix.cls ≠ "java/lang/invoke/MethodHandle" ∧ yX1_mix.cls ≠ "java/lang/invoke/VarHandle" ∧ (parseMethodDescriptor yX1_mix.desc).map (fun d => d.parameters.length) = some 2 := by decide +kernel
