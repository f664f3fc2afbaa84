set_option maxRecDepth 100000
set_option maxHeartbeats 4000000
def isC (s : Sg) (P E : Nat) (x : Int32) : Bool := decide (P < E) && decide (s 4 P = x)
def rdW (s : Sg) (P E : Nat) : Option Int32 := if isC s P E 115 then some 0 else if isC s P E 119 then some 1 else if isC s P E 105 then some 2 else none
def rdV (s : Sg) (n P : Nat) (v : Int32) : Sg := up (up s 14 n v) 12 0 (nI (P + 1))
def rdN (s : Sg) (n P : Nat) : Sg := up (up (up s 15 n (s 4 P - 48)) 13 0 (nI (n + 1))) 12 0 (nI (P + 1))
def rdT (go : Nat → Sg → Bool × Sg) (E n P : Nat) (s : Sg) : Bool × Sg := match rdW s P E with
  | none => (false, s)
  | some v => if P + 1 < E ∧ wi (rdV s n P v 4 (P + 1)) 49 54 = true then go (P + 2) (rdN (rdV s n P v) n (P + 1)) else (false, rdV s n P v)
def rdS (E : Nat) : Nat → Nat → Nat → Sg → Bool × Sg
  | 0, _, _, s => (true, s)
  | f + 1, n, P, s => if n = 0 then rdT (rdS E f 1) E 0 P s else if E ≤ P then (true, s) else if n = 6 then (false, s) else if s 4 P = 59 then rdT (rdS E f (n + 1)) E n (P + 1) (up s 12 0 (nI (P + 1))) else (false, s)
theorem m_isCode (l : Launch) (D : va_G) (ty : Nat → ClassId) (o : Nat) (ad : Nat → Nat) (σ : Sg) (x : Int32) (N : Nat) (hE : N ≤ 160) (P : Nat) (hPl : P < 1000) (hP : σ 12 0 = nI P) : mKi l yX1_isCode cX1_isCode 3 .boolean 1 D ty o ad σ [.int x, .int (nI N)] (fun r τ => r = bI (isC σ P N x) ∧ τ = σ) := by
  refine Ki.of (by decide) (Nat.le_of_ble_eq_true rfl) ?_
  intro p e s m below meth c A ls args E hK hA hX hlk hr I hl
  have hx := E.1
  have hb := E.2.1
  have hl : lv_has ls 3 [(0, .ref o), (1, .int x), (2, .int (nI N))] := hl
  refine lv_aload_n hx hb dX1_isCode_0 rfl (lv_at hl 0 rfl) ?_
  refine m_get (v := .int (nI P)) E hK I 12 rfl q1127 (congrArg Value.int (hP)) dX1_isCode_1 ?_
  refine lv_iload_n hx hb dX1_isCode_4 rfl (lv_at hl 2 rfl) ?_
  refine lv_icmp_ge (tgt := 25) hx hb dX1_isCode_5 (by decide) (fun c5 => ?_) (fun c5 => ?_)
  · refine lv_iconst (v := 0) hx hb dX1_isCode_25 (by decide) ?_
    exact r_z (b := false) E hlk hr I (Nat.le_refl 0) (Nat.le_refl 0) dX1_isCode_26 rfl (⟨by simp [isC, (show ¬ P < N from fun h => nI_ge h (by omega) c5)], rfl⟩)
  · have hPE : P < N := nle_lt (by omega) c5
    refine lv_aload_n hx hb dX1_isCode_8 rfl (lv_at hl 0 rfl) ?_
    refine m_get E hK I 4 rfl q1119 rfl dX1_isCode_9 ?_
    refine lv_aload_n hx hb dX1_isCode_12 rfl (lv_at hl 0 rfl) ?_
    refine m_get (v := .int (nI P)) E hK I 12 rfl q1127 (congrArg Value.int (hP)) dX1_isCode_13 ?_
    refine m_ald (i := P) E hK I 2 rfl rfl rfl dX1_isCode_16 (by simp only [mLn]; omega) ?_
    refine lv_iload_n hx hb dX1_isCode_17 rfl (lv_at hl 1 rfl) ?_
    refine lv_icmp_ne (tgt := 25) hx hb dX1_isCode_18 (by decide) (fun c18 => ?_) (fun c18 => ?_)
    · refine lv_iconst (v := 0) hx hb dX1_isCode_25 (by decide) ?_
      exact r_z (b := false) E hlk hr I (Nat.le_refl 0) (Nat.le_refl 0) dX1_isCode_26 rfl (⟨by simp [isC, hPE, c18], rfl⟩)
    · refine lv_iconst (v := 1) hx hb dX1_isCode_21 (by decide) ?_
      refine lv_goto (tgt := 26) hx hb dX1_isCode_22 (by decide) ?_
      exact r_z (b := true) E hlk hr I (Nat.le_refl 0) (Nat.le_refl 0) dX1_isCode_26 rfl (⟨by simp [isC, hPE, c18], rfl⟩)
theorem dc_m_isCode : yX1_isCode.cls = RX1 ∧ yX1_isCode.cls ≠ "java/lang/invoke/MethodHandle" ∧ yX1_isCode.cls ≠ "java/lang/invoke/VarHandle" ∧ (parseMethodDescriptor yX1_isCode.desc).map (fun d => d.parameters.length) = some 2 := by decide +kernel
theorem go_m_isCode : GoodIn lw_all (wsV RX1 148 RX1 yX1_isCode (ws_ yX1_isCode cX1_isCode 3 (some .boolean))) := lw_V q1274 q1276 qs37 q75 q1277
theorem rdS_e (E f n P : Nat) (s : Sg) : rdS E (f + 1) n P s = if n = 0 then rdT (rdS E f 1) E 0 P s else if E ≤ P then (true, s) else if n = 6 then (false, s) else if s 4 P = 59 then rdT (rdS E f (n + 1)) E n (P + 1) (up s 12 0 (nI (P + 1))) else (false, s) := rfl
theorem m_readCafe (l : Launch) (D : va_G) (ty : Nat → ClassId) (o : Nat) (ad : Nat → Nat) (σ : Sg) (N : Nat) (hN : N ≤ 160) (P0 : Nat) (hPb : P0 ≤ 160) (hP0 : σ 12 0 = nI P0) : mKi l yX1_readCafe cX1_readCafe 2 .boolean 2 D ty o ad σ [.int (nI N)] (fun r τ => r = bI (rdS N 7 0 P0 (up σ 13 0 0)).1 ∧ τ = (rdS N 7 0 P0 (up σ 13 0 0)).2) := by
  refine Ki.of (by decide) (Nat.le_of_ble_eq_true rfl) ?_
  intro p e s m below meth c A ls args E hK hA hX hlk hr I hl
  have hx := E.1
  have hb := E.2.1
  have hl : lv_has ls 2 [(0, .ref o), (1, .int (nI N))] := hl
  refine nameQ (fun Q hQ => ?_)
  have T58 : ∀ n, n < 6 → (∀ (P : Nat) (s0 : Sg), P < 200 + 3 * (n + 1) → s0 13 0 = nI (n + 1) → s0 12 0 = nI P → rdS N (7 - (n + 1)) (n + 1) P s0 = rdS N 7 0 P0 (up σ 13 0 0) → ∀ (H : Heap) (locs : List Loc) (ls : Array Slot), gI s D A (mW ty o ad s0) H locs → lv_has ls 2 [(0, .ref o), (1, .int (nI N))] → W p l e (rmL 2) s m args below meth c H locs 0 0 Q (F0 m 5 ls [])) → ∀ (f : Nat) (P : Nat) (s0 : Sg), f + (n + 1) = 7 → P < 201 + 3 * n → s0 13 0 = nI n → s0 12 0 = nI P → rdT (rdS N f (n + 1)) N n P s0 = rdS N 7 0 P0 (up σ 13 0 0) → ∀ (H : Heap) (locs : List Loc) (ls : Array Slot), gI s D A (mW ty o ad s0) H locs → lv_has ls 2 [(0, .ref o), (1, .int (nI N))] → W p l e (rmL 2) s m args below meth c H locs 0 0 Q (F0 m 58 ls []) := by
    intro n hn ih f P s0 hf hPl h13 h12 hz H locs ls I hl
    refine lv_aload_n hx hb dX1_readCafe_58 rfl (lv_at hl 0 rfl) ?_
    refine lv_bipush (v := 115) hx hb dX1_readCafe_59 (by decide) ?_
    refine lv_iload_n hx hb dX1_readCafe_61 rfl (lv_at hl 1 rfl) ?_
    refine m_ci E hK hA I (m_isCode l D ty o ad s0 115 N hN P (by omega) h12) go_m_isCode dc_m_isCode ⟨Nat.le_of_ble_eq_true rfl, Nat.le_of_ble_eq_true rfl⟩ ⟨Nat.le_refl 0, Nat.le_refl 0⟩ hl.1 (Nat.le_of_ble_eq_true rfl) rfl dX1_readCafe_62 (fun r62 σ62 H locs hp I => ?_)
    refine top_i (y := bI (isC s0 P N 115)) hp.1 ?_
    have I := m_as I hp.2
    refine b_eq (tgt := 81) hx hb dX1_readCafe_65 (by decide) (fun c65 => ?_) (fun c65 => ?_)
    · refine lv_aload_n hx hb dX1_readCafe_81 rfl (lv_at hl 0 rfl) ?_
      refine lv_bipush (v := 119) hx hb dX1_readCafe_82 (by decide) ?_
      refine lv_iload_n hx hb dX1_readCafe_84 rfl (lv_at hl 1 rfl) ?_
      refine m_ci E hK hA I (m_isCode l D ty o ad s0 119 N hN P (by omega) h12) go_m_isCode dc_m_isCode ⟨Nat.le_of_ble_eq_true rfl, Nat.le_of_ble_eq_true rfl⟩ ⟨Nat.le_refl 0, Nat.le_refl 0⟩ hl.1 (Nat.le_of_ble_eq_true rfl) rfl dX1_readCafe_85 (fun r85 σ85 H locs hp I => ?_)
      refine top_i (y := bI (isC s0 P N 119)) hp.1 ?_
      have I := m_as I hp.2
      refine b_eq (tgt := 104) hx hb dX1_readCafe_88 (by decide) (fun c88 => ?_) (fun c88 => ?_)
      · refine lv_aload_n hx hb dX1_readCafe_104 rfl (lv_at hl 0 rfl) ?_
        refine lv_bipush (v := 105) hx hb dX1_readCafe_105 (by decide) ?_
        refine lv_iload_n hx hb dX1_readCafe_107 rfl (lv_at hl 1 rfl) ?_
        refine m_ci E hK hA I (m_isCode l D ty o ad s0 105 N hN P (by omega) h12) go_m_isCode dc_m_isCode ⟨Nat.le_of_ble_eq_true rfl, Nat.le_of_ble_eq_true rfl⟩ ⟨Nat.le_refl 0, Nat.le_refl 0⟩ hl.1 (Nat.le_of_ble_eq_true rfl) rfl dX1_readCafe_108 (fun r108 σ108 H locs hp I => ?_)
        refine top_i (y := bI (isC s0 P N 105)) hp.1 ?_
        have I := m_as I hp.2
        refine b_eq (tgt := 127) hx hb dX1_readCafe_111 (by decide) (fun c111 => ?_) (fun c111 => ?_)
        · refine lv_iconst (v := 0) hx hb dX1_readCafe_127 (by decide) ?_
          subst hQ
          exact r_z (b := false) E hlk hr I (Nat.le_refl 0) (Nat.le_refl 0) dX1_readCafe_128 rfl (⟨by rw [← hz, rdT, show rdW s0 P N = none by simp [rdW, c65, c88, c111]], by rw [← hz, rdT, show rdW s0 P N = none by simp [rdW, c65, c88, c111]]⟩)
        · refine lv_aload_n hx hb dX1_readCafe_114 rfl (lv_at hl 0 rfl) ?_
          refine m_get E hK I 14 rfl q1129 rfl dX1_readCafe_115 ?_
          refine lv_aload_n hx hb dX1_readCafe_118 rfl (lv_at hl 0 rfl) ?_
          refine m_get (v := .int (nI n)) E hK I 13 rfl q1128 (congrArg Value.int (h13)) dX1_readCafe_119 ?_
          refine lv_iconst (v := 2) hx hb dX1_readCafe_122 (by decide) ?_
          refine m_ast (i := n) E hK I 5 rfl rfl rfl dX1_readCafe_123 (by simp only [mLn]; omega) (fun H locs I => ?_)
          refine lv_goto (tgt := 129) hx hb dX1_readCafe_124 (by decide) ?_
          have hw : rdW s0 P N = some 2 := by simp [rdW, c65, c88, c111]
          rw [rdT, hw] at hz
          refine lv_aload_n hx hb dX1_readCafe_129 rfl (lv_at hl 0 rfl) ?_
          refine lv_dup hx hb dX1_readCafe_130 rfl ?_
          refine m_get (v := .int (nI P)) E hK I 12 rfl q1127 (congrArg Value.int ((up_k (by decide) _ _ _ _).trans (h12))) dX1_readCafe_131 ?_
          refine lv_iconst (v := 1) hx hb dX1_readCafe_134 (by decide) ?_
          refine lv_iadd hx hb dX1_readCafe_135 ?_
          refine top_i (y := nI (P + 1)) (nI_1 _) ?_
          refine m_put E hK I 12 rfl rfl q1127 rfl rfl rfl dX1_readCafe_136 (fun H locs I => ?_)
          have I := m_as I (show _ = rdV s0 n P 2 from rfl)
          obtain ⟨s1, hs1⟩ : ∃ z, z = rdV s0 n P 2 := ⟨_, rfl⟩
          have I := m_as I hs1.symm
          simp only [← hs1] at hz
          refine lv_aload_n hx hb dX1_readCafe_139 rfl (lv_at hl 0 rfl) ?_
          refine m_get (v := .int (nI (P + 1))) E hK I 12 rfl q1127 (congrArg Value.int (by rw [hs1]; exact up_s _ _ _ _)) dX1_readCafe_140 ?_
          refine lv_iload_n hx hb dX1_readCafe_143 rfl (lv_at hl 1 rfl) ?_
          refine lv_icmp_ge (tgt := 166) hx hb dX1_readCafe_144 (by decide) (fun c144 => ?_) (fun c144 => ?_)
          · refine lv_iconst (v := 0) hx hb dX1_readCafe_166 (by decide) ?_
            subst hQ
            exact r_z (b := false) E hlk hr I (Nat.le_refl 0) (Nat.le_refl 0) dX1_readCafe_167 rfl (⟨by rw [if_neg (show ¬ (P + 1 < N ∧ _) from fun h => nI_ge h.1 (by omega) c144)] at hz; rw [← hz], by rw [if_neg (show ¬ (P + 1 < N ∧ _) from fun h => nI_ge h.1 (by omega) c144)] at hz; rw [← hz]⟩)
          · have hPE : P + 1 < N := nle_lt (by omega) c144
            refine lv_aload_n hx hb dX1_readCafe_147 rfl (lv_at hl 0 rfl) ?_
            refine m_get E hK I 4 rfl q1119 rfl dX1_readCafe_148 ?_
            refine lv_aload_n hx hb dX1_readCafe_151 rfl (lv_at hl 0 rfl) ?_
            refine m_get (v := .int (nI (P + 1))) E hK I 12 rfl q1127 (congrArg Value.int (by rw [hs1]; exact up_s _ _ _ _)) dX1_readCafe_152 ?_
            refine m_ald (i := (P + 1)) E hK I 2 rfl rfl rfl dX1_readCafe_155 (by simp only [mLn]; omega) ?_
            refine lv_bipush (v := 49) hx hb dX1_readCafe_156 (by decide) ?_
            refine lv_bipush (v := 54) hx hb dX1_readCafe_158 (by decide) ?_
            refine c_Si E (m_within l (s1 4 (P + 1)) 49 54) go_m_within ⟨rfl, rfl⟩ dc_m_within ⟨Nat.le_of_ble_eq_true rfl, Nat.le_of_ble_eq_true rfl⟩ ⟨Nat.le_refl 0, Nat.le_refl 0⟩ hl.1 (Nat.le_of_ble_eq_true rfl) rfl dX1_readCafe_160 (fun r160 hp => ?_)
            refine top_i (y := bI (wi (s1 4 (P + 1)) 49 54)) hp ?_
            refine b_ne (tgt := 168) hx hb dX1_readCafe_163 (by decide) (fun c163 => ?_) (fun c163 => ?_)
            · rw [if_pos ⟨hPE, c163⟩] at hz
              refine lv_aload_n hx hb dX1_readCafe_168 rfl (lv_at hl 0 rfl) ?_
              refine m_get E hK I 15 rfl q1130 rfl dX1_readCafe_169 ?_
              refine lv_aload_n hx hb dX1_readCafe_172 rfl (lv_at hl 0 rfl) ?_
              refine m_get (v := .int (nI n)) E hK I 13 rfl q1128 (congrArg Value.int (by rw [hs1]; exact (up_k (by decide) _ _ _ _).trans ((up_k (by decide) _ _ _ _).trans h13))) dX1_readCafe_173 ?_
              refine lv_aload_n hx hb dX1_readCafe_176 rfl (lv_at hl 0 rfl) ?_
              refine m_get E hK I 4 rfl q1119 rfl dX1_readCafe_177 ?_
              refine lv_aload_n hx hb dX1_readCafe_180 rfl (lv_at hl 0 rfl) ?_
              refine m_get (v := .int (nI (P + 1))) E hK I 12 rfl q1127 (congrArg Value.int (by rw [hs1]; exact up_s _ _ _ _)) dX1_readCafe_181 ?_
              refine m_ald (i := (P + 1)) E hK I 2 rfl rfl rfl dX1_readCafe_184 (by simp only [mLn]; omega) ?_
              refine lv_bipush (v := 48) hx hb dX1_readCafe_185 (by decide) ?_
              refine lv_isub hx hb dX1_readCafe_187 ?_
              refine m_ast (i := n) E hK I 6 rfl rfl rfl dX1_readCafe_188 (by simp only [mLn]; omega) (fun H locs I => ?_)
              refine lv_aload_n hx hb dX1_readCafe_189 rfl (lv_at hl 0 rfl) ?_
              refine lv_dup hx hb dX1_readCafe_190 rfl ?_
              refine m_get (v := .int (nI n)) E hK I 13 rfl q1128 (congrArg Value.int ((up_k (by decide) _ _ _ _).trans (by rw [hs1]; exact (up_k (by decide) _ _ _ _).trans ((up_k (by decide) _ _ _ _).trans h13)))) dX1_readCafe_191 ?_
              refine lv_iconst (v := 1) hx hb dX1_readCafe_194 (by decide) ?_
              refine lv_iadd hx hb dX1_readCafe_195 ?_
              refine top_i (y := nI (n + 1)) (nI_1 _) ?_
              refine m_put E hK I 13 rfl rfl q1128 rfl rfl rfl dX1_readCafe_196 (fun H locs I => ?_)
              refine lv_aload_n hx hb dX1_readCafe_199 rfl (lv_at hl 0 rfl) ?_
              refine lv_dup hx hb dX1_readCafe_200 rfl ?_
              refine m_get (v := .int (nI (P + 1))) E hK I 12 rfl q1127 (congrArg Value.int ((up_k (by decide) _ _ _ _).trans ((up_k (by decide) _ _ _ _).trans (by rw [hs1]; exact up_s _ _ _ _)))) dX1_readCafe_201 ?_
              refine lv_iconst (v := 1) hx hb dX1_readCafe_204 (by decide) ?_
              refine lv_iadd hx hb dX1_readCafe_205 ?_
              refine top_i (y := nI (P + 1 + 1)) (nI_1 _) ?_
              refine m_put E hK I 12 rfl rfl q1127 rfl rfl rfl dX1_readCafe_206 (fun H locs I => ?_)
              refine lv_goto (tgt := 5) hx hb dX1_readCafe_209 (by decide) ?_
              have I := m_as I (show _ = rdN s1 n (P + 1) from rfl)
              have e7 : 7 - (n + 1) = f := by omega
              exact ih (P + 2) _ (by omega) ((up_k (by decide) _ _ _ _).trans (up_s _ _ _ _)) (up_s _ _ _ _) (by rw [e7]; exact hz) _ _ ls I (lv_sub (l' := [(0, .ref o), (1, .int (nI N))]) hl [0, 1] rfl)
            · refine lv_iconst (v := 0) hx hb dX1_readCafe_166 (by decide) ?_
              subst hQ
              exact r_z (b := false) E hlk hr I (Nat.le_refl 0) (Nat.le_refl 0) dX1_readCafe_167 rfl (⟨by rw [if_neg (show ¬ (_ ∧ wi (s1 4 (P + 1)) 49 54 = true) from fun h => by rw [c163] at h; exact absurd h.2 (by decide))] at hz; rw [← hz], by rw [if_neg (show ¬ (_ ∧ wi (s1 4 (P + 1)) 49 54 = true) from fun h => by rw [c163] at h; exact absurd h.2 (by decide))] at hz; rw [← hz]⟩)
      · refine lv_aload_n hx hb dX1_readCafe_91 rfl (lv_at hl 0 rfl) ?_
        refine m_get E hK I 14 rfl q1129 rfl dX1_readCafe_92 ?_
        refine lv_aload_n hx hb dX1_readCafe_95 rfl (lv_at hl 0 rfl) ?_
        refine m_get (v := .int (nI n)) E hK I 13 rfl q1128 (congrArg Value.int (h13)) dX1_readCafe_96 ?_
        refine lv_iconst (v := 1) hx hb dX1_readCafe_99 (by decide) ?_
        refine m_ast (i := n) E hK I 5 rfl rfl rfl dX1_readCafe_100 (by simp only [mLn]; omega) (fun H locs I => ?_)
        refine lv_goto (tgt := 129) hx hb dX1_readCafe_101 (by decide) ?_
        have hw : rdW s0 P N = some 1 := by simp [rdW, c65, c88]
        rw [rdT, hw] at hz
        refine lv_aload_n hx hb dX1_readCafe_129 rfl (lv_at hl 0 rfl) ?_
        refine lv_dup hx hb dX1_readCafe_130 rfl ?_
        refine m_get (v := .int (nI P)) E hK I 12 rfl q1127 (congrArg Value.int ((up_k (by decide) _ _ _ _).trans (h12))) dX1_readCafe_131 ?_
        refine lv_iconst (v := 1) hx hb dX1_readCafe_134 (by decide) ?_
        refine lv_iadd hx hb dX1_readCafe_135 ?_
        refine top_i (y := nI (P + 1)) (nI_1 _) ?_
        refine m_put E hK I 12 rfl rfl q1127 rfl rfl rfl dX1_readCafe_136 (fun H locs I => ?_)
        have I := m_as I (show _ = rdV s0 n P 1 from rfl)
        obtain ⟨s1, hs1⟩ : ∃ z, z = rdV s0 n P 1 := ⟨_, rfl⟩
        have I := m_as I hs1.symm
        simp only [← hs1] at hz
        refine lv_aload_n hx hb dX1_readCafe_139 rfl (lv_at hl 0 rfl) ?_
        refine m_get (v := .int (nI (P + 1))) E hK I 12 rfl q1127 (congrArg Value.int (by rw [hs1]; exact up_s _ _ _ _)) dX1_readCafe_140 ?_
        refine lv_iload_n hx hb dX1_readCafe_143 rfl (lv_at hl 1 rfl) ?_
        refine lv_icmp_ge (tgt := 166) hx hb dX1_readCafe_144 (by decide) (fun c144 => ?_) (fun c144 => ?_)
        · refine lv_iconst (v := 0) hx hb dX1_readCafe_166 (by decide) ?_
          subst hQ
          exact r_z (b := false) E hlk hr I (Nat.le_refl 0) (Nat.le_refl 0) dX1_readCafe_167 rfl (⟨by rw [if_neg (show ¬ (P + 1 < N ∧ _) from fun h => nI_ge h.1 (by omega) c144)] at hz; rw [← hz], by rw [if_neg (show ¬ (P + 1 < N ∧ _) from fun h => nI_ge h.1 (by omega) c144)] at hz; rw [← hz]⟩)
        · have hPE : P + 1 < N := nle_lt (by omega) c144
          refine lv_aload_n hx hb dX1_readCafe_147 rfl (lv_at hl 0 rfl) ?_
          refine m_get E hK I 4 rfl q1119 rfl dX1_readCafe_148 ?_
          refine lv_aload_n hx hb dX1_readCafe_151 rfl (lv_at hl 0 rfl) ?_
          refine m_get (v := .int (nI (P + 1))) E hK I 12 rfl q1127 (congrArg Value.int (by rw [hs1]; exact up_s _ _ _ _)) dX1_readCafe_152 ?_
          refine m_ald (i := (P + 1)) E hK I 2 rfl rfl rfl dX1_readCafe_155 (by simp only [mLn]; omega) ?_
          refine lv_bipush (v := 49) hx hb dX1_readCafe_156 (by decide) ?_
          refine lv_bipush (v := 54) hx hb dX1_readCafe_158 (by decide) ?_
          refine c_Si E (m_within l (s1 4 (P + 1)) 49 54) go_m_within ⟨rfl, rfl⟩ dc_m_within ⟨Nat.le_of_ble_eq_true rfl, Nat.le_of_ble_eq_true rfl⟩ ⟨Nat.le_refl 0, Nat.le_refl 0⟩ hl.1 (Nat.le_of_ble_eq_true rfl) rfl dX1_readCafe_160 (fun r160 hp => ?_)
          refine top_i (y := bI (wi (s1 4 (P + 1)) 49 54)) hp ?_
          refine b_ne (tgt := 168) hx hb dX1_readCafe_163 (by decide) (fun c163 => ?_) (fun c163 => ?_)
          · rw [if_pos ⟨hPE, c163⟩] at hz
            refine lv_aload_n hx hb dX1_readCafe_168 rfl (lv_at hl 0 rfl) ?_
            refine m_get E hK I 15 rfl q1130 rfl dX1_readCafe_169 ?_
            refine lv_aload_n hx hb dX1_readCafe_172 rfl (lv_at hl 0 rfl) ?_
            refine m_get (v := .int (nI n)) E hK I 13 rfl q1128 (congrArg Value.int (by rw [hs1]; exact (up_k (by decide) _ _ _ _).trans ((up_k (by decide) _ _ _ _).trans h13))) dX1_readCafe_173 ?_
            refine lv_aload_n hx hb dX1_readCafe_176 rfl (lv_at hl 0 rfl) ?_
            refine m_get E hK I 4 rfl q1119 rfl dX1_readCafe_177 ?_
            refine lv_aload_n hx hb dX1_readCafe_180 rfl (lv_at hl 0 rfl) ?_
            refine m_get (v := .int (nI (P + 1))) E hK I 12 rfl q1127 (congrArg Value.int (by rw [hs1]; exact up_s _ _ _ _)) dX1_readCafe_181 ?_
            refine m_ald (i := (P + 1)) E hK I 2 rfl rfl rfl dX1_readCafe_184 (by simp only [mLn]; omega) ?_
            refine lv_bipush (v := 48) hx hb dX1_readCafe_185 (by decide) ?_
            refine lv_isub hx hb dX1_readCafe_187 ?_
            refine m_ast (i := n) E hK I 6 rfl rfl rfl dX1_readCafe_188 (by simp only [mLn]; omega) (fun H locs I => ?_)
            refine lv_aload_n hx hb dX1_readCafe_189 rfl (lv_at hl 0 rfl) ?_
            refine lv_dup hx hb dX1_readCafe_190 rfl ?_
            refine m_get (v := .int (nI n)) E hK I 13 rfl q1128 (congrArg Value.int ((up_k (by decide) _ _ _ _).trans (by rw [hs1]; exact (up_k (by decide) _ _ _ _).trans ((up_k (by decide) _ _ _ _).trans h13)))) dX1_readCafe_191 ?_
            refine lv_iconst (v := 1) hx hb dX1_readCafe_194 (by decide) ?_
            refine lv_iadd hx hb dX1_readCafe_195 ?_
            refine top_i (y := nI (n + 1)) (nI_1 _) ?_
            refine m_put E hK I 13 rfl rfl q1128 rfl rfl rfl dX1_readCafe_196 (fun H locs I => ?_)
            refine lv_aload_n hx hb dX1_readCafe_199 rfl (lv_at hl 0 rfl) ?_
            refine lv_dup hx hb dX1_readCafe_200 rfl ?_
            refine m_get (v := .int (nI (P + 1))) E hK I 12 rfl q1127 (congrArg Value.int ((up_k (by decide) _ _ _ _).trans ((up_k (by decide) _ _ _ _).trans (by rw [hs1]; exact up_s _ _ _ _)))) dX1_readCafe_201 ?_
            refine lv_iconst (v := 1) hx hb dX1_readCafe_204 (by decide) ?_
            refine lv_iadd hx hb dX1_readCafe_205 ?_
            refine top_i (y := nI (P + 1 + 1)) (nI_1 _) ?_
            refine m_put E hK I 12 rfl rfl q1127 rfl rfl rfl dX1_readCafe_206 (fun H locs I => ?_)
            refine lv_goto (tgt := 5) hx hb dX1_readCafe_209 (by decide) ?_
            have I := m_as I (show _ = rdN s1 n (P + 1) from rfl)
            have e7 : 7 - (n + 1) = f := by omega
            exact ih (P + 2) _ (by omega) ((up_k (by decide) _ _ _ _).trans (up_s _ _ _ _)) (up_s _ _ _ _) (by rw [e7]; exact hz) _ _ ls I (lv_sub (l' := [(0, .ref o), (1, .int (nI N))]) hl [0, 1] rfl)
          · refine lv_iconst (v := 0) hx hb dX1_readCafe_166 (by decide) ?_
            subst hQ
            exact r_z (b := false) E hlk hr I (Nat.le_refl 0) (Nat.le_refl 0) dX1_readCafe_167 rfl (⟨by rw [if_neg (show ¬ (_ ∧ wi (s1 4 (P + 1)) 49 54 = true) from fun h => by rw [c163] at h; exact absurd h.2 (by decide))] at hz; rw [← hz], by rw [if_neg (show ¬ (_ ∧ wi (s1 4 (P + 1)) 49 54 = true) from fun h => by rw [c163] at h; exact absurd h.2 (by decide))] at hz; rw [← hz]⟩)
    · refine lv_aload_n hx hb dX1_readCafe_68 rfl (lv_at hl 0 rfl) ?_
      refine m_get E hK I 14 rfl q1129 rfl dX1_readCafe_69 ?_
      refine lv_aload_n hx hb dX1_readCafe_72 rfl (lv_at hl 0 rfl) ?_
      refine m_get (v := .int (nI n)) E hK I 13 rfl q1128 (congrArg Value.int (h13)) dX1_readCafe_73 ?_
      refine lv_iconst (v := 0) hx hb dX1_readCafe_76 (by decide) ?_
      refine m_ast (i := n) E hK I 5 rfl rfl rfl dX1_readCafe_77 (by simp only [mLn]; omega) (fun H locs I => ?_)
      refine lv_goto (tgt := 129) hx hb dX1_readCafe_78 (by decide) ?_
      have hw : rdW s0 P N = some 0 := by simp [rdW, c65]
      rw [rdT, hw] at hz
      refine lv_aload_n hx hb dX1_readCafe_129 rfl (lv_at hl 0 rfl) ?_
      refine lv_dup hx hb dX1_readCafe_130 rfl ?_
      refine m_get (v := .int (nI P)) E hK I 12 rfl q1127 (congrArg Value.int ((up_k (by decide) _ _ _ _).trans (h12))) dX1_readCafe_131 ?_
      refine lv_iconst (v := 1) hx hb dX1_readCafe_134 (by decide) ?_
      refine lv_iadd hx hb dX1_readCafe_135 ?_
      refine top_i (y := nI (P + 1)) (nI_1 _) ?_
      refine m_put E hK I 12 rfl rfl q1127 rfl rfl rfl dX1_readCafe_136 (fun H locs I => ?_)
      have I := m_as I (show _ = rdV s0 n P 0 from rfl)
      obtain ⟨s1, hs1⟩ : ∃ z, z = rdV s0 n P 0 := ⟨_, rfl⟩
      have I := m_as I hs1.symm
      simp only [← hs1] at hz
      refine lv_aload_n hx hb dX1_readCafe_139 rfl (lv_at hl 0 rfl) ?_
      refine m_get (v := .int (nI (P + 1))) E hK I 12 rfl q1127 (congrArg Value.int (by rw [hs1]; exact up_s _ _ _ _)) dX1_readCafe_140 ?_
      refine lv_iload_n hx hb dX1_readCafe_143 rfl (lv_at hl 1 rfl) ?_
      refine lv_icmp_ge (tgt := 166) hx hb dX1_readCafe_144 (by decide) (fun c144 => ?_) (fun c144 => ?_)
      · refine lv_iconst (v := 0) hx hb dX1_readCafe_166 (by decide) ?_
        subst hQ
        exact r_z (b := false) E hlk hr I (Nat.le_refl 0) (Nat.le_refl 0) dX1_readCafe_167 rfl (⟨by rw [if_neg (show ¬ (P + 1 < N ∧ _) from fun h => nI_ge h.1 (by omega) c144)] at hz; rw [← hz], by rw [if_neg (show ¬ (P + 1 < N ∧ _) from fun h => nI_ge h.1 (by omega) c144)] at hz; rw [← hz]⟩)
      · have hPE : P + 1 < N := nle_lt (by omega) c144
        refine lv_aload_n hx hb dX1_readCafe_147 rfl (lv_at hl 0 rfl) ?_
        refine m_get E hK I 4 rfl q1119 rfl dX1_readCafe_148 ?_
        refine lv_aload_n hx hb dX1_readCafe_151 rfl (lv_at hl 0 rfl) ?_
        refine m_get (v := .int (nI (P + 1))) E hK I 12 rfl q1127 (congrArg Value.int (by rw [hs1]; exact up_s _ _ _ _)) dX1_readCafe_152 ?_
        refine m_ald (i := (P + 1)) E hK I 2 rfl rfl rfl dX1_readCafe_155 (by simp only [mLn]; omega) ?_
        refine lv_bipush (v := 49) hx hb dX1_readCafe_156 (by decide) ?_
        refine lv_bipush (v := 54) hx hb dX1_readCafe_158 (by decide) ?_
        refine c_Si E (m_within l (s1 4 (P + 1)) 49 54) go_m_within ⟨rfl, rfl⟩ dc_m_within ⟨Nat.le_of_ble_eq_true rfl, Nat.le_of_ble_eq_true rfl⟩ ⟨Nat.le_refl 0, Nat.le_refl 0⟩ hl.1 (Nat.le_of_ble_eq_true rfl) rfl dX1_readCafe_160 (fun r160 hp => ?_)
        refine top_i (y := bI (wi (s1 4 (P + 1)) 49 54)) hp ?_
        refine b_ne (tgt := 168) hx hb dX1_readCafe_163 (by decide) (fun c163 => ?_) (fun c163 => ?_)
        · rw [if_pos ⟨hPE, c163⟩] at hz
          refine lv_aload_n hx hb dX1_readCafe_168 rfl (lv_at hl 0 rfl) ?_
          refine m_get E hK I 15 rfl q1130 rfl dX1_readCafe_169 ?_
          refine lv_aload_n hx hb dX1_readCafe_172 rfl (lv_at hl 0 rfl) ?_
          refine m_get (v := .int (nI n)) E hK I 13 rfl q1128 (congrArg Value.int (by rw [hs1]; exact (up_k (by decide) _ _ _ _).trans ((up_k (by decide) _ _ _ _).trans h13))) dX1_readCafe_173 ?_
          refine lv_aload_n hx hb dX1_readCafe_176 rfl (lv_at hl 0 rfl) ?_
          refine m_get E hK I 4 rfl q1119 rfl dX1_readCafe_177 ?_
          refine lv_aload_n hx hb dX1_readCafe_180 rfl (lv_at hl 0 rfl) ?_
          refine m_get (v := .int (nI (P + 1))) E hK I 12 rfl q1127 (congrArg Value.int (by rw [hs1]; exact up_s _ _ _ _)) dX1_readCafe_181 ?_
          refine m_ald (i := (P + 1)) E hK I 2 rfl rfl rfl dX1_readCafe_184 (by simp only [mLn]; omega) ?_
          refine lv_bipush (v := 48) hx hb dX1_readCafe_185 (by decide) ?_
          refine lv_isub hx hb dX1_readCafe_187 ?_
          refine m_ast (i := n) E hK I 6 rfl rfl rfl dX1_readCafe_188 (by simp only [mLn]; omega) (fun H locs I => ?_)
          refine lv_aload_n hx hb dX1_readCafe_189 rfl (lv_at hl 0 rfl) ?_
          refine lv_dup hx hb dX1_readCafe_190 rfl ?_
          refine m_get (v := .int (nI n)) E hK I 13 rfl q1128 (congrArg Value.int ((up_k (by decide) _ _ _ _).trans (by rw [hs1]; exact (up_k (by decide) _ _ _ _).trans ((up_k (by decide) _ _ _ _).trans h13)))) dX1_readCafe_191 ?_
          refine lv_iconst (v := 1) hx hb dX1_readCafe_194 (by decide) ?_
          refine lv_iadd hx hb dX1_readCafe_195 ?_
          refine top_i (y := nI (n + 1)) (nI_1 _) ?_
          refine m_put E hK I 13 rfl rfl q1128 rfl rfl rfl dX1_readCafe_196 (fun H locs I => ?_)
          refine lv_aload_n hx hb dX1_readCafe_199 rfl (lv_at hl 0 rfl) ?_
          refine lv_dup hx hb dX1_readCafe_200 rfl ?_
          refine m_get (v := .int (nI (P + 1))) E hK I 12 rfl q1127 (congrArg Value.int ((up_k (by decide) _ _ _ _).trans ((up_k (by decide) _ _ _ _).trans (by rw [hs1]; exact up_s _ _ _ _)))) dX1_readCafe_201 ?_
          refine lv_iconst (v := 1) hx hb dX1_readCafe_204 (by decide) ?_
          refine lv_iadd hx hb dX1_readCafe_205 ?_
          refine top_i (y := nI (P + 1 + 1)) (nI_1 _) ?_
          refine m_put E hK I 12 rfl rfl q1127 rfl rfl rfl dX1_readCafe_206 (fun H locs I => ?_)
          refine lv_goto (tgt := 5) hx hb dX1_readCafe_209 (by decide) ?_
          have I := m_as I (show _ = rdN s1 n (P + 1) from rfl)
          have e7 : 7 - (n + 1) = f := by omega
          exact ih (P + 2) _ (by omega) ((up_k (by decide) _ _ _ _).trans (up_s _ _ _ _)) (up_s _ _ _ _) (by rw [e7]; exact hz) _ _ ls I (lv_sub (l' := [(0, .ref o), (1, .int (nI N))]) hl [0, 1] rfl)
        · refine lv_iconst (v := 0) hx hb dX1_readCafe_166 (by decide) ?_
          subst hQ
          exact r_z (b := false) E hlk hr I (Nat.le_refl 0) (Nat.le_refl 0) dX1_readCafe_167 rfl (⟨by rw [if_neg (show ¬ (_ ∧ wi (s1 4 (P + 1)) 49 54 = true) from fun h => by rw [c163] at h; exact absurd h.2 (by decide))] at hz; rw [← hz], by rw [if_neg (show ¬ (_ ∧ wi (s1 4 (P + 1)) 49 54 = true) from fun h => by rw [c163] at h; exact absurd h.2 (by decide))] at hz; rw [← hz]⟩)
  have L5 : ∀ n, n ≤ 6 → ∀ (P : Nat) (s0 : Sg), P < 200 + 3 * n → s0 13 0 = nI n → s0 12 0 = nI P → rdS N (7 - n) n P s0 = rdS N 7 0 P0 (up σ 13 0 0) → ∀ (H : Heap) (locs : List Loc) (ls : Array Slot), gI s D A (mW ty o ad s0) H locs → lv_has ls 2 [(0, .ref o), (1, .int (nI N))] → W p l e (rmL 2) s m args below meth c H locs 0 0 Q (F0 m 5 ls []) := by
    refine dn_ind 6 ?_ ?_
    · intro P s0 hPl h13 h12 hz H locs ls I hl
      have hn0 : ¬ 6 = 0 := by decide
      have hn6 : 6 = 6 := rfl
      have hq := rdS_e N 0 6 P s0
      refine lv_aload_n hx hb dX1_readCafe_5 rfl (lv_at hl 0 rfl) ?_
      refine m_get (v := .int (nI 6)) E hK I 13 rfl q1128 (congrArg Value.int (h13)) dX1_readCafe_6 ?_
      refine lv_if_eq (tgt := 20) hx hb dX1_readCafe_9 (by decide) (fun c9 => absurd c9 (nI_ne0 (by omega) (by omega))) (fun c9 => ?_)
      refine lv_aload_n hx hb dX1_readCafe_12 rfl (lv_at hl 0 rfl) ?_
      refine m_get (v := .int (nI P)) E hK I 12 rfl q1127 (congrArg Value.int (h12)) dX1_readCafe_13 ?_
      refine lv_iload_n hx hb dX1_readCafe_16 rfl (lv_at hl 1 rfl) ?_
      refine lv_icmp_ge (tgt := 212) hx hb dX1_readCafe_17 (by decide) (fun c17 => ?_) (fun c17 => ?_)
      · refine lv_iconst (v := 1) hx hb dX1_readCafe_212 (by decide) ?_
        subst hQ
        exact r_z (b := true) E hlk hr I (Nat.le_refl 0) (Nat.le_refl 0) dX1_readCafe_213 rfl (⟨by rw [← hz, hq]; simp [(nI_leI (by omega) (by omega)).mp c17, hn0], by rw [← hz, hq]; simp [(nI_leI (by omega) (by omega)).mp c17, hn0]⟩)
      · have hPE : ¬ N ≤ P := fun h => c17 (nI_le h (by omega))
        refine lv_aload_n hx hb dX1_readCafe_20 rfl (lv_at hl 0 rfl) ?_
        refine m_get (v := .int (nI 6)) E hK I 13 rfl q1128 (congrArg Value.int (h13)) dX1_readCafe_21 ?_
        refine lv_if_le (tgt := 58) hx hb dX1_readCafe_24 (by decide) (fun c24 => absurd c24 (nI_nle (by omega) (by omega))) (fun c24 => ?_)
        refine lv_aload_n hx hb dX1_readCafe_27 rfl (lv_at hl 0 rfl) ?_
        refine m_get (v := .int (nI 6)) E hK I 13 rfl q1128 (congrArg Value.int (h13)) dX1_readCafe_28 ?_
        refine lv_bipush (v := 6) hx hb dX1_readCafe_31 (by decide) ?_
        refine lv_icmp_eq (tgt := 46) hx hb dX1_readCafe_33 (by decide) (fun c33 => ?_) (fun c33 => absurd c33 (not_not_intro (by decide)))
        refine lv_iconst (v := 0) hx hb dX1_readCafe_46 (by decide) ?_
        subst hQ
        exact r_z (b := false) E hlk hr I (Nat.le_refl 0) (Nat.le_refl 0) dX1_readCafe_47 rfl (⟨by rw [← hz, hq]; simp [hPE, hn0, hn6], by rw [← hz, hq]; simp [hPE, hn0, hn6]⟩)
    · intro n hn ih P s0 hPl h13 h12 hz H locs ls I hl
      have hq := rdS_e N (6 - n) n P s0
      rw [show 6 - n + 1 = 7 - n by omega] at hq
      rcases Nat.eq_zero_or_pos n with h0 | h0
      · subst h0
        refine lv_aload_n hx hb dX1_readCafe_5 rfl (lv_at hl 0 rfl) ?_
        refine m_get (v := .int (nI 0)) E hK I 13 rfl q1128 (congrArg Value.int (h13)) dX1_readCafe_6 ?_
        refine lv_if_eq (tgt := 20) hx hb dX1_readCafe_9 (by decide) (fun c9 => ?_) (fun c9 => absurd c9 (not_not_intro (by decide)))
        refine lv_aload_n hx hb dX1_readCafe_20 rfl (lv_at hl 0 rfl) ?_
        refine m_get (v := .int (nI 0)) E hK I 13 rfl q1128 (congrArg Value.int (h13)) dX1_readCafe_21 ?_
        refine lv_if_le (tgt := 58) hx hb dX1_readCafe_24 (by decide) (fun c24 => ?_) (fun c24 => absurd c24 (not_not_intro (by decide)))
        exact T58 0 hn ih 6 P s0 rfl (by omega) h13 h12 (by rw [← hz, hq]; rfl) _ _ ls I hl
      · have hn0 : ¬ n = 0 := by omega
        have hn6 : ¬ n = 6 := by omega
        refine lv_aload_n hx hb dX1_readCafe_5 rfl (lv_at hl 0 rfl) ?_
        refine m_get (v := .int (nI n)) E hK I 13 rfl q1128 (congrArg Value.int (h13)) dX1_readCafe_6 ?_
        refine lv_if_eq (tgt := 20) hx hb dX1_readCafe_9 (by decide) (fun c9 => absurd c9 (nI_ne0 (by omega) (by omega))) (fun c9 => ?_)
        refine lv_aload_n hx hb dX1_readCafe_12 rfl (lv_at hl 0 rfl) ?_
        refine m_get (v := .int (nI P)) E hK I 12 rfl q1127 (congrArg Value.int (h12)) dX1_readCafe_13 ?_
        refine lv_iload_n hx hb dX1_readCafe_16 rfl (lv_at hl 1 rfl) ?_
        refine lv_icmp_ge (tgt := 212) hx hb dX1_readCafe_17 (by decide) (fun c17 => ?_) (fun c17 => ?_)
        · refine lv_iconst (v := 1) hx hb dX1_readCafe_212 (by decide) ?_
          subst hQ
          exact r_z (b := true) E hlk hr I (Nat.le_refl 0) (Nat.le_refl 0) dX1_readCafe_213 rfl (⟨by rw [← hz, hq]; simp [(nI_leI (by omega) (by omega)).mp c17, hn0], by rw [← hz, hq]; simp [(nI_leI (by omega) (by omega)).mp c17, hn0]⟩)
        · have hPE : ¬ N ≤ P := fun h => c17 (nI_le h (by omega))
          refine lv_aload_n hx hb dX1_readCafe_20 rfl (lv_at hl 0 rfl) ?_
          refine m_get (v := .int (nI n)) E hK I 13 rfl q1128 (congrArg Value.int (h13)) dX1_readCafe_21 ?_
          refine lv_if_le (tgt := 58) hx hb dX1_readCafe_24 (by decide) (fun c24 => absurd c24 (nI_nle (by omega) (by omega))) (fun c24 => ?_)
          refine lv_aload_n hx hb dX1_readCafe_27 rfl (lv_at hl 0 rfl) ?_
          refine m_get (v := .int (nI n)) E hK I 13 rfl q1128 (congrArg Value.int (h13)) dX1_readCafe_28 ?_
          refine lv_bipush (v := 6) hx hb dX1_readCafe_31 (by decide) ?_
          refine lv_icmp_eq (tgt := 46) hx hb dX1_readCafe_33 (by decide) (fun c33 => absurd c33 (fun h => absurd ((nI_i (a := n) (b := 6) (by omega) (by omega)).mp h) (by omega))) (fun c33 => ?_)
          refine lv_aload_n hx hb dX1_readCafe_36 rfl (lv_at hl 0 rfl) ?_
          refine lv_bipush (v := 59) hx hb dX1_readCafe_37 (by decide) ?_
          refine lv_iload_n hx hb dX1_readCafe_39 rfl (lv_at hl 1 rfl) ?_
          refine m_ci E hK hA I (m_isCode l D ty o ad s0 59 N hN P (by omega) h12) go_m_isCode dc_m_isCode ⟨Nat.le_of_ble_eq_true rfl, Nat.le_of_ble_eq_true rfl⟩ ⟨Nat.le_refl 0, Nat.le_refl 0⟩ hl.1 (Nat.le_of_ble_eq_true rfl) rfl dX1_readCafe_40 (fun r40 σ40 H locs hp I => ?_)
          refine top_i (y := bI (isC s0 P N 59)) hp.1 ?_
          have I := m_as I hp.2
          refine b_ne (tgt := 48) hx hb dX1_readCafe_43 (by decide) (fun c43 => ?_) (fun c43 => ?_)
          · have c43x : s0 4 P = 59 := by simp only [isC, Bool.and_eq_true, decide_eq_true_eq] at c43; exact c43.2
            rw [hq, if_neg hn0, if_neg hPE, if_neg hn6, if_pos c43x] at hz
            refine lv_aload_n hx hb dX1_readCafe_48 rfl (lv_at hl 0 rfl) ?_
            refine lv_dup hx hb dX1_readCafe_49 rfl ?_
            refine m_get (v := .int (nI P)) E hK I 12 rfl q1127 (congrArg Value.int (h12)) dX1_readCafe_50 ?_
            refine lv_iconst (v := 1) hx hb dX1_readCafe_53 (by decide) ?_
            refine lv_iadd hx hb dX1_readCafe_54 ?_
            refine top_i (y := nI (P + 1)) (nI_1 _) ?_
            refine m_put E hK I 12 rfl rfl q1127 rfl rfl rfl dX1_readCafe_55 (fun H locs I => ?_)
            exact T58 n hn ih (6 - n) (P + 1) _ (by omega) (by omega) ((up_k (by decide) _ _ _ _).trans h13) (up_s _ _ _ _) hz _ _ ls I hl
          · have c43x : ¬ s0 4 P = 59 := by simp only [isC, Bool.and_eq_false_iff, decide_eq_false_iff_not] at c43; rcases c43 with h | h; exact absurd (by omega) h; exact h
            refine lv_iconst (v := 0) hx hb dX1_readCafe_46 (by decide) ?_
            subst hQ
            exact r_z (b := false) E hlk hr I (Nat.le_refl 0) (Nat.le_refl 0) dX1_readCafe_47 rfl (⟨by rw [← hz, hq]; simp [hPE, hn0, hn6, c43x], by rw [← hz, hq]; simp [hPE, hn0, hn6, c43x]⟩)
  refine lv_aload_n hx hb dX1_readCafe_0 rfl (lv_at hl 0 rfl) ?_
  refine lv_iconst (v := 0) hx hb dX1_readCafe_1 (by decide) ?_
  refine m_put E hK I 13 rfl rfl q1128 rfl rfl rfl dX1_readCafe_2 (fun H locs I => ?_)
  exact L5 0 (by omega) P0 _ (by omega) (up_s _ _ _ _) ((up_k (by decide) _ _ _ _).trans hP0) rfl _ _ ls I hl
theorem dc_m_readCafe : yX1_readCafe.cls = RX1 ∧ yX1_readCafe.cls ≠ "java/lang/invoke/MethodHandle" ∧ yX1_readCafe.cls ≠ "java/lang/invoke/VarHandle" ∧ (parseMethodDescriptor yX1_readCafe.desc).map (fun d => d.parameters.length) = some 1 := by decide +kernel
theorem go_m_readCafe : GoodIn lw_all (wsV RX1 129 RX1 yX1_readCafe (ws_ yX1_readCafe cX1_readCafe 2 (some .boolean))) := lw_V q1270 q1272 qs36 q75 q1273
theorem rdT_13 {go : Nat → Sg → Bool × Sg} {E n P : Nat} {s : Sg} (hn : n < 6) (h : s 13 0 = nI n) (hg : ∀ P s, s 13 0 = nI (n + 1) → ∃ k : Nat, k ≤ 6 ∧ (go P s).2 13 0 = nI k) : ∃ k : Nat, k ≤ 6 ∧ (rdT go E n P s).2 13 0 = nI k := by
  unfold rdT
  cases rdW s P E with
  | none => exact ⟨n, by omega, h⟩
  | some v =>
    have h2 : rdV s n P v 13 0 = nI n := (up_k (by decide) _ _ _ _).trans ((up_k (by decide) _ _ _ _).trans h)
    by_cases hc : P + 1 < E ∧ wi (rdV s n P v 4 (P + 1)) 49 54 = true
    · simp only [if_pos hc]
      exact hg _ _ ((up_k (by decide) _ _ _ _).trans (up_s _ _ _ _))
    · simp only [if_neg hc]
      exact ⟨n, by omega, h2⟩
theorem rdS_13 (E : Nat) : ∀ (f n P : Nat) (s : Sg), n ≤ 6 → s 13 0 = nI n → ∃ k : Nat, k ≤ 6 ∧ (rdS E f n P s).2 13 0 = nI k
  | 0, n, P, s, hn, h => ⟨n, hn, h⟩
  | f + 1, n, P, s, hn, h => by
    rw [rdS_e]
    by_cases h0 : n = 0
    · subst h0
      simp only [if_true]
      exact rdT_13 (by omega) h (fun P s h => rdS_13 E f 1 P s (by omega) h)
    · simp only [if_neg h0]
      by_cases h1 : E ≤ P
      · simp only [if_pos h1]; exact ⟨n, hn, h⟩
      · simp only [if_neg h1]
        by_cases h2 : n = 6
        · simp only [if_pos h2]; exact ⟨n, hn, h⟩
        · simp only [if_neg h2]
          by_cases h3 : s 4 P = 59
          · simp only [if_pos h3]
            exact rdT_13 (by omega) ((up_k (by decide) _ _ _ _).trans h) (fun P s h => rdS_13 E f (n + 1) P s (by omega) h)
          · simp only [if_neg h3]; exact ⟨n, hn, h⟩
def cp3 (s : Sg) (n : Nat) : Sg := fun a b => if b < n then (if a = 6 then s 14 b else if a = 7 then s 15 b else s a b) else s a b
theorem cp3_0 (s : Sg) : s = cp3 s 0 := by funext a b; simp [cp3]
theorem cp3_s (s : Sg) (n : Nat) : up (up (cp3 s n) 6 n (cp3 s n 14 n)) 7 n (up (cp3 s n) 6 n (cp3 s n 14 n) 15 n) = cp3 s (n + 1) := by
  funext a b
  by_cases hb : b = n
  · subst hb
    by_cases h1 : a = 6
    · simp [cp3, up, h1]
    · by_cases h2 : a = 7
      · simp [cp3, up, h2]
      · simp [cp3, up, h1, h2]
  · simp [cp3, up, hb, lt_s1 hb]
theorem cp3_k {k : Nat} (h : k ≠ 6 ∧ k ≠ 7) (s : Sg) (n : Nat) : cp3 s n k = s k := by
  funext b; simp [cp3, h.1, h.2]
/-- the cafe as it was read: n tables -/
def mOpen (s : Sg) (n : Nat) : Sg := up (up (up (up (up (cp3 (up s 5 0 (nI n)) n) 16 0 0) 8 0 0) 9 0 0) 10 0 (bI false)) 11 0 (-9)
def mRd (σ : Sg) (k : Nat) (i n : Int32) : Bool × Sg := rdS (40 * k + i.toNatClampNeg + n.toNatClampNeg) 7 0 (40 * k + i.toNatClampNeg) (up (up (up σ 0 0 0) 12 0 (nI (40 * k + i.toNatClampNeg))) 13 0 0)
def mCafeR (σ : Sg) (k : Nat) (i n : Int32) : Int32 := if (mRd σ k i n).1 then (mRd σ k i n).2 13 0 else (-100) - ((mRd σ k i n).2 12 0 - nI (40 * k + i.toNatClampNeg))
def mCafeS (σ : Sg) (k : Nat) (i n : Int32) : Sg := if (mRd σ k i n).1 then mOpen (mRd σ k i n).2 ((mRd σ k i n).2 13 0).toNatClampNeg else (mRd σ k i n).2
theorem mAg_nat {σ : Sg} {k n : Nat} {a i x : Int32} (hn : n ≤ 40) (en : σ 3 k = nI n) (h : mAg σ k a i x = 0) : ∃ u v : Nat, i = nI u ∧ x = nI v ∧ u + v ≤ n := by
  unfold mAg at h
  rw [en] at h
  split at h
  · exact absurd h (by decide)
  · split at h
    · split at h
      · rename_i h0
        split at h
        · exact absurd h (by decide)
        · rename_i h1
          split at h
          · exact absurd h (by decide)
          · rename_i h2
            split at h
            · rename_i h3
              obtain ⟨u, hu, rfl⟩ := nI_of h1
              obtain ⟨v, hv, rfl⟩ := nI_of (Int32.not_lt.mpr h0)
              have e1 := nlt_le hu h2
              rw [pk_sub e1] at h3
              have e2 := (nI_leI hv (by omega)).mp h3
              exact ⟨u, v, rfl, rfl, by omega⟩
            · exact absurd h (by decide)
      · exact absurd h (by decide)
    · exact absurd h (by decide)
theorem cp3_5 (s : Sg) (n : Nat) (v : Int32) : cp3 (up s 5 0 v) n 5 = up s 5 0 v 5 := cp3_k (by decide) _ _
theorem m_cafe (l : Launch) (D : va_G) (ty : Nat → ClassId) (o : Nat) (ad : Nat → Nat) (σ : Sg) (k : Int32) (a : Int32) (i : Int32) (n : Int32) (hL : mLong σ) : mKi l yX1_cafe cX1_cafe 8 .int 3 D ty o ad σ [.int k, .int a, .int i, .int n] (fun r τ => r = (if wi k 0 3 then (if wi a 0 2 then (if mAg σ (k).toNatClampNeg a i n = 0 then mCafeR σ (k).toNatClampNeg i n else (-10) - mAg σ (k).toNatClampNeg a i n) else (-2)) else (-1)) ∧ τ = if wi k 0 3 then (if wi a 0 2 then (if mAg σ (k).toNatClampNeg a i n = 0 then mCafeS σ (k).toNatClampNeg i n else up (up σ 0 0 0) 0 0 (mAg σ (k).toNatClampNeg a i n)) else up σ 0 0 0) else up σ 0 0 0) := by
  refine Ki.of (by decide) (Nat.le_of_ble_eq_true rfl) ?_
  intro p e s m below meth c A ls args E hK hA hX hlk hr I hl
  have hx := E.1
  have hb := E.2.1
  have hl : lv_has ls 8 [(0, .ref o), (1, .int k), (2, .int a), (3, .int i), (4, .int n)] := hl
  refine nameQ (fun Q hQ => ?_)
  refine lv_aload_n hx hb dX1_cafe_0 rfl (lv_at hl 0 rfl) ?_
  refine lv_iconst (v := 0) hx hb dX1_cafe_1 (by decide) ?_
  refine m_put E hK I 0 rfl rfl q1115 rfl rfl rfl dX1_cafe_2 (fun H locs I => ?_)
  refine lv_iload_n hx hb dX1_cafe_5 rfl (lv_at hl 1 rfl) ?_
  refine c_Si E (m_isSheet l k) go_m_isSheet ⟨rfl, rfl⟩ dc_m_isSheet ⟨Nat.le_of_ble_eq_true rfl, Nat.le_of_ble_eq_true rfl⟩ ⟨Nat.le_refl 0, Nat.le_refl 0⟩ hl.1 (Nat.le_of_ble_eq_true rfl) rfl dX1_cafe_6 (fun r6 hp => ?_)
  refine top_i (y := bI (wi k 0 3)) hp ?_
  refine b_ne (tgt := 14) hx hb dX1_cafe_9 (by decide) (fun c9 => ?_) (fun c9 => ?_)
  · refine lv_iload_n hx hb dX1_cafe_14 rfl (lv_at hl 2 rfl) ?_
    refine c_Si E (m_isSort l a) go_m_isSort ⟨rfl, rfl⟩ dc_m_isSort ⟨Nat.le_of_ble_eq_true rfl, Nat.le_of_ble_eq_true rfl⟩ ⟨Nat.le_refl 0, Nat.le_refl 0⟩ hl.1 (Nat.le_of_ble_eq_true rfl) rfl dX1_cafe_15 (fun r15 hp => ?_)
    refine top_i (y := bI (wi a 0 2)) hp ?_
    refine b_ne (tgt := 24) hx hb dX1_cafe_18 (by decide) (fun c18 => ?_) (fun c18 => ?_)
    · obtain ⟨j, hj, ej⟩ := wi_nat (n := 3) (by decide) c9
      subst ej
      refine lv_aload_n hx hb dX1_cafe_24 rfl (lv_at hl 0 rfl) ?_
      refine lv_iload_n hx hb dX1_cafe_25 rfl (lv_at hl 1 rfl) ?_
      refine lv_iload_n hx hb dX1_cafe_26 rfl (lv_at hl 2 rfl) ?_
      refine lv_iload_n hx hb dX1_cafe_27 rfl (lv_at hl 3 rfl) ?_
      refine lv_iload hx hb dX1_cafe_28 (lv_at hl 4 rfl) ?_
      refine m_ci E hK hA I (m_against l D ty o ad (up σ 0 0 0) j a i n (by omega)) go_m_against dc_m_against ⟨Nat.le_of_ble_eq_true rfl, Nat.le_of_ble_eq_true rfl⟩ ⟨Nat.le_refl 0, Nat.le_refl 0⟩ hl.1 (Nat.le_of_ble_eq_true rfl) rfl dX1_cafe_30 (fun r30 σ30 H locs hp I => ?_)
      refine top_i (y := mAg (up σ 0 0 0) j a i n) hp.1 ?_
      have I := m_as I hp.2
      refine top_i (y := mAg σ j a i n) (by simp only [mAg, up_k (show 2 ≠ 0 by decide), up_k (show 3 ≠ 0 by decide)]) ?_
      refine lv_istore (lv' := [(5, .int (mAg σ j a i n)), (0, .ref o), (1, .int (nI j)), (2, .int a), (3, .int i), (4, .int n)]) hx hb dX1_cafe_33 hl (by decide) rfl (fun ls hl => ?_)
      refine lv_iload hx hb dX1_cafe_35 (lv_at hl 0 rfl) ?_
      refine lv_if_eq (tgt := 47) hx hb dX1_cafe_37 (by decide) (fun c37 => ?_) (fun c37 => ?_)
      · obtain ⟨q, hq, eq⟩ := hL j (by omega)
        obtain ⟨u, v, e1, e2, huv⟩ := mAg_nat hq eq c37
        subst e1
        subst e2
        have hcu := nI_clamp (show u < 2 ^ 31 by omega)
        have hcv := nI_clamp (show v < 2 ^ 31 by omega)
        have hcj := nI_clamp (show j < 2 ^ 31 by omega)
        refine lv_bipush (v := 40) hx hb dX1_cafe_47 (by decide) ?_
        refine lv_iload_n hx hb dX1_cafe_49 rfl (lv_at hl 2 rfl) ?_
        refine lv_imul hx hb dX1_cafe_50 ?_
        refine lv_iload_n hx hb dX1_cafe_51 rfl (lv_at hl 4 rfl) ?_
        refine lv_iadd hx hb dX1_cafe_52 ?_
        refine top_i (y := nI (40 * j + u)) (i40 j u) ?_
        refine lv_istore (lv' := [(6, .int (nI (40 * j + u))), (5, .int (mAg σ j a (nI u) (nI v))), (0, .ref o), (1, .int (nI j)), (2, .int a), (3, .int (nI u)), (4, .int (nI v))]) hx hb dX1_cafe_53 hl (by decide) rfl (fun ls hl => ?_)
        refine lv_aload_n hx hb dX1_cafe_55 rfl (lv_at hl 2 rfl) ?_
        refine lv_iload hx hb dX1_cafe_56 (lv_at hl 0 rfl) ?_
        refine m_put E hK I 12 rfl rfl q1127 rfl rfl rfl dX1_cafe_58 (fun H locs I => ?_)
        refine lv_aload_n hx hb dX1_cafe_61 rfl (lv_at hl 2 rfl) ?_
        refine lv_iload hx hb dX1_cafe_62 (lv_at hl 0 rfl) ?_
        refine lv_iload hx hb dX1_cafe_64 (lv_at hl 6 rfl) ?_
        refine lv_iadd hx hb dX1_cafe_66 ?_
        refine top_i (y := nI (40 * j + u + v)) (nI_add _ _) ?_
        refine m_ci E hK hA I (m_readCafe l D ty o ad (up (up σ 0 0 0) 12 0 (nI (40 * j + u))) (40 * j + u + v) (by omega) (40 * j + u) (by omega) (up_s _ _ _ _)) go_m_readCafe dc_m_readCafe ⟨Nat.le_of_ble_eq_true rfl, Nat.le_of_ble_eq_true rfl⟩ ⟨Nat.le_refl 0, Nat.le_refl 0⟩ hl.1 (Nat.le_of_ble_eq_true rfl) rfl dX1_cafe_67 (fun r67 σ67 H locs hp I => ?_)
        refine top_i (y := bI (rdS (40 * j + u + v) 7 0 (40 * j + u) (up (up (up σ 0 0 0) 12 0 (nI (40 * j + u))) 13 0 0)).1) hp.1 ?_
        have I := m_as I hp.2
        have hM : rdS (40 * j + u + v) 7 0 (40 * j + u) (up (up (up σ 0 0 0) 12 0 (nI (40 * j + u))) 13 0 0) = mRd σ j (nI u) (nI v) := by rw [mRd, hcu, hcv]
        refine top_i (y := bI (mRd σ j (nI u) (nI v)).1) (by rw [hM]) ?_
        have I := m_as I (show _ = (mRd σ j (nI u) (nI v)).2 by rw [hM])
        obtain ⟨N, hN6, hN⟩ : ∃ N : Nat, N ≤ 6 ∧ (mRd σ j (nI u) (nI v)).2 13 0 = nI N := by rw [← hM]; exact rdS_13 _ 7 0 _ _ (by omega) (up_s _ _ _ _)
        obtain ⟨s1, hs1⟩ : ∃ z, z = (mRd σ j (nI u) (nI v)).2 := ⟨_, rfl⟩
        have I := m_as I hs1.symm
        rw [← hs1] at hN
        refine b_ne (tgt := 84) hx hb dX1_cafe_70 (by decide) (fun c70 => ?_) (fun c70 => ?_)
        · refine lv_aload_n hx hb dX1_cafe_84 rfl (lv_at hl 2 rfl) ?_
          refine lv_aload_n hx hb dX1_cafe_85 rfl (lv_at hl 2 rfl) ?_
          refine m_get (v := .int (nI N)) E hK I 13 rfl q1128 (congrArg Value.int (hN)) dX1_cafe_86 ?_
          refine m_put E hK I 5 rfl rfl q1120 rfl rfl rfl dX1_cafe_89 (fun H locs I => ?_)
          refine lv_iconst (v := 0) hx hb dX1_cafe_92 (by decide) ?_
          refine lv_istore (lv' := [(7, .int 0), (6, .int (nI (40 * j + u))), (5, .int (mAg σ j a (nI u) (nI v))), (0, .ref o), (1, .int (nI j)), (2, .int a), (3, .int (nI u)), (4, .int (nI v))]) hx hb dX1_cafe_93 hl (by decide) rfl (fun ls hl => ?_)
          have L95 : ∀ t, t ≤ N → ∀ (H : Heap) (locs : List Loc) (ls : Array Slot), gI s D A (mW ty o ad (cp3 (up s1 5 0 (nI N)) t)) H locs → lv_has ls 8 [(0, .ref o), (7, .int (nI t))] → W p l e (rmL 3) s m args below meth c H locs 0 0 Q (F0 m 95 ls []) := by
            refine dn_ind N ?_ ?_
            · intro H locs ls I hl
              refine lv_iload hx hb dX1_cafe_95 (lv_at hl 1 rfl) ?_
              refine lv_aload_n hx hb dX1_cafe_97 rfl (lv_at hl 0 rfl) ?_
              refine m_get (v := .int (nI N)) E hK I 5 rfl q1120 (congrArg Value.int ((congrFun (cp3_5 _ _ _) 0).trans (up_s _ _ _ _))) dX1_cafe_98 ?_
              refine lv_icmp_ge (tgt := 138) hx hb dX1_cafe_101 (by decide) (fun c101 => ?_) (fun c101 => absurd c101 (fun h => h (Int32.le_refl _)))
              refine lv_aload_n hx hb dX1_cafe_138 rfl (lv_at hl 0 rfl) ?_
              refine lv_iconst (v := 0) hx hb dX1_cafe_139 (by decide) ?_
              refine m_put E hK I 16 rfl rfl q1131 rfl rfl rfl dX1_cafe_140 (fun H locs I => ?_)
              refine lv_aload_n hx hb dX1_cafe_143 rfl (lv_at hl 0 rfl) ?_
              refine lv_iconst (v := 0) hx hb dX1_cafe_144 (by decide) ?_
              refine m_put E hK I 8 rfl rfl q1123 rfl rfl rfl dX1_cafe_145 (fun H locs I => ?_)
              refine lv_aload_n hx hb dX1_cafe_148 rfl (lv_at hl 0 rfl) ?_
              refine lv_iconst (v := 0) hx hb dX1_cafe_149 (by decide) ?_
              refine m_put E hK I 9 rfl rfl q1124 rfl rfl rfl dX1_cafe_150 (fun H locs I => ?_)
              refine lv_aload_n hx hb dX1_cafe_153 rfl (lv_at hl 0 rfl) ?_
              refine lv_iconst (v := 0) hx hb dX1_cafe_154 (by decide) ?_
              refine m_put (v := bI false) E hK I 10 rfl rfl q1125 rfl (bI_nar _) (bI_fit _) dX1_cafe_155 (fun H locs I => ?_)
              refine lv_aload_n hx hb dX1_cafe_158 rfl (lv_at hl 0 rfl) ?_
              refine lv_bipush (v := (-9)) hx hb dX1_cafe_159 (by decide) ?_
              refine m_put E hK I 11 rfl rfl q1126 rfl rfl rfl dX1_cafe_161 (fun H locs I => ?_)
              refine lv_aload_n hx hb dX1_cafe_164 rfl (lv_at hl 0 rfl) ?_
              refine m_get (v := .int (nI N)) E hK I 5 rfl q1120 (congrArg Value.int ((up_k (by decide) _ _ _ _).trans ((up_k (by decide) _ _ _ _).trans ((up_k (by decide) _ _ _ _).trans ((up_k (by decide) _ _ _ _).trans ((up_k (by decide) _ _ _ _).trans ((congrFun (cp3_5 _ _ _) 0).trans (up_s _ _ _ _)))))))) dX1_cafe_165 ?_
              subst hQ
              exact r_i E hlk hr I (Nat.le_refl 0) (Nat.le_refl 0) dX1_cafe_168 (⟨by simp only [c9, c18, Bool.and_self, if_true, hcj, c37]; simp [mCafeR, c70, ← hs1, hN], by simp only [c9, c18, Bool.and_self, if_true, hcj, c37]; simp [mCafeS, c70, ← hs1, hN, nI_clamp (show N < 2 ^ 31 by omega), mOpen]⟩)
            · intro t ht ih95 H locs ls I hl
              refine lv_iload hx hb dX1_cafe_95 (lv_at hl 1 rfl) ?_
              refine lv_aload_n hx hb dX1_cafe_97 rfl (lv_at hl 0 rfl) ?_
              refine m_get (v := .int (nI N)) E hK I 5 rfl q1120 (congrArg Value.int ((congrFun (cp3_5 _ _ _) 0).trans (up_s _ _ _ _))) dX1_cafe_98 ?_
              refine lv_icmp_ge (tgt := 138) hx hb dX1_cafe_101 (by decide) (fun c101 => absurd c101 (nI_ge ht (by omega))) (fun c101 => ?_)
              refine lv_aload_n hx hb dX1_cafe_104 rfl (lv_at hl 0 rfl) ?_
              refine m_get E hK I 6 rfl q1121 rfl dX1_cafe_105 ?_
              refine lv_iload hx hb dX1_cafe_108 (lv_at hl 1 rfl) ?_
              refine lv_aload_n hx hb dX1_cafe_110 rfl (lv_at hl 0 rfl) ?_
              refine m_get E hK I 14 rfl q1129 rfl dX1_cafe_111 ?_
              refine lv_iload hx hb dX1_cafe_114 (lv_at hl 1 rfl) ?_
              refine m_ald (i := t) E hK I 5 rfl rfl rfl dX1_cafe_116 (by simp only [mLn]; omega) ?_
              refine m_ast (i := t) E hK I 3 rfl rfl rfl dX1_cafe_117 (by simp only [mLn]; omega) (fun H locs I => ?_)
              refine lv_aload_n hx hb dX1_cafe_118 rfl (lv_at hl 0 rfl) ?_
              refine m_get E hK I 7 rfl q1122 rfl dX1_cafe_119 ?_
              refine lv_iload hx hb dX1_cafe_122 (lv_at hl 1 rfl) ?_
              refine lv_aload_n hx hb dX1_cafe_124 rfl (lv_at hl 0 rfl) ?_
              refine m_get E hK I 15 rfl q1130 rfl dX1_cafe_125 ?_
              refine lv_iload hx hb dX1_cafe_128 (lv_at hl 1 rfl) ?_
              refine m_ald (i := t) E hK I 6 rfl rfl rfl dX1_cafe_130 (by simp only [mLn]; omega) ?_
              refine m_ast (i := t) E hK I 4 rfl rfl rfl dX1_cafe_131 (by simp only [mLn]; omega) (fun H locs I => ?_)
              refine lv_iinc (v := nI (t + 1)) (lv' := [(7, .int (nI (t + 1))), (0, .ref o)]) hx hb dX1_cafe_132 hl (k := 1) rfl (nI_1 _) (by decide) rfl (fun ls hl => ?_)
              refine lv_goto (tgt := 95) hx hb dX1_cafe_135 (by decide) ?_
              exact ih95 _ _ ls (m_as I (cp3_s _ _)) (lv_as (lv_sub (l' := [(0, .ref o), (7, .int (nI (t + 1)))]) hl [1, 0] rfl) (rfl))
          exact L95 0 (Nat.zero_le _) _ _ ls (m_as I (cp3_0 _)) (lv_as (lv_sub (l' := [(0, .ref o), (7, .int 0)]) hl [3, 0] rfl) (rfl))
        · refine lv_bipush (v := (-100)) hx hb dX1_cafe_73 (by decide) ?_
          refine lv_aload_n hx hb dX1_cafe_75 rfl (lv_at hl 2 rfl) ?_
          refine m_get E hK I 12 rfl q1127 rfl dX1_cafe_76 ?_
          refine lv_iload hx hb dX1_cafe_79 (lv_at hl 0 rfl) ?_
          refine lv_isub hx hb dX1_cafe_81 ?_
          refine lv_isub hx hb dX1_cafe_82 ?_
          subst hQ
          exact r_i E hlk hr I (Nat.le_refl 0) (Nat.le_refl 0) dX1_cafe_83 (⟨by simp only [c9, c18, Bool.and_self, if_true, hcj, c37]; simp [mCafeR, c70, hcu, hs1], by simp only [c9, c18, Bool.and_self, if_true, hcj, c37]; simp [mCafeS, c70, hs1]⟩)
      · refine lv_aload_n hx hb dX1_cafe_40 rfl (lv_at hl 1 rfl) ?_
        refine lv_iload hx hb dX1_cafe_41 (lv_at hl 0 rfl) ?_
        refine m_ci E hK hA I (m_fails l D ty o ad (up σ 0 0 0) (mAg σ j a i n)) go_m_fails dc_m_fails ⟨Nat.le_of_ble_eq_true rfl, Nat.le_of_ble_eq_true rfl⟩ ⟨Nat.le_refl 0, Nat.le_refl 0⟩ hl.1 (Nat.le_of_ble_eq_true rfl) rfl dX1_cafe_43 (fun r43 σ43 H locs hp I => ?_)
        refine top_i (y := (-10) - (mAg σ j a i n)) hp.1 ?_
        have I := m_as I hp.2
        subst hQ
        exact r_i E hlk hr I (Nat.le_refl 0) (Nat.le_refl 0) dX1_cafe_46 (⟨by simp only [c9, c18, Bool.and_self, if_true, nI_clamp (show j < 2 ^ 31 by omega)]; simp [c37], by simp only [c9, c18, Bool.and_self, if_true, nI_clamp (show j < 2 ^ 31 by omega)]; simp [c37]⟩)
    · refine lv_bipush (v := (-2)) hx hb dX1_cafe_21 (by decide) ?_
      subst hQ
      exact r_i E hlk hr I (Nat.le_refl 0) (Nat.le_refl 0) dX1_cafe_23 (⟨by simp [c9, c18], by simp [c9, c18]⟩)
  · refine lv_iconst (v := (-1)) hx hb dX1_cafe_12 (by decide) ?_
    subst hQ
    exact r_i E hlk hr I (Nat.le_refl 0) (Nat.le_refl 0) dX1_cafe_13 (⟨by simp [c9], by simp [c9]⟩)
theorem dc_m_cafe : yX1_cafe.cls = RX1 ∧ yX1_cafe.cls ≠ "java/lang/invoke/MethodHandle" ∧ yX1_cafe.cls ≠ "java/lang/invoke/VarHandle" ∧ (parseMethodDescriptor yX1_cafe.desc).map (fun d => d.parameters.length) = some 4 := by decide +kernel
