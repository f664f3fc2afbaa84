set_option maxRecDepth 100000
set_option maxHeartbeats 4000000
def wi (v a b : Int32) : Bool := !decide (v < a) && !decide (b < v)
def mCafe (σ : Sg) : Bool := !decide (σ 5 0 ≤ 0)
def mGrp (σ : Sg) (g : Int32) : Bool := !decide (g < 0) && !decide (σ 16 0 ≤ g)
def mStay (σ : Sg) (g : Nat) : Int32 := if σ 17 g ≤ 0 then σ 20 g else 2 * σ 20 g
def mCoinOf (σ : Sg) (g : Nat) (x : Int32) : Int32 := σ 18 g * (5 + x / (if σ 17 g ≤ 0 then 10 else 20))
def cnt (p : Nat → Bool) : Nat → Nat
  | 0 => 0
  | n + 1 => cnt p n + (if p n then 1 else 0)
def mTak (σ : Sg) (t : Nat) : Bool := !decide (σ 30 t = -9)
theorem m_within (l : Launch) (v : Int32) (a : Int32) (b : Int32) : Pi l yX1_within cX1_within 3 .boolean (rmL 1) [.int v, .int a, .int b] (fun r => r = bI (wi v a b)) := by
  refine Pi.of (by decide) (Nat.le_of_ble_eq_true rfl) ?_
  intro p e s m below meth c ls args E hlk hr hl
  have hx := E.1
  have hb := E.2.1
  have hl : lv_has ls 3 [(0, .int v), (1, .int a), (2, .int b)] := hl
  refine lv_iload_n hx hb dX1_within_0 rfl (lv_at hl 0 rfl) ?_
  refine lv_iload_n hx hb dX1_within_1 rfl (lv_at hl 1 rfl) ?_
  refine lv_icmp_lt (tgt := 14) hx hb dX1_within_2 (by decide) (fun c2 => ?_) (fun c2 => ?_)
  · refine lv_iconst (v := 0) hx hb dX1_within_14 (by decide) ?_
    exact s_z (b := false) E hlk hr dX1_within_15 rfl (by simp [wi, c2])
  · refine lv_iload_n hx hb dX1_within_5 rfl (lv_at hl 0 rfl) ?_
    refine lv_iload_n hx hb dX1_within_6 rfl (lv_at hl 2 rfl) ?_
    refine lv_icmp_gt (tgt := 14) hx hb dX1_within_7 (by decide) (fun c7 => ?_) (fun c7 => ?_)
    · refine lv_iconst (v := 0) hx hb dX1_within_14 (by decide) ?_
      exact s_z (b := false) E hlk hr dX1_within_15 rfl (by simp [wi, c2, c7])
    · refine lv_iconst (v := 1) hx hb dX1_within_10 (by decide) ?_
      refine lv_goto (tgt := 15) hx hb dX1_within_11 (by decide) ?_
      exact s_z (b := true) E hlk hr dX1_within_15 rfl (by simp [wi, c2, c7])
theorem dc_m_within : yX1_within.cls ≠ "java/lang/invoke/MethodHandle" ∧ yX1_within.cls ≠ "java/lang/invoke/VarHandle" ∧ (parseMethodDescriptor yX1_within.desc).map (fun d => d.parameters.length) = some 3 := by decide +kernel
theorem go_m_within : GoodIn lw_all (va_wsS RX1 104 yX1_within (ws_ yX1_within cX1_within 3 (some .boolean))) := lw_S q1256 q1257 q75 q1258
theorem m_isSheet (l : Launch) (k : Int32) : Pi l yX1_isSheet cX1_isSheet 1 .boolean (rmL 2) [.int k] (fun r => r = bI (wi k 0 3)) := by
  refine Pi.of (by decide) (Nat.le_of_ble_eq_true rfl) ?_
  intro p e s m below meth c ls args E hlk hr hl
  have hx := E.1
  have hb := E.2.1
  have hl : lv_has ls 1 [(0, .int k)] := hl
  refine lv_iload_n hx hb dX1_isSheet_0 rfl (lv_at hl 0 rfl) ?_
  refine lv_iconst (v := 0) hx hb dX1_isSheet_1 (by decide) ?_
  refine lv_iconst (v := 3) hx hb dX1_isSheet_2 (by decide) ?_
  refine c_Si E (m_within l k 0 3) go_m_within ⟨rfl, rfl⟩ dc_m_within ⟨Nat.le_of_ble_eq_true rfl, Nat.le_of_ble_eq_true rfl⟩ ⟨Nat.le_refl 0, Nat.le_refl 0⟩ hl.1 (Nat.le_of_ble_eq_true rfl) rfl dX1_isSheet_3 (fun r3 hp => ?_)
  refine top_i (y := bI (wi k 0 3)) hp ?_
  exact s_z (b := (wi k 0 3)) E hlk hr dX1_isSheet_6 rfl (rfl)
theorem dc_m_isSheet : yX1_isSheet.cls ≠ "java/lang/invoke/MethodHandle" ∧ yX1_isSheet.cls ≠ "java/lang/invoke/VarHandle" ∧ (parseMethodDescriptor yX1_isSheet.desc).map (fun d => d.parameters.length) = some 1 := by decide +kernel
theorem go_m_isSheet : GoodIn lw_all (va_wsS RX1 114 yX1_isSheet (ws_ yX1_isSheet cX1_isSheet 1 (some .boolean))) := lw_S q1253 q1254 q75 q1255
theorem m_isSort (l : Launch) (k : Int32) : Pi l yX1_isSort cX1_isSort 1 .boolean (rmL 2) [.int k] (fun r => r = bI (wi k 0 2)) := by
  refine Pi.of (by decide) (Nat.le_of_ble_eq_true rfl) ?_
  intro p e s m below meth c ls args E hlk hr hl
  have hx := E.1
  have hb := E.2.1
  have hl : lv_has ls 1 [(0, .int k)] := hl
  refine lv_iload_n hx hb dX1_isSort_0 rfl (lv_at hl 0 rfl) ?_
  refine lv_iconst (v := 0) hx hb dX1_isSort_1 (by decide) ?_
  refine lv_iconst (v := 2) hx hb dX1_isSort_2 (by decide) ?_
  refine c_Si E (m_within l k 0 2) go_m_within ⟨rfl, rfl⟩ dc_m_within ⟨Nat.le_of_ble_eq_true rfl, Nat.le_of_ble_eq_true rfl⟩ ⟨Nat.le_refl 0, Nat.le_refl 0⟩ hl.1 (Nat.le_of_ble_eq_true rfl) rfl dX1_isSort_3 (fun r3 hp => ?_)
  refine top_i (y := bI (wi k 0 2)) hp ?_
  exact s_z (b := (wi k 0 2)) E hlk hr dX1_isSort_6 rfl (rfl)
theorem dc_m_isSort : yX1_isSort.cls ≠ "java/lang/invoke/MethodHandle" ∧ yX1_isSort.cls ≠ "java/lang/invoke/VarHandle" ∧ (parseMethodDescriptor yX1_isSort.desc).map (fun d => d.parameters.length) = some 1 := by decide +kernel
theorem go_m_isSort : GoodIn lw_all (va_wsS RX1 118 yX1_isSort (ws_ yX1_isSort cX1_isSort 1 (some .boolean))) := lw_S q1259 q1260 q75 q1261
theorem m_fails (l : Launch) (D : va_G) (ty : Nat → ClassId) (o : Nat) (ad : Nat → Nat) (σ : Sg) (f : Int32) : mKi l yX1_fails cX1_fails 2 .int 1 D ty o ad σ [.int f] (fun r τ => r = (-10) - f ∧ τ = up σ 0 0 f) := by
  refine Ki.of (by decide) (Nat.le_of_ble_eq_true rfl) ?_
  intro p e s m below meth c A ls args E hK hA hX hlk hr I hl
  have hx := E.1
  have hb := E.2.1
  have hl : lv_has ls 2 [(0, .ref o), (1, .int f)] := hl
  refine lv_aload_n hx hb dX1_fails_0 rfl (lv_at hl 0 rfl) ?_
  refine lv_iload_n hx hb dX1_fails_1 rfl (lv_at hl 1 rfl) ?_
  refine m_put E hK I 0 rfl rfl q1115 rfl rfl rfl dX1_fails_2 (fun H locs I => ?_)
  refine lv_bipush (v := (-10)) hx hb dX1_fails_5 (by decide) ?_
  refine lv_iload_n hx hb dX1_fails_7 rfl (lv_at hl 1 rfl) ?_
  refine lv_isub hx hb dX1_fails_8 ?_
  exact r_i E hlk hr I (Nat.le_refl 0) (Nat.le_refl 0) dX1_fails_9 (⟨rfl, rfl⟩)
theorem dc_m_fails : yX1_fails.cls = RX1 ∧ yX1_fails.cls ≠ "java/lang/invoke/MethodHandle" ∧ yX1_fails.cls ≠ "java/lang/invoke/VarHandle" ∧ (parseMethodDescriptor yX1_fails.desc).map (fun d => d.parameters.length) = some 1 := by decide +kernel
theorem go_m_fails : GoodIn lw_all (wsV RX1 125 RX1 yX1_fails (ws_ yX1_fails cX1_fails 2 (some .int))) := lw_V q1266 q1268 qs35 q75 q1269
theorem m_lost (l : Launch) (D : va_G) (ty : Nat → ClassId) (o : Nat) (ad : Nat → Nat) (σ : Sg) (f : Int32) : mKl l yX1_lost cX1_lost 2 1 D ty o ad σ [.int f] (fun r τ => r = (-9223372036854775808) ∧ τ = up σ 0 0 f) := by
  refine Kl.of (by decide) (Nat.le_of_ble_eq_true rfl) ?_
  intro p e s m below meth c A ls args E hK hA hX hlk hr I hl
  have hx := E.1
  have hb := E.2.1
  have hl : lv_has ls 2 [(0, .ref o), (1, .int f)] := hl
  refine lv_aload_n hx hb dX1_lost_0 rfl (lv_at hl 0 rfl) ?_
  refine lv_iload_n hx hb dX1_lost_1 rfl (lv_at hl 1 rfl) ?_
  refine m_put E hK I 0 rfl rfl q1115 rfl rfl rfl dX1_lost_2 (fun H locs I => ?_)
  refine lv_ldc2 (v := (-9223372036854775808)) hx hb E.2.2.2.1 (E.2.2.2.2 _ q1418) dX1_lost_5 ?_
  exact r_l E hlk hr I (Nat.le_refl 0) (Nat.le_refl 0) dX1_lost_8 (⟨rfl, rfl⟩)
theorem dc_m_lost : yX1_lost.cls = RX1 ∧ yX1_lost.cls ≠ "java/lang/invoke/MethodHandle" ∧ yX1_lost.cls ≠ "java/lang/invoke/VarHandle" ∧ (parseMethodDescriptor yX1_lost.desc).map (fun d => d.parameters.length) = some 1 := by decide +kernel
theorem go_m_lost : GoodIn lw_all (wsV RX1 285 RX1 yX1_lost (ws_ yX1_lost cX1_lost 2 (some .long))) := lw_V q1500 q1502 qs68 q75 q1503
theorem m_isCafe (l : Launch) (D : va_G) (ty : Nat → ClassId) (o : Nat) (ad : Nat → Nat) (σ : Sg) : mKi l yX1_isCafe cX1_isCafe 1 .boolean 1 D ty o ad σ [] (fun r τ => r = bI (mCafe σ) ∧ τ = σ) := by
  refine Ki.of (by decide) (Nat.le_of_ble_eq_true rfl) ?_
  intro p e s m below meth c A ls args E hK hA hX hlk hr I hl
  have hx := E.1
  have hb := E.2.1
  have hl : lv_has ls 1 [(0, .ref o)] := hl
  refine lv_aload_n hx hb dX1_isCafe_0 rfl (lv_at hl 0 rfl) ?_
  refine m_get E hK I 5 rfl q1120 rfl dX1_isCafe_1 ?_
  refine lv_if_le (tgt := 11) hx hb dX1_isCafe_4 (by decide) (fun c4 => ?_) (fun c4 => ?_)
  · refine lv_iconst (v := 0) hx hb dX1_isCafe_11 (by decide) ?_
    exact r_z (b := false) E hlk hr I (Nat.le_refl 0) (Nat.le_refl 0) dX1_isCafe_12 rfl (⟨by simp [mCafe, c4], rfl⟩)
  · refine lv_iconst (v := 1) hx hb dX1_isCafe_7 (by decide) ?_
    refine lv_goto (tgt := 12) hx hb dX1_isCafe_8 (by decide) ?_
    exact r_z (b := true) E hlk hr I (Nat.le_refl 0) (Nat.le_refl 0) dX1_isCafe_12 rfl (⟨by simp [mCafe, c4], rfl⟩)
theorem dc_m_isCafe : yX1_isCafe.cls = RX1 ∧ yX1_isCafe.cls ≠ "java/lang/invoke/MethodHandle" ∧ yX1_isCafe.cls ≠ "java/lang/invoke/VarHandle" ∧ (parseMethodDescriptor yX1_isCafe.desc).map (fun d => d.parameters.length) = some 0 := by decide +kernel
theorem go_m_isCafe : GoodIn lw_all (wsV RX1 152 RX1 yX1_isCafe (ws_ yX1_isCafe cX1_isCafe 1 (some .boolean))) := lw_V q1286 q1288 qs38 q75 q1289
theorem m_isGroup (l : Launch) (D : va_G) (ty : Nat → ClassId) (o : Nat) (ad : Nat → Nat) (σ : Sg) (g : Int32) : mKi l yX1_isGroup cX1_isGroup 2 .boolean 1 D ty o ad σ [.int g] (fun r τ => r = bI (mGrp σ g) ∧ τ = σ) := by
  refine Ki.of (by decide) (Nat.le_of_ble_eq_true rfl) ?_
  intro p e s m below meth c A ls args E hK hA hX hlk hr I hl
  have hx := E.1
  have hb := E.2.1
  have hl : lv_has ls 2 [(0, .ref o), (1, .int g)] := hl
  refine lv_iload_n hx hb dX1_isGroup_0 rfl (lv_at hl 1 rfl) ?_
  refine lv_if_lt (tgt := 16) hx hb dX1_isGroup_1 (by decide) (fun c1 => ?_) (fun c1 => ?_)
  · refine lv_iconst (v := 0) hx hb dX1_isGroup_16 (by decide) ?_
    exact r_z (b := false) E hlk hr I (Nat.le_refl 0) (Nat.le_refl 0) dX1_isGroup_17 rfl (⟨by simp [mGrp, c1], rfl⟩)
  · refine lv_iload_n hx hb dX1_isGroup_4 rfl (lv_at hl 1 rfl) ?_
    refine lv_aload_n hx hb dX1_isGroup_5 rfl (lv_at hl 0 rfl) ?_
    refine m_get E hK I 16 rfl q1131 rfl dX1_isGroup_6 ?_
    refine lv_icmp_ge (tgt := 16) hx hb dX1_isGroup_9 (by decide) (fun c9 => ?_) (fun c9 => ?_)
    · refine lv_iconst (v := 0) hx hb dX1_isGroup_16 (by decide) ?_
      exact r_z (b := false) E hlk hr I (Nat.le_refl 0) (Nat.le_refl 0) dX1_isGroup_17 rfl (⟨by simp [mGrp, c1, c9], rfl⟩)
    · refine lv_iconst (v := 1) hx hb dX1_isGroup_12 (by decide) ?_
      refine lv_goto (tgt := 17) hx hb dX1_isGroup_13 (by decide) ?_
      exact r_z (b := true) E hlk hr I (Nat.le_refl 0) (Nat.le_refl 0) dX1_isGroup_17 rfl (⟨by simp [mGrp, c1, c9], rfl⟩)
theorem dc_m_isGroup : yX1_isGroup.cls = RX1 ∧ yX1_isGroup.cls ≠ "java/lang/invoke/MethodHandle" ∧ yX1_isGroup.cls ≠ "java/lang/invoke/VarHandle" ∧ (parseMethodDescriptor yX1_isGroup.desc).map (fun d => d.parameters.length) = some 1 := by decide +kernel
theorem go_m_isGroup : GoodIn lw_all (wsV RX1 156 RX1 yX1_isGroup (ws_ yX1_isGroup cX1_isGroup 2 (some .boolean))) := lw_V q1310 q1312 qs39 q75 q1313
theorem m_stays (l : Launch) (D : va_G) (ty : Nat → ClassId) (o : Nat) (ad : Nat → Nat) (σ : Sg) (g : Nat) (hg : g < 8) : mKi l yX1_stays cX1_stays 2 .int 1 D ty o ad σ [.int (nI g)] (fun r τ => r = mStay σ g ∧ τ = σ) := by
  refine Ki.of (by decide) (Nat.le_of_ble_eq_true rfl) ?_
  intro p e s m below meth c A ls args E hK hA hX hlk hr I hl
  have hx := E.1
  have hb := E.2.1
  have hl : lv_has ls 2 [(0, .ref o), (1, .int (nI g))] := hl
  refine lv_aload_n hx hb dX1_stays_0 rfl (lv_at hl 0 rfl) ?_
  refine m_get E hK I 17 rfl q1132 rfl dX1_stays_1 ?_
  refine lv_iload_n hx hb dX1_stays_4 rfl (lv_at hl 1 rfl) ?_
  refine m_ald (i := g) E hK I 7 rfl rfl rfl dX1_stays_5 (by simp only [mLn]; omega) ?_
  refine lv_if_le (tgt := 20) hx hb dX1_stays_6 (by decide) (fun c6 => ?_) (fun c6 => ?_)
  · refine lv_aload_n hx hb dX1_stays_20 rfl (lv_at hl 0 rfl) ?_
    refine m_get E hK I 20 rfl q1135 rfl dX1_stays_21 ?_
    refine lv_iload_n hx hb dX1_stays_24 rfl (lv_at hl 1 rfl) ?_
    refine m_ald (i := g) E hK I 10 rfl rfl rfl dX1_stays_25 (by simp only [mLn]; omega) ?_
    exact r_i E hlk hr I (Nat.le_refl 0) (Nat.le_refl 0) dX1_stays_26 (⟨by simp [mStay, c6], rfl⟩)
  · refine lv_iconst (v := 2) hx hb dX1_stays_9 (by decide) ?_
    refine lv_aload_n hx hb dX1_stays_10 rfl (lv_at hl 0 rfl) ?_
    refine m_get E hK I 20 rfl q1135 rfl dX1_stays_11 ?_
    refine lv_iload_n hx hb dX1_stays_14 rfl (lv_at hl 1 rfl) ?_
    refine m_ald (i := g) E hK I 10 rfl rfl rfl dX1_stays_15 (by simp only [mLn]; omega) ?_
    refine lv_imul hx hb dX1_stays_16 ?_
    refine lv_goto (tgt := 26) hx hb dX1_stays_17 (by decide) ?_
    exact r_i E hlk hr I (Nat.le_refl 0) (Nat.le_refl 0) dX1_stays_26 (⟨by simp [mStay, c6], rfl⟩)
theorem dc_m_stays : yX1_stays.cls = RX1 ∧ yX1_stays.cls ≠ "java/lang/invoke/MethodHandle" ∧ yX1_stays.cls ≠ "java/lang/invoke/VarHandle" ∧ (parseMethodDescriptor yX1_stays.desc).map (fun d => d.parameters.length) = some 1 := by decide +kernel
theorem go_m_stays : GoodIn lw_all (wsV RX1 159 RX1 yX1_stays (ws_ yX1_stays cX1_stays 2 (some .int))) := lw_V q1314 q1316 qs40 q75 q1317
theorem m_coinOf (l : Launch) (D : va_G) (ty : Nat → ClassId) (o : Nat) (ad : Nat → Nat) (σ : Sg) (g : Nat) (x : Int32) (hg : g < 8) : mKi l yX1_coinOf cX1_coinOf 3 .int 1 D ty o ad σ [.int (nI g), .int x] (fun r τ => r = mCoinOf σ g x ∧ τ = σ) := by
  refine Ki.of (by decide) (Nat.le_of_ble_eq_true rfl) ?_
  intro p e s m below meth c A ls args E hK hA hX hlk hr I hl
  have hx := E.1
  have hb := E.2.1
  have hl : lv_has ls 3 [(0, .ref o), (1, .int (nI g)), (2, .int x)] := hl
  refine lv_aload_n hx hb dX1_coinOf_0 rfl (lv_at hl 0 rfl) ?_
  refine m_get E hK I 18 rfl q1133 rfl dX1_coinOf_1 ?_
  refine lv_iload_n hx hb dX1_coinOf_4 rfl (lv_at hl 1 rfl) ?_
  refine m_ald (i := g) E hK I 8 rfl rfl rfl dX1_coinOf_5 (by simp only [mLn]; omega) ?_
  refine lv_iconst (v := 5) hx hb dX1_coinOf_6 (by decide) ?_
  refine lv_iload_n hx hb dX1_coinOf_7 rfl (lv_at hl 2 rfl) ?_
  refine lv_aload_n hx hb dX1_coinOf_8 rfl (lv_at hl 0 rfl) ?_
  refine m_get E hK I 17 rfl q1132 rfl dX1_coinOf_9 ?_
  refine lv_iload_n hx hb dX1_coinOf_12 rfl (lv_at hl 1 rfl) ?_
  refine m_ald (i := g) E hK I 7 rfl rfl rfl dX1_coinOf_13 (by simp only [mLn]; omega) ?_
  refine lv_if_le (tgt := 22) hx hb dX1_coinOf_14 (by decide) (fun c14 => ?_) (fun c14 => ?_)
  · refine lv_bipush (v := 10) hx hb dX1_coinOf_22 (by decide) ?_
    refine lv_idiv hx hb dX1_coinOf_24 (by decide) ?_
    refine lv_iadd hx hb dX1_coinOf_25 ?_
    refine lv_imul hx hb dX1_coinOf_26 ?_
    exact r_i E hlk hr I (Nat.le_refl 0) (Nat.le_refl 0) dX1_coinOf_27 (⟨by simp [mCoinOf, c14], rfl⟩)
  · refine lv_bipush (v := 20) hx hb dX1_coinOf_17 (by decide) ?_
    refine lv_goto (tgt := 24) hx hb dX1_coinOf_19 (by decide) ?_
    refine lv_idiv hx hb dX1_coinOf_24 (by decide) ?_
    refine lv_iadd hx hb dX1_coinOf_25 ?_
    refine lv_imul hx hb dX1_coinOf_26 ?_
    exact r_i E hlk hr I (Nat.le_refl 0) (Nat.le_refl 0) dX1_coinOf_27 (⟨by simp [mCoinOf, c14], rfl⟩)
theorem dc_m_coinOf : yX1_coinOf.cls = RX1 ∧ yX1_coinOf.cls ≠ "java/lang/invoke/MethodHandle" ∧ yX1_coinOf.cls ≠ "java/lang/invoke/VarHandle" ∧ (parseMethodDescriptor yX1_coinOf.desc).map (fun d => d.parameters.length) = some 2 := by decide +kernel
theorem go_m_coinOf : GoodIn lw_all (wsV RX1 204 RX1 yX1_coinOf (ws_ yX1_coinOf cX1_coinOf 3 (some .int))) := lw_V q1346 q1348 qs47 q75 q1349
theorem m_rule (l : Launch) (D : va_G) (ty : Nat → ClassId) (o : Nat) (ad : Nat → Nat) (σ : Sg) (v : Int32) : mKi l yX1_rule cX1_rule 3 .int 2 D ty o ad σ [.int v] (fun r τ => r = (if wi v 0 2 then (if mCafe σ then σ 8 0 else (-3)) else (-2)) ∧ τ = if wi v 0 2 && mCafe σ then up σ 8 0 v else σ) := by
  refine Ki.of (by decide) (Nat.le_of_ble_eq_true rfl) ?_
  intro p e s m below meth c A ls args E hK hA hX hlk hr I hl
  have hx := E.1
  have hb := E.2.1
  have hl : lv_has ls 3 [(0, .ref o), (1, .int v)] := hl
  refine lv_iload_n hx hb dX1_rule_0 rfl (lv_at hl 1 rfl) ?_
  refine lv_iconst (v := 0) hx hb dX1_rule_1 (by decide) ?_
  refine lv_iconst (v := 2) hx hb dX1_rule_2 (by decide) ?_
  refine c_Si E (m_within l v 0 2) go_m_within ⟨rfl, rfl⟩ dc_m_within ⟨Nat.le_of_ble_eq_true rfl, Nat.le_of_ble_eq_true rfl⟩ ⟨Nat.le_refl 0, Nat.le_refl 0⟩ hl.1 (Nat.le_of_ble_eq_true rfl) rfl dX1_rule_3 (fun r3 hp => ?_)
  refine top_i (y := bI (wi v 0 2)) hp ?_
  refine b_ne (tgt := 12) hx hb dX1_rule_6 (by decide) (fun c6 => ?_) (fun c6 => ?_)
  · refine lv_aload_n hx hb dX1_rule_12 rfl (lv_at hl 0 rfl) ?_
    refine m_ci E hK hA I (m_isCafe l D ty o ad σ) go_m_isCafe dc_m_isCafe ⟨Nat.le_of_ble_eq_true rfl, Nat.le_of_ble_eq_true rfl⟩ ⟨Nat.le_refl 0, Nat.le_refl 0⟩ hl.1 (Nat.le_of_ble_eq_true rfl) rfl dX1_rule_13 (fun r13 σ13 H locs hp I => ?_)
    refine top_i (y := bI (mCafe σ)) hp.1 ?_
    have I := m_as I hp.2
    refine b_ne (tgt := 22) hx hb dX1_rule_16 (by decide) (fun c16 => ?_) (fun c16 => ?_)
    · refine lv_aload_n hx hb dX1_rule_22 rfl (lv_at hl 0 rfl) ?_
      refine m_get E hK I 8 rfl q1123 rfl dX1_rule_23 ?_
      refine lv_istore_n (lv' := [(2, .int (σ 8 0)), (0, .ref o), (1, .int v)]) hx hb dX1_rule_26 rfl hl (by decide) rfl (fun ls hl => ?_)
      refine lv_aload_n hx hb dX1_rule_27 rfl (lv_at hl 1 rfl) ?_
      refine lv_iload_n hx hb dX1_rule_28 rfl (lv_at hl 2 rfl) ?_
      refine m_put E hK I 8 rfl rfl q1123 rfl rfl rfl dX1_rule_29 (fun H locs I => ?_)
      refine lv_iload_n hx hb dX1_rule_32 rfl (lv_at hl 0 rfl) ?_
      exact r_i E hlk hr I (Nat.le_refl 0) (Nat.le_refl 0) dX1_rule_33 (⟨by simp [c6, c16], by simp [c6, c16]⟩)
    · refine lv_bipush (v := (-3)) hx hb dX1_rule_19 (by decide) ?_
      exact r_i E hlk hr I (Nat.le_refl 0) (Nat.le_refl 0) dX1_rule_21 (⟨by simp [c6, c16], by simp [c6, c16]⟩)
  · refine lv_bipush (v := (-2)) hx hb dX1_rule_9 (by decide) ?_
    exact r_i E hlk hr I (Nat.le_refl 0) (Nat.le_refl 0) dX1_rule_11 (⟨by simp [c6], by simp [c6]⟩)
theorem dc_m_rule : yX1_rule.cls = RX1 ∧ yX1_rule.cls ≠ "java/lang/invoke/MethodHandle" ∧ yX1_rule.cls ≠ "java/lang/invoke/VarHandle" ∧ (parseMethodDescriptor yX1_rule.desc).map (fun d => d.parameters.length) = some 1 := by decide +kernel
theorem m_patience (l : Launch) (D : va_G) (ty : Nat → ClassId) (o : Nat) (ad : Nat → Nat) (σ : Sg) (v : Int32) : mKi l yX1_patience cX1_patience 3 .int 2 D ty o ad σ [.int v] (fun r τ => r = (if wi v 0 30 then (if mCafe σ then σ 9 0 else (-3)) else (-2)) ∧ τ = if wi v 0 30 && mCafe σ then up σ 9 0 v else σ) := by
  refine Ki.of (by decide) (Nat.le_of_ble_eq_true rfl) ?_
  intro p e s m below meth c A ls args E hK hA hX hlk hr I hl
  have hx := E.1
  have hb := E.2.1
  have hl : lv_has ls 3 [(0, .ref o), (1, .int v)] := hl
  refine lv_iload_n hx hb dX1_patience_0 rfl (lv_at hl 1 rfl) ?_
  refine lv_iconst (v := 0) hx hb dX1_patience_1 (by decide) ?_
  refine lv_bipush (v := 30) hx hb dX1_patience_2 (by decide) ?_
  refine c_Si E (m_within l v 0 30) go_m_within ⟨rfl, rfl⟩ dc_m_within ⟨Nat.le_of_ble_eq_true rfl, Nat.le_of_ble_eq_true rfl⟩ ⟨Nat.le_refl 0, Nat.le_refl 0⟩ hl.1 (Nat.le_of_ble_eq_true rfl) rfl dX1_patience_4 (fun r4 hp => ?_)
  refine top_i (y := bI (wi v 0 30)) hp ?_
  refine b_ne (tgt := 13) hx hb dX1_patience_7 (by decide) (fun c7 => ?_) (fun c7 => ?_)
  · refine lv_aload_n hx hb dX1_patience_13 rfl (lv_at hl 0 rfl) ?_
    refine m_ci E hK hA I (m_isCafe l D ty o ad σ) go_m_isCafe dc_m_isCafe ⟨Nat.le_of_ble_eq_true rfl, Nat.le_of_ble_eq_true rfl⟩ ⟨Nat.le_refl 0, Nat.le_refl 0⟩ hl.1 (Nat.le_of_ble_eq_true rfl) rfl dX1_patience_14 (fun r14 σ14 H locs hp I => ?_)
    refine top_i (y := bI (mCafe σ)) hp.1 ?_
    have I := m_as I hp.2
    refine b_ne (tgt := 23) hx hb dX1_patience_17 (by decide) (fun c17 => ?_) (fun c17 => ?_)
    · refine lv_aload_n hx hb dX1_patience_23 rfl (lv_at hl 0 rfl) ?_
      refine m_get E hK I 9 rfl q1124 rfl dX1_patience_24 ?_
      refine lv_istore_n (lv' := [(2, .int (σ 9 0)), (0, .ref o), (1, .int v)]) hx hb dX1_patience_27 rfl hl (by decide) rfl (fun ls hl => ?_)
      refine lv_aload_n hx hb dX1_patience_28 rfl (lv_at hl 1 rfl) ?_
      refine lv_iload_n hx hb dX1_patience_29 rfl (lv_at hl 2 rfl) ?_
      refine m_put E hK I 9 rfl rfl q1124 rfl rfl rfl dX1_patience_30 (fun H locs I => ?_)
      refine lv_iload_n hx hb dX1_patience_33 rfl (lv_at hl 0 rfl) ?_
      exact r_i E hlk hr I (Nat.le_refl 0) (Nat.le_refl 0) dX1_patience_34 (⟨by simp [c7, c17], by simp [c7, c17]⟩)
    · refine lv_bipush (v := (-3)) hx hb dX1_patience_20 (by decide) ?_
      exact r_i E hlk hr I (Nat.le_refl 0) (Nat.le_refl 0) dX1_patience_22 (⟨by simp [c7, c17], by simp [c7, c17]⟩)
  · refine lv_bipush (v := (-2)) hx hb dX1_patience_10 (by decide) ?_
    exact r_i E hlk hr I (Nat.le_refl 0) (Nat.le_refl 0) dX1_patience_12 (⟨by simp [c7], by simp [c7]⟩)
theorem dc_m_patience : yX1_patience.cls = RX1 ∧ yX1_patience.cls ≠ "java/lang/invoke/MethodHandle" ∧ yX1_patience.cls ≠ "java/lang/invoke/VarHandle" ∧ (parseMethodDescriptor yX1_patience.desc).map (fun d => d.parameters.length) = some 1 := by decide +kernel
theorem m_joining (l : Launch) (D : va_G) (ty : Nat → ClassId) (o : Nat) (ad : Nat → Nat) (σ : Sg) (b : Bool) : mKi l yX1_joining cX1_joining 3 .int 2 D ty o ad σ [.int (bI b)] (fun r τ => r = (if mCafe σ then (if σ 10 0 = bI b then 0 else 1) else (-3)) ∧ τ = if mCafe σ then up σ 10 0 (bI b) else σ) := by
  refine Ki.of (by decide) (Nat.le_of_ble_eq_true rfl) ?_
  intro p e s m below meth c A ls args E hK hA hX hlk hr I hl
  have hx := E.1
  have hb := E.2.1
  have hl : lv_has ls 3 [(0, .ref o), (1, .int (bI b))] := hl
  refine lv_aload_n hx hb dX1_joining_0 rfl (lv_at hl 0 rfl) ?_
  refine m_ci E hK hA I (m_isCafe l D ty o ad σ) go_m_isCafe dc_m_isCafe ⟨Nat.le_of_ble_eq_true rfl, Nat.le_of_ble_eq_true rfl⟩ ⟨Nat.le_refl 0, Nat.le_refl 0⟩ hl.1 (Nat.le_of_ble_eq_true rfl) rfl dX1_joining_1 (fun r1 σ1 H locs hp I => ?_)
  refine top_i (y := bI (mCafe σ)) hp.1 ?_
  have I := m_as I hp.2
  refine b_ne (tgt := 10) hx hb dX1_joining_4 (by decide) (fun c4 => ?_) (fun c4 => ?_)
  · refine lv_aload_n hx hb dX1_joining_10 rfl (lv_at hl 0 rfl) ?_
    refine m_get E hK I 10 rfl q1125 rfl dX1_joining_11 ?_
    refine lv_istore_n (lv' := [(2, .int (σ 10 0)), (0, .ref o), (1, .int (bI b))]) hx hb dX1_joining_14 rfl hl (by decide) rfl (fun ls hl => ?_)
    refine lv_aload_n hx hb dX1_joining_15 rfl (lv_at hl 1 rfl) ?_
    refine lv_iload_n hx hb dX1_joining_16 rfl (lv_at hl 2 rfl) ?_
    refine m_put (v := bI b) E hK I 10 rfl rfl q1125 rfl (bI_nar _) (bI_fit _) dX1_joining_17 (fun H locs I => ?_)
    refine lv_iload_n hx hb dX1_joining_20 rfl (lv_at hl 0 rfl) ?_
    refine lv_iload_n hx hb dX1_joining_21 rfl (lv_at hl 2 rfl) ?_
    refine lv_icmp_ne (tgt := 29) hx hb dX1_joining_22 (by decide) (fun c22 => ?_) (fun c22 => ?_)
    · refine lv_iconst (v := 1) hx hb dX1_joining_29 (by decide) ?_
      exact r_i E hlk hr I (Nat.le_refl 0) (Nat.le_refl 0) dX1_joining_30 (⟨by simp [c4, c22], by simp [c4, c22]⟩)
    · refine lv_iconst (v := 0) hx hb dX1_joining_25 (by decide) ?_
      refine lv_goto (tgt := 30) hx hb dX1_joining_26 (by decide) ?_
      exact r_i E hlk hr I (Nat.le_refl 0) (Nat.le_refl 0) dX1_joining_30 (⟨by simp [c4, c22], by simp [c4, c22]⟩)
  · refine lv_bipush (v := (-3)) hx hb dX1_joining_7 (by decide) ?_
    exact r_i E hlk hr I (Nat.le_refl 0) (Nat.le_refl 0) dX1_joining_9 (⟨by simp [c4], by simp [c4]⟩)
theorem dc_m_joining : yX1_joining.cls = RX1 ∧ yX1_joining.cls ≠ "java/lang/invoke/MethodHandle" ∧ yX1_joining.cls ≠ "java/lang/invoke/VarHandle" ∧ (parseMethodDescriptor yX1_joining.desc).map (fun d => d.parameters.length) = some 1 := by decide +kernel
theorem m_rain (l : Launch) (D : va_G) (ty : Nat → ClassId) (o : Nat) (ad : Nat → Nat) (σ : Sg) (v : Int32) : mKi l yX1_rain cX1_rain 2 .int 2 D ty o ad σ [.int v] (fun r τ => r = (if v = (-9) ∨ wi v 0 399 then (if mCafe σ then 1 else (-3)) else (-2)) ∧ τ = if (v = (-9) ∨ wi v 0 399) ∧ mCafe σ then up σ 11 0 v else σ) := by
  refine Ki.of (by decide) (Nat.le_of_ble_eq_true rfl) ?_
  intro p e s m below meth c A ls args E hK hA hX hlk hr I hl
  have hx := E.1
  have hb := E.2.1
  have hl : lv_has ls 2 [(0, .ref o), (1, .int v)] := hl
  refine lv_iload_n hx hb dX1_rain_0 rfl (lv_at hl 1 rfl) ?_
  refine lv_bipush (v := (-9)) hx hb dX1_rain_1 (by decide) ?_
  refine lv_icmp_eq (tgt := 20) hx hb dX1_rain_3 (by decide) (fun c3 => ?_) (fun c3 => ?_)
  · refine lv_aload_n hx hb dX1_rain_20 rfl (lv_at hl 0 rfl) ?_
    refine m_ci E hK hA I (m_isCafe l D ty o ad σ) go_m_isCafe dc_m_isCafe ⟨Nat.le_of_ble_eq_true rfl, Nat.le_of_ble_eq_true rfl⟩ ⟨Nat.le_refl 0, Nat.le_refl 0⟩ hl.1 (Nat.le_of_ble_eq_true rfl) rfl dX1_rain_21 (fun r21 σ21 H locs hp I => ?_)
    refine top_i (y := bI (mCafe σ)) hp.1 ?_
    have I := m_as I hp.2
    refine b_ne (tgt := 30) hx hb dX1_rain_24 (by decide) (fun c24 => ?_) (fun c24 => ?_)
    · refine lv_aload_n hx hb dX1_rain_30 rfl (lv_at hl 0 rfl) ?_
      refine lv_iload_n hx hb dX1_rain_31 rfl (lv_at hl 1 rfl) ?_
      refine m_put E hK I 11 rfl rfl q1126 rfl rfl rfl dX1_rain_32 (fun H locs I => ?_)
      refine lv_iconst (v := 1) hx hb dX1_rain_35 (by decide) ?_
      exact r_i E hlk hr I (Nat.le_refl 0) (Nat.le_refl 0) dX1_rain_36 (⟨by simp [c3, c24], by simp [c3, c24]⟩)
    · refine lv_bipush (v := (-3)) hx hb dX1_rain_27 (by decide) ?_
      exact r_i E hlk hr I (Nat.le_refl 0) (Nat.le_refl 0) dX1_rain_29 (⟨by simp [c3, c24], by simp [c3, c24]⟩)
  · refine lv_iload_n hx hb dX1_rain_6 rfl (lv_at hl 1 rfl) ?_
    refine lv_iconst (v := 0) hx hb dX1_rain_7 (by decide) ?_
    refine lv_sipush (v := 399) hx hb dX1_rain_8 (by decide) ?_
    refine c_Si E (m_within l v 0 399) go_m_within ⟨rfl, rfl⟩ dc_m_within ⟨Nat.le_of_ble_eq_true rfl, Nat.le_of_ble_eq_true rfl⟩ ⟨Nat.le_refl 0, Nat.le_refl 0⟩ hl.1 (Nat.le_of_ble_eq_true rfl) rfl dX1_rain_11 (fun r11 hp => ?_)
    refine top_i (y := bI (wi v 0 399)) hp ?_
    refine b_ne (tgt := 20) hx hb dX1_rain_14 (by decide) (fun c14 => ?_) (fun c14 => ?_)
    · refine lv_aload_n hx hb dX1_rain_20 rfl (lv_at hl 0 rfl) ?_
      refine m_ci E hK hA I (m_isCafe l D ty o ad σ) go_m_isCafe dc_m_isCafe ⟨Nat.le_of_ble_eq_true rfl, Nat.le_of_ble_eq_true rfl⟩ ⟨Nat.le_refl 0, Nat.le_refl 0⟩ hl.1 (Nat.le_of_ble_eq_true rfl) rfl dX1_rain_21 (fun r21 σ21 H locs hp I => ?_)
      refine top_i (y := bI (mCafe σ)) hp.1 ?_
      have I := m_as I hp.2
      refine b_ne (tgt := 30) hx hb dX1_rain_24 (by decide) (fun c24 => ?_) (fun c24 => ?_)
      · refine lv_aload_n hx hb dX1_rain_30 rfl (lv_at hl 0 rfl) ?_
        refine lv_iload_n hx hb dX1_rain_31 rfl (lv_at hl 1 rfl) ?_
        refine m_put E hK I 11 rfl rfl q1126 rfl rfl rfl dX1_rain_32 (fun H locs I => ?_)
        refine lv_iconst (v := 1) hx hb dX1_rain_35 (by decide) ?_
        exact r_i E hlk hr I (Nat.le_refl 0) (Nat.le_refl 0) dX1_rain_36 (⟨by simp [c3, c14, c24], by simp [c3, c14, c24]⟩)
      · refine lv_bipush (v := (-3)) hx hb dX1_rain_27 (by decide) ?_
        exact r_i E hlk hr I (Nat.le_refl 0) (Nat.le_refl 0) dX1_rain_29 (⟨by simp [c3, c14, c24], by simp [c3, c14, c24]⟩)
    · refine lv_bipush (v := (-2)) hx hb dX1_rain_17 (by decide) ?_
      exact r_i E hlk hr I (Nat.le_refl 0) (Nat.le_refl 0) dX1_rain_19 (⟨by simp [c3, c14], by simp [c3, c14]⟩)
theorem dc_m_rain : yX1_rain.cls = RX1 ∧ yX1_rain.cls ≠ "java/lang/invoke/MethodHandle" ∧ yX1_rain.cls ≠ "java/lang/invoke/VarHandle" ∧ (parseMethodDescriptor yX1_rain.desc).map (fun d => d.parameters.length) = some 1 := by decide +kernel
theorem m_manyTaken (l : Launch) (D : va_G) (ty : Nat → ClassId) (o : Nat) (ad : Nat → Nat) (σ : Sg) (T : Nat) (hT : T ≤ 6) (h23 : σ 23 0 = nI T) : mKi l yX1_manyTaken cX1_manyTaken 3 .int 1 D ty o ad σ [] (fun r τ => r = nI (cnt (mTak σ) T) ∧ τ = σ) := by
  refine Ki.of (by decide) (Nat.le_of_ble_eq_true rfl) ?_
  intro p e s m below meth c A ls args E hK hA hX hlk hr I hl
  have hx := E.1
  have hb := E.2.1
  have hl : lv_has ls 3 [(0, .ref o)] := hl
  refine nameQ (fun Q hQ => ?_)
  refine lv_iconst (v := 0) hx hb dX1_manyTaken_0 (by decide) ?_
  refine lv_istore_n (lv' := [(1, .int 0), (0, .ref o)]) hx hb dX1_manyTaken_1 rfl hl (by decide) rfl (fun ls hl => ?_)
  refine lv_iconst (v := 0) hx hb dX1_manyTaken_2 (by decide) ?_
  refine lv_istore_n (lv' := [(2, .int 0), (1, .int 0), (0, .ref o)]) hx hb dX1_manyTaken_3 rfl hl (by decide) rfl (fun ls hl => ?_)
  have L4 : ∀ i, i ≤ T → ∀ (H : Heap) (locs : List Loc) (ls : Array Slot), gI s D A (mW ty o ad σ) H locs → lv_has ls 3 [(0, .ref o), (1, .int (nI (cnt (mTak σ) i))), (2, .int (nI i))] → W p l e (rmL 1) s m args below meth c H locs 0 0 Q (F0 m 4 ls []) := by
    refine dn_ind T ?_ ?_
    · intro H locs ls I hl
      refine lv_iload_n hx hb dX1_manyTaken_4 rfl (lv_at hl 2 rfl) ?_
      refine lv_aload_n hx hb dX1_manyTaken_5 rfl (lv_at hl 0 rfl) ?_
      refine m_get (v := .int (nI T)) E hK I 23 rfl q1138 (congrArg Value.int (h23)) dX1_manyTaken_6 ?_
      refine lv_icmp_ge (tgt := 37) hx hb dX1_manyTaken_9 (by decide) (fun c9 => ?_) (fun c9 => absurd c9 (fun h => h (Int32.le_refl _)))
      refine lv_iload_n hx hb dX1_manyTaken_37 rfl (lv_at hl 1 rfl) ?_
      subst hQ
      exact r_i E hlk hr I (Nat.le_refl 0) (Nat.le_refl 0) dX1_manyTaken_38 (⟨rfl, rfl⟩)
    · intro i hi ih4 H locs ls I hl
      refine lv_iload_n hx hb dX1_manyTaken_4 rfl (lv_at hl 2 rfl) ?_
      refine lv_aload_n hx hb dX1_manyTaken_5 rfl (lv_at hl 0 rfl) ?_
      refine m_get (v := .int (nI T)) E hK I 23 rfl q1138 (congrArg Value.int (h23)) dX1_manyTaken_6 ?_
      refine lv_icmp_ge (tgt := 37) hx hb dX1_manyTaken_9 (by decide) (fun c9 => absurd c9 (nI_ge hi (by omega))) (fun c9 => ?_)
      refine lv_iload_n hx hb dX1_manyTaken_12 rfl (lv_at hl 1 rfl) ?_
      refine lv_aload_n hx hb dX1_manyTaken_13 rfl (lv_at hl 0 rfl) ?_
      refine m_get E hK I 30 rfl q1145 rfl dX1_manyTaken_14 ?_
      refine lv_iload_n hx hb dX1_manyTaken_17 rfl (lv_at hl 2 rfl) ?_
      refine m_ald (i := i) E hK I 15 rfl rfl rfl dX1_manyTaken_18 (by simp only [mLn]; omega) ?_
      refine lv_bipush (v := (-9)) hx hb dX1_manyTaken_19 (by decide) ?_
      refine lv_icmp_ne (tgt := 28) hx hb dX1_manyTaken_21 (by decide) (fun c21 => ?_) (fun c21 => ?_)
      · refine lv_iconst (v := 1) hx hb dX1_manyTaken_28 (by decide) ?_
        refine lv_iadd hx hb dX1_manyTaken_29 ?_
        refine lv_istore_n (lv' := [(1, .int ((nI (cnt (mTak σ) i)) + 1)), (0, .ref o), (2, .int (nI i))]) hx hb dX1_manyTaken_30 rfl hl (by decide) rfl (fun ls hl => ?_)
        refine lv_iinc (v := nI (i + 1)) (lv' := [(2, .int (nI (i + 1))), (1, .int ((nI (cnt (mTak σ) i)) + 1)), (0, .ref o)]) hx hb dX1_manyTaken_31 hl (k := 2) rfl (nI_1 _) (by decide) rfl (fun ls hl => ?_)
        refine lv_goto (tgt := 4) hx hb dX1_manyTaken_34 (by decide) ?_
        exact ih4 _ _ ls (m_as I (rfl)) (lv_as (lv_sub (l' := [(0, .ref o), (1, .int ((nI (cnt (mTak σ) i)) + 1)), (2, .int (nI (i + 1)))]) hl [2, 1, 0] rfl) (by simp [cnt, mTak, nI_succ, c9, c21]))
      · refine lv_iconst (v := 0) hx hb dX1_manyTaken_24 (by decide) ?_
        refine lv_goto (tgt := 29) hx hb dX1_manyTaken_25 (by decide) ?_
        refine lv_iadd hx hb dX1_manyTaken_29 ?_
        refine lv_istore_n (lv' := [(1, .int ((nI (cnt (mTak σ) i)) + 0)), (0, .ref o), (2, .int (nI i))]) hx hb dX1_manyTaken_30 rfl hl (by decide) rfl (fun ls hl => ?_)
        refine lv_iinc (v := nI (i + 1)) (lv' := [(2, .int (nI (i + 1))), (1, .int ((nI (cnt (mTak σ) i)) + 0)), (0, .ref o)]) hx hb dX1_manyTaken_31 hl (k := 2) rfl (nI_1 _) (by decide) rfl (fun ls hl => ?_)
        refine lv_goto (tgt := 4) hx hb dX1_manyTaken_34 (by decide) ?_
        exact ih4 _ _ ls (m_as I (rfl)) (lv_as (lv_sub (l' := [(0, .ref o), (1, .int ((nI (cnt (mTak σ) i)) + 0)), (2, .int (nI (i + 1)))]) hl [2, 1, 0] rfl) (by simp [cnt, mTak, nI_succ, c9, c21]))
  exact L4 0 (Nat.zero_le _) _ _ ls (m_as I (rfl)) (lv_as (lv_sub (l' := [(0, .ref o), (1, .int 0), (2, .int 0)]) hl [2, 1, 0] rfl) (rfl))
theorem dc_m_manyTaken : yX1_manyTaken.cls = RX1 ∧ yX1_manyTaken.cls ≠ "java/lang/invoke/MethodHandle" ∧ yX1_manyTaken.cls ≠ "java/lang/invoke/VarHandle" ∧ (parseMethodDescriptor yX1_manyTaken.desc).map (fun d => d.parameters.length) = some 0 := by decide +kernel
theorem go_m_manyTaken : GoodIn lw_all (wsV RX1 181 RX1 yX1_manyTaken (ws_ yX1_manyTaken cX1_manyTaken 3 (some .int))) := lw_V q1398 q1400 qs60 q75 q1401
