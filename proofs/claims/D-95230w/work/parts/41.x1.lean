set_option maxRecDepth 100000
set_option maxHeartbeats 4000000
theorem l32_lt (a b : Int32) : a.toInt64 < b.toInt64 ↔ a < b := by
  rw [Int64.lt_iff_toInt_lt, Int32.lt_iff_toInt_lt, Int32.toInt_toInt64, Int32.toInt_toInt64]
theorem x_in (l : Launch) (v : Int32) (a : Int32) (b : Int32) : Pi l yX0_in cX0_in 6 .boolean (rmL 1) [.long (v).toInt64, .long (a).toInt64, .long (b).toInt64] (fun r => r = bI (wi v a b)) := by
  refine Pi.of (by decide) (Nat.le_of_ble_eq_true rfl) ?_
  intro p e s m below meth c ls args E hlk hr hl
  have hx := E.1
  have hb := E.2.1
  have hl : lv_has ls 6 [(0, .long ((v).toInt64)), (2, .long ((a).toInt64)), (4, .long ((b).toInt64))] := hl
  refine lv_lload_n hx hb dX0_in_0 rfl (lv_at hl 0 rfl) ?_
  refine lv_lload_n hx hb dX0_in_1 rfl (lv_at hl 1 rfl) ?_
  refine l_lt (tgt := 17) hx hb dX0_in_2 dX0_in_3 (by decide) (fun c3 => ?_) (fun c3 => ?_)
  · refine lv_iconst (v := 0) hx hb dX0_in_17 (by decide) ?_
    exact s_z (b := false) E hlk hr dX0_in_18 rfl (by simp only [l32_lt] at c3; simp [wi, c3])
  · refine lv_lload_n hx hb dX0_in_6 rfl (lv_at hl 0 rfl) ?_
    refine lv_lload hx hb dX0_in_7 (lv_at hl 2 rfl) ?_
    refine l_gt (tgt := 17) hx hb dX0_in_9 dX0_in_10 (by decide) (fun c10 => ?_) (fun c10 => ?_)
    · refine lv_iconst (v := 0) hx hb dX0_in_17 (by decide) ?_
      exact s_z (b := false) E hlk hr dX0_in_18 rfl (by simp only [l32_lt] at c3 c10; simp [wi, c3, c10])
    · refine lv_iconst (v := 1) hx hb dX0_in_13 (by decide) ?_
      refine lv_goto (tgt := 18) hx hb dX0_in_14 (by decide) ?_
      exact s_z (b := true) E hlk hr dX0_in_18 rfl (by simp only [l32_lt] at c3 c10; simp [wi, c3, c10])
theorem dc_x_in : yX0_in.cls ≠ "java/lang/invoke/MethodHandle" ∧ yX0_in.cls ≠ "java/lang/invoke/VarHandle" ∧ (parseMethodDescriptor yX0_in.desc).map (fun d => d.parameters.length) = some 3 := by decide +kernel
theorem go_x_in : GoodIn lw_all (va_wsS RX0 81 yX0_in (ws_ yX0_in cX0_in 6 (some .boolean))) := lw_S q221 q222 q71 q223
theorem x_noTable (l : Launch) (D : va_G) (ty : Nat → ClassId) (o : Nat) (ad : Nat → Nat) (ex : va_W) (Cx : (Nat → Prop) → State → Prop) (hC : CxOk Cx) (σ : Sg) (v : Int32) (T : Nat) (hT : T ≤ 6) (h0 : σ 0 0 = nI T) : xKi l yX0_noTable cX0_noTable 2 .boolean 2 D ty Cx o ad ex σ [.int v] (fun r τ => r = bI (!wi v 0 (nI T - 1)) ∧ τ = σ) := by
  refine Ki.of (by decide) (Nat.le_of_ble_eq_true rfl) ?_
  intro p e s m below meth c A ls args E hK hA hX hlk hr I hl
  have hx := E.1
  have hb := E.2.1
  have hl : lv_has ls 2 [(0, .ref o), (1, .int v)] := hl
  refine lv_iload_n hx hb dX0_noTable_0 rfl (lv_at hl 1 rfl) ?_
  refine lv_i2l hx hb dX0_noTable_1 rfl ?_
  refine lv_lconst (v := 0) hx hb dX0_noTable_2 (by decide) ?_
  refine top_l (y := (0 : Int32).toInt64) (by decide) ?_
  refine lv_aload_n hx hb dX0_noTable_3 rfl (lv_at hl 0 rfl) ?_
  refine x_get (v := .int (nI T)) E hK I 0 rfl q138 (congrArg Value.int (h0)) dX0_noTable_4 ?_
  refine lv_iconst (v := 1) hx hb dX0_noTable_7 (by decide) ?_
  refine lv_isub hx hb dX0_noTable_8 ?_
  refine lv_i2l hx hb dX0_noTable_9 rfl ?_
  refine c_Si E (x_in l v 0 ((nI T) - 1)) go_x_in ⟨rfl, rfl⟩ dc_x_in ⟨Nat.le_of_ble_eq_true rfl, Nat.le_of_ble_eq_true rfl⟩ ⟨Nat.le_refl 0, Nat.le_refl 0⟩ hl.1 (Nat.le_of_ble_eq_true rfl) rfl dX0_noTable_10 (fun r10 hp => ?_)
  refine top_i (y := bI (wi v 0 ((nI T) - 1))) hp ?_
  refine b_ne (tgt := 20) hx hb dX0_noTable_13 (by decide) (fun c13 => ?_) (fun c13 => ?_)
  · refine lv_iconst (v := 0) hx hb dX0_noTable_20 (by decide) ?_
    exact r_z (b := false) E hlk hr I (Nat.le_refl 0) (Nat.le_refl 0) dX0_noTable_21 rfl (⟨by simp [c13], rfl⟩)
  · refine lv_iconst (v := 1) hx hb dX0_noTable_16 (by decide) ?_
    refine lv_goto (tgt := 21) hx hb dX0_noTable_17 (by decide) ?_
    exact r_z (b := true) E hlk hr I (Nat.le_refl 0) (Nat.le_refl 0) dX0_noTable_21 rfl (⟨by simp [c13], rfl⟩)
theorem dc_x_noTable : yX0_noTable.cls = RX0 ∧ yX0_noTable.cls ≠ "java/lang/invoke/MethodHandle" ∧ yX0_noTable.cls ≠ "java/lang/invoke/VarHandle" ∧ (parseMethodDescriptor yX0_noTable.desc).map (fun d => d.parameters.length) = some 1 := by decide +kernel
theorem go_x_noTable : GoodIn lw_all (wsV RX0 108 RX0 yX0_noTable (ws_ yX0_noTable cX0_noTable 2 (some .boolean))) := lw_V q217 q219 qs0 q71 q220
def xOfT (s : Sg) (j : Nat) (w : Int32) : Int32 := if w = 0 then s 5 j else if w = 1 then s 6 j else (-2)
theorem x_ofTable (l : Launch) (D : va_G) (ty : Nat → ClassId) (o : Nat) (ad : Nat → Nat) (ex : va_W) (Cx : (Nat → Prop) → State → Prop) (hC : CxOk Cx) (σ : Sg) (v : Int32) (w : Int32) (T : Nat) (hT : T ≤ 6) (h0 : σ 0 0 = nI T) : xKi l yX0_ofTable cX0_ofTable 3 .int 3 D ty Cx o ad ex σ [.int v, .int w] (fun r τ => r = (if wi v 0 (nI T - 1) then xOfT σ (v).toNatClampNeg w else (-1)) ∧ τ = σ) := by
  refine Ki.of (by decide) (Nat.le_of_ble_eq_true rfl) ?_
  intro p e s m below meth c A ls args E hK hA hX hlk hr I hl
  have hx := E.1
  have hb := E.2.1
  have hl : lv_has ls 3 [(0, .ref o), (1, .int v), (2, .int w)] := hl
  refine lv_aload_n hx hb dX0_ofTable_0 rfl (lv_at hl 0 rfl) ?_
  refine lv_iload_n hx hb dX0_ofTable_1 rfl (lv_at hl 1 rfl) ?_
  refine x_ci hC E hK hA hX I (x_noTable l D ty o ad ex Cx hC σ v T hT h0) go_x_noTable dc_x_noTable ⟨Nat.le_of_ble_eq_true rfl, Nat.le_of_ble_eq_true rfl⟩ ⟨Nat.le_refl 0, Nat.le_refl 0⟩ hl.1 (Nat.le_of_ble_eq_true rfl) rfl dX0_ofTable_2 (fun r2 σ2 H locs hp I => ?_)
  refine top_i (y := bI (!wi v 0 (nI T - 1))) hp.1 ?_
  have I := x_as I hp.2
  refine b_eq (tgt := 10) hx hb dX0_ofTable_5 (by decide) (fun c5 => ?_) (fun c5 => ?_)
  · obtain ⟨j, hj, ej⟩ := wi_idx (i := v) (n := T) (by omega) (by simpa using c5)
    subst ej
    refine lv_iload_n hx hb dX0_ofTable_10 rfl (lv_at hl 2 rfl) ?_
    refine lv_if_ne (tgt := 23) hx hb dX0_ofTable_11 (by decide) (fun c11 => ?_) (fun c11 => ?_)
    · refine lv_iload_n hx hb dX0_ofTable_23 rfl (lv_at hl 2 rfl) ?_
      refine lv_iconst (v := 1) hx hb dX0_ofTable_24 (by decide) ?_
      refine lv_icmp_ne (tgt := 37) hx hb dX0_ofTable_25 (by decide) (fun c25 => ?_) (fun c25 => ?_)
      · refine lv_bipush (v := (-2)) hx hb dX0_ofTable_37 (by decide) ?_
        exact r_i E hlk hr I (Nat.le_refl 0) (Nat.le_refl 0) dX0_ofTable_39 (⟨by simp at c5; simp only [c5, if_true, nI_clamp (show j < 2 ^ 31 by omega)]; simp [xOfT, c11, c25], rfl⟩)
      · refine lv_aload_n hx hb dX0_ofTable_28 rfl (lv_at hl 0 rfl) ?_
        refine x_get E hK I 6 rfl q144 rfl dX0_ofTable_29 ?_
        refine lv_iload_n hx hb dX0_ofTable_32 rfl (lv_at hl 1 rfl) ?_
        refine x_ald (i := j) E hK I 1 rfl rfl rfl dX0_ofTable_33 (by simp only [xLn]; omega) ?_
        refine lv_goto (tgt := 39) hx hb dX0_ofTable_34 (by decide) ?_
        exact r_i E hlk hr I (Nat.le_refl 0) (Nat.le_refl 0) dX0_ofTable_39 (⟨by simp at c5; simp only [c5, if_true, nI_clamp (show j < 2 ^ 31 by omega)]; simp [xOfT, c11, c25], rfl⟩)
    · refine lv_aload_n hx hb dX0_ofTable_14 rfl (lv_at hl 0 rfl) ?_
      refine x_get E hK I 5 rfl q143 rfl dX0_ofTable_15 ?_
      refine lv_iload_n hx hb dX0_ofTable_18 rfl (lv_at hl 1 rfl) ?_
      refine x_ald (i := j) E hK I 0 rfl rfl rfl dX0_ofTable_19 (by simp only [xLn]; omega) ?_
      refine lv_goto (tgt := 39) hx hb dX0_ofTable_20 (by decide) ?_
      exact r_i E hlk hr I (Nat.le_refl 0) (Nat.le_refl 0) dX0_ofTable_39 (⟨by simp at c5; simp only [c5, if_true, nI_clamp (show j < 2 ^ 31 by omega)]; simp [xOfT, c11], rfl⟩)
  · refine lv_iconst (v := (-1)) hx hb dX0_ofTable_8 (by decide) ?_
    exact r_i E hlk hr I (Nat.le_refl 0) (Nat.le_refl 0) dX0_ofTable_9 (⟨by simp at c5; simp [c5], rfl⟩)
theorem dc_x_ofTable : yX0_ofTable.cls = RX0 ∧ yX0_ofTable.cls ≠ "java/lang/invoke/MethodHandle" ∧ yX0_ofTable.cls ≠ "java/lang/invoke/VarHandle" ∧ (parseMethodDescriptor yX0_ofTable.desc).map (fun d => d.parameters.length) = some 2 := by decide +kernel
theorem x_rule (l : Launch) (D : va_G) (ty : Nat → ClassId) (o : Nat) (ad : Nat → Nat) (ex : va_W) (Cx : (Nat → Prop) → State → Prop) (hC : CxOk Cx) (σ : Sg) (v : Int32) : xKi l yX0_rule cX0_rule 3 .int 2 D ty Cx o ad ex σ [.int v] (fun r τ => r = (if wi v 0 2 then (if σ 0 0 = 0 then (-3) else σ 1 0) else (-2)) ∧ τ = if wi v 0 2 ∧ ¬ σ 0 0 = 0 then up σ 1 0 v else σ) := by
  refine Ki.of (by decide) (Nat.le_of_ble_eq_true rfl) ?_
  intro p e s m below meth c A ls args E hK hA hX hlk hr I hl
  have hx := E.1
  have hb := E.2.1
  have hl : lv_has ls 3 [(0, .ref o), (1, .int v)] := hl
  refine lv_iload_n hx hb dX0_rule_0 rfl (lv_at hl 1 rfl) ?_
  refine lv_i2l hx hb dX0_rule_1 rfl ?_
  refine lv_lconst (v := 0) hx hb dX0_rule_2 (by decide) ?_
  refine top_l (y := (0 : Int32).toInt64) (by decide) ?_
  refine lv_ldc2 (v := 2) hx hb E.2.2.2.1 (E.2.2.2.2 _ q228) dX0_rule_3 ?_
  refine top_l (y := (2 : Int32).toInt64) (by decide) ?_
  refine c_Si E (x_in l v 0 2) go_x_in ⟨rfl, rfl⟩ dc_x_in ⟨Nat.le_of_ble_eq_true rfl, Nat.le_of_ble_eq_true rfl⟩ ⟨Nat.le_refl 0, Nat.le_refl 0⟩ hl.1 (Nat.le_of_ble_eq_true rfl) rfl dX0_rule_6 (fun r6 hp => ?_)
  refine top_i (y := bI (wi v 0 2)) hp ?_
  refine b_ne (tgt := 15) hx hb dX0_rule_9 (by decide) (fun c9 => ?_) (fun c9 => ?_)
  · refine lv_aload_n hx hb dX0_rule_15 rfl (lv_at hl 0 rfl) ?_
    refine x_get E hK I 0 rfl q138 rfl dX0_rule_16 ?_
    refine lv_if_ne (tgt := 25) hx hb dX0_rule_19 (by decide) (fun c19 => ?_) (fun c19 => ?_)
    · refine lv_aload_n hx hb dX0_rule_25 rfl (lv_at hl 0 rfl) ?_
      refine x_get E hK I 1 rfl q139 rfl dX0_rule_26 ?_
      refine lv_istore_n (lv' := [(2, .int (σ 1 0)), (0, .ref o), (1, .int v)]) hx hb dX0_rule_29 rfl hl (by decide) rfl (fun ls hl => ?_)
      refine lv_aload_n hx hb dX0_rule_30 rfl (lv_at hl 1 rfl) ?_
      refine lv_iload_n hx hb dX0_rule_31 rfl (lv_at hl 2 rfl) ?_
      refine x_put E hK I 1 rfl rfl q139 rfl rfl rfl dX0_rule_32 (fun H locs I => ?_)
      refine lv_iload_n hx hb dX0_rule_35 rfl (lv_at hl 0 rfl) ?_
      exact r_i E hlk hr I (Nat.le_refl 0) (Nat.le_refl 0) dX0_rule_36 (⟨by simp [c9, c19], by simp [c9, c19]⟩)
    · refine lv_bipush (v := (-3)) hx hb dX0_rule_22 (by decide) ?_
      exact r_i E hlk hr I (Nat.le_refl 0) (Nat.le_refl 0) dX0_rule_24 (⟨by simp [c9, c19], by simp [c9, c19]⟩)
  · refine lv_bipush (v := (-2)) hx hb dX0_rule_12 (by decide) ?_
    exact r_i E hlk hr I (Nat.le_refl 0) (Nat.le_refl 0) dX0_rule_14 (⟨by simp [c9], by simp [c9]⟩)
theorem dc_x_rule : yX0_rule.cls = RX0 ∧ yX0_rule.cls ≠ "java/lang/invoke/MethodHandle" ∧ yX0_rule.cls ≠ "java/lang/invoke/VarHandle" ∧ (parseMethodDescriptor yX0_rule.desc).map (fun d => d.parameters.length) = some 1 := by decide +kernel
theorem x_patience (l : Launch) (D : va_G) (ty : Nat → ClassId) (o : Nat) (ad : Nat → Nat) (ex : va_W) (Cx : (Nat → Prop) → State → Prop) (hC : CxOk Cx) (σ : Sg) (v : Int32) : xKi l yX0_patience cX0_patience 3 .int 2 D ty Cx o ad ex σ [.int v] (fun r τ => r = (if wi v 0 30 then (if σ 0 0 = 0 then (-3) else σ 2 0) else (-2)) ∧ τ = if wi v 0 30 ∧ ¬ σ 0 0 = 0 then up σ 2 0 v else σ) := by
  refine Ki.of (by decide) (Nat.le_of_ble_eq_true rfl) ?_
  intro p e s m below meth c A ls args E hK hA hX hlk hr I hl
  have hx := E.1
  have hb := E.2.1
  have hl : lv_has ls 3 [(0, .ref o), (1, .int v)] := hl
  refine lv_iload_n hx hb dX0_patience_0 rfl (lv_at hl 1 rfl) ?_
  refine lv_i2l hx hb dX0_patience_1 rfl ?_
  refine lv_lconst (v := 0) hx hb dX0_patience_2 (by decide) ?_
  refine top_l (y := (0 : Int32).toInt64) (by decide) ?_
  refine lv_ldc2 (v := 30) hx hb E.2.2.2.1 (E.2.2.2.2 _ q233) dX0_patience_3 ?_
  refine top_l (y := (30 : Int32).toInt64) (by decide) ?_
  refine c_Si E (x_in l v 0 30) go_x_in ⟨rfl, rfl⟩ dc_x_in ⟨Nat.le_of_ble_eq_true rfl, Nat.le_of_ble_eq_true rfl⟩ ⟨Nat.le_refl 0, Nat.le_refl 0⟩ hl.1 (Nat.le_of_ble_eq_true rfl) rfl dX0_patience_6 (fun r6 hp => ?_)
  refine top_i (y := bI (wi v 0 30)) hp ?_
  refine b_ne (tgt := 15) hx hb dX0_patience_9 (by decide) (fun c9 => ?_) (fun c9 => ?_)
  · refine lv_aload_n hx hb dX0_patience_15 rfl (lv_at hl 0 rfl) ?_
    refine x_get E hK I 0 rfl q138 rfl dX0_patience_16 ?_
    refine lv_if_ne (tgt := 25) hx hb dX0_patience_19 (by decide) (fun c19 => ?_) (fun c19 => ?_)
    · refine lv_aload_n hx hb dX0_patience_25 rfl (lv_at hl 0 rfl) ?_
      refine x_get E hK I 2 rfl q140 rfl dX0_patience_26 ?_
      refine lv_istore_n (lv' := [(2, .int (σ 2 0)), (0, .ref o), (1, .int v)]) hx hb dX0_patience_29 rfl hl (by decide) rfl (fun ls hl => ?_)
      refine lv_aload_n hx hb dX0_patience_30 rfl (lv_at hl 1 rfl) ?_
      refine lv_iload_n hx hb dX0_patience_31 rfl (lv_at hl 2 rfl) ?_
      refine x_put E hK I 2 rfl rfl q140 rfl rfl rfl dX0_patience_32 (fun H locs I => ?_)
      refine lv_iload_n hx hb dX0_patience_35 rfl (lv_at hl 0 rfl) ?_
      exact r_i E hlk hr I (Nat.le_refl 0) (Nat.le_refl 0) dX0_patience_36 (⟨by simp [c9, c19], by simp [c9, c19]⟩)
    · refine lv_bipush (v := (-3)) hx hb dX0_patience_22 (by decide) ?_
      exact r_i E hlk hr I (Nat.le_refl 0) (Nat.le_refl 0) dX0_patience_24 (⟨by simp [c9, c19], by simp [c9, c19]⟩)
  · refine lv_bipush (v := (-2)) hx hb dX0_patience_12 (by decide) ?_
    exact r_i E hlk hr I (Nat.le_refl 0) (Nat.le_refl 0) dX0_patience_14 (⟨by simp [c9], by simp [c9]⟩)
theorem dc_x_patience : yX0_patience.cls = RX0 ∧ yX0_patience.cls ≠ "java/lang/invoke/MethodHandle" ∧ yX0_patience.cls ≠ "java/lang/invoke/VarHandle" ∧ (parseMethodDescriptor yX0_patience.desc).map (fun d => d.parameters.length) = some 1 := by decide +kernel
theorem x_joining (l : Launch) (D : va_G) (ty : Nat → ClassId) (o : Nat) (ad : Nat → Nat) (ex : va_W) (Cx : (Nat → Prop) → State → Prop) (hC : CxOk Cx) (σ : Sg) (b : Bool) : xKi l yX0_joining cX0_joining 3 .int 2 D ty Cx o ad ex σ [.int (bI b)] (fun r τ => r = (if σ 0 0 = 0 then (-3) else if σ 3 0 = bI b then 0 else 1) ∧ τ = if σ 0 0 = 0 then σ else up σ 3 0 (bI b)) := by
  refine Ki.of (by decide) (Nat.le_of_ble_eq_true rfl) ?_
  intro p e s m below meth c A ls args E hK hA hX hlk hr I hl
  have hx := E.1
  have hb := E.2.1
  have hl : lv_has ls 3 [(0, .ref o), (1, .int (bI b))] := hl
  refine lv_aload_n hx hb dX0_joining_0 rfl (lv_at hl 0 rfl) ?_
  refine x_get E hK I 0 rfl q138 rfl dX0_joining_1 ?_
  refine lv_if_ne (tgt := 10) hx hb dX0_joining_4 (by decide) (fun c4 => ?_) (fun c4 => ?_)
  · refine lv_aload_n hx hb dX0_joining_10 rfl (lv_at hl 0 rfl) ?_
    refine x_get E hK I 3 rfl q141 rfl dX0_joining_11 ?_
    refine lv_iload_n hx hb dX0_joining_14 rfl (lv_at hl 1 rfl) ?_
    refine lv_icmp_ne (tgt := 22) hx hb dX0_joining_15 (by decide) (fun c15 => ?_) (fun c15 => ?_)
    · refine lv_iconst (v := 1) hx hb dX0_joining_22 (by decide) ?_
      refine lv_istore_n (lv' := [(2, .int 1), (0, .ref o), (1, .int (bI b))]) hx hb dX0_joining_23 rfl hl (by decide) rfl (fun ls hl => ?_)
      refine lv_aload_n hx hb dX0_joining_24 rfl (lv_at hl 1 rfl) ?_
      refine lv_iload_n hx hb dX0_joining_25 rfl (lv_at hl 2 rfl) ?_
      refine x_put (v := bI b) E hK I 3 rfl rfl q141 rfl (bI_nar _) (bI_fit _) dX0_joining_26 (fun H locs I => ?_)
      refine lv_iload_n hx hb dX0_joining_29 rfl (lv_at hl 0 rfl) ?_
      exact r_i E hlk hr I (Nat.le_refl 0) (Nat.le_refl 0) dX0_joining_30 (⟨by simp [c4, c15], by simp [c4, c15]⟩)
    · refine lv_iconst (v := 0) hx hb dX0_joining_18 (by decide) ?_
      refine lv_goto (tgt := 23) hx hb dX0_joining_19 (by decide) ?_
      refine lv_istore_n (lv' := [(2, .int 0), (0, .ref o), (1, .int (bI b))]) hx hb dX0_joining_23 rfl hl (by decide) rfl (fun ls hl => ?_)
      refine lv_aload_n hx hb dX0_joining_24 rfl (lv_at hl 1 rfl) ?_
      refine lv_iload_n hx hb dX0_joining_25 rfl (lv_at hl 2 rfl) ?_
      refine x_put (v := bI b) E hK I 3 rfl rfl q141 rfl (bI_nar _) (bI_fit _) dX0_joining_26 (fun H locs I => ?_)
      refine lv_iload_n hx hb dX0_joining_29 rfl (lv_at hl 0 rfl) ?_
      exact r_i E hlk hr I (Nat.le_refl 0) (Nat.le_refl 0) dX0_joining_30 (⟨by simp [c4, c15], by simp [c4, c15]⟩)
  · refine lv_bipush (v := (-3)) hx hb dX0_joining_7 (by decide) ?_
    exact r_i E hlk hr I (Nat.le_refl 0) (Nat.le_refl 0) dX0_joining_9 (⟨by simp [c4], by simp [c4]⟩)
theorem dc_x_joining : yX0_joining.cls = RX0 ∧ yX0_joining.cls ≠ "java/lang/invoke/MethodHandle" ∧ yX0_joining.cls ≠ "java/lang/invoke/VarHandle" ∧ (parseMethodDescriptor yX0_joining.desc).map (fun d => d.parameters.length) = some 1 := by decide +kernel
theorem x_rain (l : Launch) (D : va_G) (ty : Nat → ClassId) (o : Nat) (ad : Nat → Nat) (ex : va_W) (Cx : (Nat → Prop) → State → Prop) (hC : CxOk Cx) (σ : Sg) (v : Int32) : xKi l yX0_rain cX0_rain 2 .int 2 D ty Cx o ad ex σ [.int v] (fun r τ => r = (if v = (-9) ∨ wi v 0 399 then (if σ 0 0 = 0 then (-3) else 1) else (-2)) ∧ τ = if (v = (-9) ∨ wi v 0 399) ∧ ¬ σ 0 0 = 0 then up σ 4 0 v else σ) := by
  refine Ki.of (by decide) (Nat.le_of_ble_eq_true rfl) ?_
  intro p e s m below meth c A ls args E hK hA hX hlk hr I hl
  have hx := E.1
  have hb := E.2.1
  have hl : lv_has ls 2 [(0, .ref o), (1, .int v)] := hl
  refine lv_iload_n hx hb dX0_rain_0 rfl (lv_at hl 1 rfl) ?_
  refine lv_bipush (v := (-9)) hx hb dX0_rain_1 (by decide) ?_
  refine lv_icmp_eq (tgt := 21) hx hb dX0_rain_3 (by decide) (fun c3 => ?_) (fun c3 => ?_)
  · refine lv_aload_n hx hb dX0_rain_21 rfl (lv_at hl 0 rfl) ?_
    refine x_get E hK I 0 rfl q138 rfl dX0_rain_22 ?_
    refine lv_if_ne (tgt := 31) hx hb dX0_rain_25 (by decide) (fun c25 => ?_) (fun c25 => ?_)
    · refine lv_aload_n hx hb dX0_rain_31 rfl (lv_at hl 0 rfl) ?_
      refine lv_iload_n hx hb dX0_rain_32 rfl (lv_at hl 1 rfl) ?_
      refine x_put E hK I 4 rfl rfl q142 rfl rfl rfl dX0_rain_33 (fun H locs I => ?_)
      refine lv_iconst (v := 1) hx hb dX0_rain_36 (by decide) ?_
      exact r_i E hlk hr I (Nat.le_refl 0) (Nat.le_refl 0) dX0_rain_37 (⟨by simp [c3, c25], by simp [c3, c25]⟩)
    · refine lv_bipush (v := (-3)) hx hb dX0_rain_28 (by decide) ?_
      exact r_i E hlk hr I (Nat.le_refl 0) (Nat.le_refl 0) dX0_rain_30 (⟨by simp [c3, c25], by simp [c3, c25]⟩)
  · refine lv_iload_n hx hb dX0_rain_6 rfl (lv_at hl 1 rfl) ?_
    refine lv_i2l hx hb dX0_rain_7 rfl ?_
    refine lv_lconst (v := 0) hx hb dX0_rain_8 (by decide) ?_
    refine top_l (y := (0 : Int32).toInt64) (by decide) ?_
    refine lv_ldc2 (v := 399) hx hb E.2.2.2.1 (E.2.2.2.2 _ q242) dX0_rain_9 ?_
    refine top_l (y := (399 : Int32).toInt64) (by decide) ?_
    refine c_Si E (x_in l v 0 399) go_x_in ⟨rfl, rfl⟩ dc_x_in ⟨Nat.le_of_ble_eq_true rfl, Nat.le_of_ble_eq_true rfl⟩ ⟨Nat.le_refl 0, Nat.le_refl 0⟩ hl.1 (Nat.le_of_ble_eq_true rfl) rfl dX0_rain_12 (fun r12 hp => ?_)
    refine top_i (y := bI (wi v 0 399)) hp ?_
    refine b_ne (tgt := 21) hx hb dX0_rain_15 (by decide) (fun c15 => ?_) (fun c15 => ?_)
    · refine lv_aload_n hx hb dX0_rain_21 rfl (lv_at hl 0 rfl) ?_
      refine x_get E hK I 0 rfl q138 rfl dX0_rain_22 ?_
      refine lv_if_ne (tgt := 31) hx hb dX0_rain_25 (by decide) (fun c25 => ?_) (fun c25 => ?_)
      · refine lv_aload_n hx hb dX0_rain_31 rfl (lv_at hl 0 rfl) ?_
        refine lv_iload_n hx hb dX0_rain_32 rfl (lv_at hl 1 rfl) ?_
        refine x_put E hK I 4 rfl rfl q142 rfl rfl rfl dX0_rain_33 (fun H locs I => ?_)
        refine lv_iconst (v := 1) hx hb dX0_rain_36 (by decide) ?_
        exact r_i E hlk hr I (Nat.le_refl 0) (Nat.le_refl 0) dX0_rain_37 (⟨by simp [c3, c15, c25], by simp [c3, c15, c25]⟩)
      · refine lv_bipush (v := (-3)) hx hb dX0_rain_28 (by decide) ?_
        exact r_i E hlk hr I (Nat.le_refl 0) (Nat.le_refl 0) dX0_rain_30 (⟨by simp [c3, c15, c25], by simp [c3, c15, c25]⟩)
    · refine lv_bipush (v := (-2)) hx hb dX0_rain_18 (by decide) ?_
      exact r_i E hlk hr I (Nat.le_refl 0) (Nat.le_refl 0) dX0_rain_20 (⟨by simp [c3, c15], by simp [c3, c15]⟩)
theorem dc_x_rain : yX0_rain.cls = RX0 ∧ yX0_rain.cls ≠ "java/lang/invoke/MethodHandle" ∧ yX0_rain.cls ≠ "java/lang/invoke/VarHandle" ∧ (parseMethodDescriptor yX0_rain.desc).map (fun d => d.parameters.length) = some 1 := by decide +kernel
def xFree (σ : Sg) (t : Nat) : Bool := !decide (0 ≤ σ 9 t) && (decide (σ 10 0 = 0) || !decide (σ 5 t = 0))
def xTak (σ : Sg) (t : Nat) : Bool := decide (0 ≤ σ 9 t)
def xclr (σ : Sg) (g n : Nat) : Sg := fun a b => if a = 9 then (if b < n ∧ σ 9 b = nI g then -9 else σ a b) else σ a b
theorem xclr_at (σ : Sg) (g n : Nat) : xclr σ g n 9 n = σ 9 n := by simp [xclr]
theorem xclr_k {a : Nat} (h : a ≠ 9) (σ : Sg) (g n b : Nat) : xclr σ g n a b = σ a b := by simp [xclr, h]
theorem xclr_s {σ : Sg} {g n : Nat} {v : Int32} (hv : v = if σ 9 n = nI g then -9 else σ 9 n) : up (xclr σ g n) 9 n v = xclr σ g (n + 1) := by
  subst hv
  funext a b
  by_cases ha : a = 9
  · by_cases hb : b = n
    · subst hb; simp [xclr, up, ha]
    · simp [xclr, up, ha, hb, lt_s1 hb]
  · simp [xclr, up, ha]
theorem xclr_0 (σ : Sg) (g : Nat) : σ = xclr σ g 0 := by funext a b; simp [xclr]
def xGoes (σ : Sg) (g : Nat) (x : Int32) (T : Nat) : Sg := up (up (xclr σ g T) 11 g 0) 14 g x
def xOff (σ : Sg) (g : Nat) (w x : Int32) : Sg := up (up σ 11 g w) 15 g x
theorem x_isFree (l : Launch) (D : va_G) (ty : Nat → ClassId) (o : Nat) (ad : Nat → Nat) (ex : va_W) (Cx : (Nat → Prop) → State → Prop) (hC : CxOk Cx) (σ : Sg) (t : Nat) (ht : t < 6) : xKi l yX0_isFree cX0_isFree 2 .boolean 1 D ty Cx o ad ex σ [.int (nI t)] (fun r τ => r = bI (xFree σ t) ∧ τ = σ) := by
  refine Ki.of (by decide) (Nat.le_of_ble_eq_true rfl) ?_
  intro p e s m below meth c A ls args E hK hA hX hlk hr I hl
  have hx := E.1
  have hb := E.2.1
  have hl : lv_has ls 2 [(0, .ref o), (1, .int (nI t))] := hl
  refine lv_aload_n hx hb dX0_isFree_0 rfl (lv_at hl 0 rfl) ?_
  refine x_get E hK I 9 rfl q148 rfl dX0_isFree_1 ?_
  refine lv_iload_n hx hb dX0_isFree_4 rfl (lv_at hl 1 rfl) ?_
  refine x_ald (i := t) E hK I 2 rfl rfl rfl dX0_isFree_5 (by simp only [xLn]; omega) ?_
  refine lv_if_ge (tgt := 29) hx hb dX0_isFree_6 (by decide) (fun c6 => ?_) (fun c6 => ?_)
  · refine lv_iconst (v := 0) hx hb dX0_isFree_29 (by decide) ?_
    exact r_z (b := false) E hlk hr I (Nat.le_refl 0) (Nat.le_refl 0) dX0_isFree_30 rfl (⟨by simp [xFree, c6], rfl⟩)
  · refine lv_aload_n hx hb dX0_isFree_9 rfl (lv_at hl 0 rfl) ?_
    refine x_get E hK I 10 rfl q149 rfl dX0_isFree_10 ?_
    refine lv_if_eq (tgt := 25) hx hb dX0_isFree_13 (by decide) (fun c13 => ?_) (fun c13 => ?_)
    · refine lv_iconst (v := 1) hx hb dX0_isFree_25 (by decide) ?_
      refine lv_goto (tgt := 30) hx hb dX0_isFree_26 (by decide) ?_
      exact r_z (b := true) E hlk hr I (Nat.le_refl 0) (Nat.le_refl 0) dX0_isFree_30 rfl (⟨by simp [xFree, c6, c13], rfl⟩)
    · refine lv_aload_n hx hb dX0_isFree_16 rfl (lv_at hl 0 rfl) ?_
      refine x_get E hK I 5 rfl q143 rfl dX0_isFree_17 ?_
      refine lv_iload_n hx hb dX0_isFree_20 rfl (lv_at hl 1 rfl) ?_
      refine x_ald (i := t) E hK I 0 rfl rfl rfl dX0_isFree_21 (by simp only [xLn]; omega) ?_
      refine lv_if_eq (tgt := 29) hx hb dX0_isFree_22 (by decide) (fun c22 => ?_) (fun c22 => ?_)
      · refine lv_iconst (v := 0) hx hb dX0_isFree_29 (by decide) ?_
        exact r_z (b := false) E hlk hr I (Nat.le_refl 0) (Nat.le_refl 0) dX0_isFree_30 rfl (⟨by simp [xFree, c6, c13, c22], rfl⟩)
      · refine lv_iconst (v := 1) hx hb dX0_isFree_25 (by decide) ?_
        refine lv_goto (tgt := 30) hx hb dX0_isFree_26 (by decide) ?_
        exact r_z (b := true) E hlk hr I (Nat.le_refl 0) (Nat.le_refl 0) dX0_isFree_30 rfl (⟨by simp [xFree, c6, c13, c22], rfl⟩)
theorem dc_x_isFree : yX0_isFree.cls = RX0 ∧ yX0_isFree.cls ≠ "java/lang/invoke/MethodHandle" ∧ yX0_isFree.cls ≠ "java/lang/invoke/VarHandle" ∧ (parseMethodDescriptor yX0_isFree.desc).map (fun d => d.parameters.length) = some 1 := by decide +kernel
theorem go_x_isFree : GoodIn lw_all (wsV RX0 155 RX0 yX0_isFree (ws_ yX0_isFree cX0_isFree 2 (some .boolean))) := lw_V q494 q496 qs12 q71 q497
theorem x_takenNow (l : Launch) (D : va_G) (ty : Nat → ClassId) (o : Nat) (ad : Nat → Nat) (ex : va_W) (Cx : (Nat → Prop) → State → Prop) (hC : CxOk Cx) (σ : Sg) (T : Nat) (hT : T ≤ 6) (h0 : σ 0 0 = nI T) : xKi l yX0_takenNow cX0_takenNow 3 .int 1 D ty Cx o ad ex σ [] (fun r τ => r = nI (cnt (xTak σ) T) ∧ τ = σ) := by
  refine Ki.of (by decide) (Nat.le_of_ble_eq_true rfl) ?_
  intro p e s m below meth c A ls args E hK hA hX hlk hr I hl
  have hx := E.1
  have hb := E.2.1
  have hl : lv_has ls 3 [(0, .ref o)] := hl
  refine nameQ (fun Q hQ => ?_)
  refine lv_iconst (v := 0) hx hb dX0_takenNow_0 (by decide) ?_
  refine lv_istore_n (lv' := [(1, .int 0), (0, .ref o)]) hx hb dX0_takenNow_1 rfl hl (by decide) rfl (fun ls hl => ?_)
  refine lv_iconst (v := 0) hx hb dX0_takenNow_2 (by decide) ?_
  refine lv_istore_n (lv' := [(2, .int 0), (1, .int 0), (0, .ref o)]) hx hb dX0_takenNow_3 rfl hl (by decide) rfl (fun ls hl => ?_)
  have L4 : ∀ i, i ≤ T → ∀ (H : Heap) (locs : List Loc) (ls : Array Slot), gI s D A (xW ty o ad ex σ) H locs → lv_has ls 3 [(0, .ref o), (1, .int (nI (cnt (xTak σ) i))), (2, .int (nI i))] → W p l e (rmL 1) s m args below meth c H locs 0 0 Q (F0 m 4 ls []) := by
    refine dn_ind T ?_ ?_
    · intro H locs ls I hl
      refine lv_iload_n hx hb dX0_takenNow_4 rfl (lv_at hl 2 rfl) ?_
      refine lv_aload_n hx hb dX0_takenNow_5 rfl (lv_at hl 0 rfl) ?_
      refine x_get (v := .int (nI T)) E hK I 0 rfl q138 (congrArg Value.int (h0)) dX0_takenNow_6 ?_
      refine lv_icmp_ge (tgt := 35) hx hb dX0_takenNow_9 (by decide) (fun c9 => ?_) (fun c9 => absurd c9 (fun h => h (Int32.le_refl _)))
      refine lv_iload_n hx hb dX0_takenNow_35 rfl (lv_at hl 1 rfl) ?_
      subst hQ
      exact r_i E hlk hr I (Nat.le_refl 0) (Nat.le_refl 0) dX0_takenNow_36 (⟨rfl, rfl⟩)
    · intro i hi ih4 H locs ls I hl
      refine lv_iload_n hx hb dX0_takenNow_4 rfl (lv_at hl 2 rfl) ?_
      refine lv_aload_n hx hb dX0_takenNow_5 rfl (lv_at hl 0 rfl) ?_
      refine x_get (v := .int (nI T)) E hK I 0 rfl q138 (congrArg Value.int (h0)) dX0_takenNow_6 ?_
      refine lv_icmp_ge (tgt := 35) hx hb dX0_takenNow_9 (by decide) (fun c9 => absurd c9 (nI_ge hi (by omega))) (fun c9 => ?_)
      refine lv_iload_n hx hb dX0_takenNow_12 rfl (lv_at hl 1 rfl) ?_
      refine lv_aload_n hx hb dX0_takenNow_13 rfl (lv_at hl 0 rfl) ?_
      refine x_get E hK I 9 rfl q148 rfl dX0_takenNow_14 ?_
      refine lv_iload_n hx hb dX0_takenNow_17 rfl (lv_at hl 2 rfl) ?_
      refine x_ald (i := i) E hK I 2 rfl rfl rfl dX0_takenNow_18 (by simp only [xLn]; omega) ?_
      refine lv_if_ge (tgt := 26) hx hb dX0_takenNow_19 (by decide) (fun c19 => ?_) (fun c19 => ?_)
      · refine lv_iconst (v := 1) hx hb dX0_takenNow_26 (by decide) ?_
        refine lv_iadd hx hb dX0_takenNow_27 ?_
        refine lv_istore_n (lv' := [(1, .int ((nI (cnt (xTak σ) i)) + 1)), (0, .ref o), (2, .int (nI i))]) hx hb dX0_takenNow_28 rfl hl (by decide) rfl (fun ls hl => ?_)
        refine lv_iinc (v := nI (i + 1)) (lv' := [(2, .int (nI (i + 1))), (1, .int ((nI (cnt (xTak σ) i)) + 1)), (0, .ref o)]) hx hb dX0_takenNow_29 hl (k := 2) rfl (nI_1 _) (by decide) rfl (fun ls hl => ?_)
        refine lv_goto (tgt := 4) hx hb dX0_takenNow_32 (by decide) ?_
        exact ih4 _ _ ls (x_as I (rfl)) (lv_as (lv_sub (l' := [(0, .ref o), (1, .int ((nI (cnt (xTak σ) i)) + 1)), (2, .int (nI (i + 1)))]) hl [2, 1, 0] rfl) (by simp [cnt, xTak, nI_succ, c9, c19]))
      · refine lv_iconst (v := 0) hx hb dX0_takenNow_22 (by decide) ?_
        refine lv_goto (tgt := 27) hx hb dX0_takenNow_23 (by decide) ?_
        refine lv_iadd hx hb dX0_takenNow_27 ?_
        refine lv_istore_n (lv' := [(1, .int ((nI (cnt (xTak σ) i)) + 0)), (0, .ref o), (2, .int (nI i))]) hx hb dX0_takenNow_28 rfl hl (by decide) rfl (fun ls hl => ?_)
        refine lv_iinc (v := nI (i + 1)) (lv' := [(2, .int (nI (i + 1))), (1, .int ((nI (cnt (xTak σ) i)) + 0)), (0, .ref o)]) hx hb dX0_takenNow_29 hl (k := 2) rfl (nI_1 _) (by decide) rfl (fun ls hl => ?_)
        refine lv_goto (tgt := 4) hx hb dX0_takenNow_32 (by decide) ?_
        exact ih4 _ _ ls (x_as I (rfl)) (lv_as (lv_sub (l' := [(0, .ref o), (1, .int ((nI (cnt (xTak σ) i)) + 0)), (2, .int (nI (i + 1)))]) hl [2, 1, 0] rfl) (by simp [cnt, xTak, nI_succ, c9, c19]))
  exact L4 0 (Nat.zero_le _) _ _ ls (x_as I (rfl)) (lv_as (lv_sub (l' := [(0, .ref o), (1, .int 0), (2, .int 0)]) hl [2, 1, 0] rfl) (rfl))
theorem dc_x_takenNow : yX0_takenNow.cls = RX0 ∧ yX0_takenNow.cls ≠ "java/lang/invoke/MethodHandle" ∧ yX0_takenNow.cls ≠ "java/lang/invoke/VarHandle" ∧ (parseMethodDescriptor yX0_takenNow.desc).map (fun d => d.parameters.length) = some 0 := by decide +kernel
theorem go_x_takenNow : GoodIn lw_all (wsV RX0 203 RX0 yX0_takenNow (ws_ yX0_takenNow cX0_takenNow 3 (some .int))) := lw_V q527 q529 qs20 q71 q530
theorem x_goes (l : Launch) (D : va_G) (ty : Nat → ClassId) (o : Nat) (ad : Nat → Nat) (ex : va_W) (Cx : (Nat → Prop) → State → Prop) (hC : CxOk Cx) (σ : Sg) (g : Nat) (x : Int32) (hg : g < 8) (T : Nat) (hT : T ≤ 6) (h0 : σ 0 0 = nI T) : xKv l yX0_goes cX0_goes 4 1 D ty Cx o ad ex σ [.int (nI g), .int x] (fun τ => τ = xGoes σ g x T) := by
  refine Kv.of (by decide) (Nat.le_of_ble_eq_true rfl) ?_
  intro p e s m below meth c A ls args E hK hA hX hlk hr hnm I hl
  have hx := E.1
  have hb := E.2.1
  have hl : lv_has ls 4 [(0, .ref o), (1, .int (nI g)), (2, .int x)] := hl
  refine nameQ (fun Q hQ => ?_)
  refine lv_iconst (v := 0) hx hb dX0_goes_0 (by decide) ?_
  refine lv_istore_n (lv' := [(3, .int 0), (0, .ref o), (1, .int (nI g)), (2, .int x)]) hx hb dX0_goes_1 rfl hl (by decide) rfl (fun ls hl => ?_)
  have L2 : ∀ i, i ≤ T → ∀ (H : Heap) (locs : List Loc) (ls : Array Slot), gI s D A (xW ty o ad ex (xclr σ g i)) H locs → lv_has ls 4 [(0, .ref o), (1, .int (nI g)), (2, .int x), (3, .int (nI i))] → W p l e (rmL 1) s m args below meth c H locs 0 0 Q (F0 m 2 ls []) := by
    refine dn_ind T ?_ ?_
    · intro H locs ls I hl
      refine lv_iload_n hx hb dX0_goes_2 rfl (lv_at hl 3 rfl) ?_
      refine lv_aload_n hx hb dX0_goes_3 rfl (lv_at hl 0 rfl) ?_
      refine x_get (v := .int (nI T)) E hK I 0 rfl q138 (congrArg Value.int (by rw [xclr_k (by decide)]; exact h0)) dX0_goes_4 ?_
      refine lv_icmp_ge (tgt := 43) hx hb dX0_goes_7 (by decide) (fun c7 => ?_) (fun c7 => absurd c7 (fun h => h (Int32.le_refl _)))
      refine lv_aload_n hx hb dX0_goes_43 rfl (lv_at hl 0 rfl) ?_
      refine x_get E hK I 11 rfl q150 rfl dX0_goes_44 ?_
      refine lv_iload_n hx hb dX0_goes_47 rfl (lv_at hl 1 rfl) ?_
      refine lv_iconst (v := 0) hx hb dX0_goes_48 (by decide) ?_
      refine x_ast (i := g) E hK I 3 rfl rfl rfl dX0_goes_49 (by simp only [xLn]; omega) (fun H locs I => ?_)
      refine lv_aload_n hx hb dX0_goes_50 rfl (lv_at hl 0 rfl) ?_
      refine x_get E hK I 14 rfl q153 rfl dX0_goes_51 ?_
      refine lv_iload_n hx hb dX0_goes_54 rfl (lv_at hl 1 rfl) ?_
      refine lv_iload_n hx hb dX0_goes_55 rfl (lv_at hl 2 rfl) ?_
      refine x_ast (i := g) E hK I 6 rfl rfl rfl dX0_goes_56 (by simp only [xLn]; omega) (fun H locs I => ?_)
      subst hQ
      exact r_v E hlk hr I (Nat.le_refl 0) (Nat.le_refl 0) dX0_goes_57 (rfl)
    · intro i hi ih2 H locs ls I hl
      refine lv_iload_n hx hb dX0_goes_2 rfl (lv_at hl 3 rfl) ?_
      refine lv_aload_n hx hb dX0_goes_3 rfl (lv_at hl 0 rfl) ?_
      refine x_get (v := .int (nI T)) E hK I 0 rfl q138 (congrArg Value.int (by rw [xclr_k (by decide)]; exact h0)) dX0_goes_4 ?_
      refine lv_icmp_ge (tgt := 43) hx hb dX0_goes_7 (by decide) (fun c7 => absurd c7 (nI_ge hi (by omega))) (fun c7 => ?_)
      refine lv_aload_n hx hb dX0_goes_10 rfl (lv_at hl 0 rfl) ?_
      refine x_get E hK I 9 rfl q148 rfl dX0_goes_11 ?_
      refine lv_iload_n hx hb dX0_goes_14 rfl (lv_at hl 3 rfl) ?_
      refine lv_aload_n hx hb dX0_goes_15 rfl (lv_at hl 0 rfl) ?_
      refine x_get E hK I 9 rfl q148 rfl dX0_goes_16 ?_
      refine lv_iload_n hx hb dX0_goes_19 rfl (lv_at hl 3 rfl) ?_
      refine x_ald (i := i) E hK I 2 rfl rfl rfl dX0_goes_20 (by simp only [xLn]; omega) ?_
      refine lv_iload_n hx hb dX0_goes_21 rfl (lv_at hl 1 rfl) ?_
      refine lv_icmp_ne (tgt := 30) hx hb dX0_goes_22 (by decide) (fun c22 => ?_) (fun c22 => ?_)
      · refine lv_aload_n hx hb dX0_goes_30 rfl (lv_at hl 0 rfl) ?_
        refine x_get E hK I 9 rfl q148 rfl dX0_goes_31 ?_
        refine lv_iload_n hx hb dX0_goes_34 rfl (lv_at hl 3 rfl) ?_
        refine x_ald (i := i) E hK I 2 rfl rfl rfl dX0_goes_35 (by simp only [xLn]; omega) ?_
        refine x_ast (i := i) E hK I 2 rfl rfl rfl dX0_goes_36 (by simp only [xLn]; omega) (fun H locs I => ?_)
        refine lv_iinc (v := nI (i + 1)) (lv' := [(3, .int (nI (i + 1))), (0, .ref o), (1, .int (nI g)), (2, .int x)]) hx hb dX0_goes_37 hl (k := 3) rfl (nI_1 _) (by decide) rfl (fun ls hl => ?_)
        refine lv_goto (tgt := 2) hx hb dX0_goes_40 (by decide) ?_
        exact ih2 _ _ ls (x_as I (xclr_s (by simp only [xclr_at] at c22 ⊢; simp [c22]))) (lv_as (lv_sub (l' := [(0, .ref o), (1, .int (nI g)), (2, .int x), (3, .int (nI (i + 1)))]) hl [1, 2, 3, 0] rfl) (rfl))
      · refine lv_bipush (v := (-9)) hx hb dX0_goes_25 (by decide) ?_
        refine lv_goto (tgt := 36) hx hb dX0_goes_27 (by decide) ?_
        refine x_ast (i := i) E hK I 2 rfl rfl rfl dX0_goes_36 (by simp only [xLn]; omega) (fun H locs I => ?_)
        refine lv_iinc (v := nI (i + 1)) (lv' := [(3, .int (nI (i + 1))), (0, .ref o), (1, .int (nI g)), (2, .int x)]) hx hb dX0_goes_37 hl (k := 3) rfl (nI_1 _) (by decide) rfl (fun ls hl => ?_)
        refine lv_goto (tgt := 2) hx hb dX0_goes_40 (by decide) ?_
        exact ih2 _ _ ls (x_as I (xclr_s (by simp only [xclr_at] at c22 ⊢; simp [c22]))) (lv_as (lv_sub (l' := [(0, .ref o), (1, .int (nI g)), (2, .int x), (3, .int (nI (i + 1)))]) hl [1, 2, 3, 0] rfl) (rfl))
  exact L2 0 (Nat.zero_le _) _ _ ls (x_as I (xclr_0 _ _)) (lv_as (lv_sub (l' := [(0, .ref o), (1, .int (nI g)), (2, .int x), (3, .int 0)]) hl [1, 2, 3, 0] rfl) (rfl))
theorem dc_x_goes : yX0_goes.cls = RX0 ∧ yX0_goes.cls ≠ "java/lang/invoke/MethodHandle" ∧ yX0_goes.cls ≠ "java/lang/invoke/VarHandle" ∧ (parseMethodDescriptor yX0_goes.desc).map (fun d => d.parameters.length) = some 2 := by decide +kernel
theorem go_x_goes : GoodIn lw_all (wsV RX0 185 RX0 yX0_goes (ws_ yX0_goes cX0_goes 4 none)) := lw_V q478 q480 qs8 q71 q481
theorem x_goesOff (l : Launch) (D : va_G) (ty : Nat → ClassId) (o : Nat) (ad : Nat → Nat) (ex : va_W) (Cx : (Nat → Prop) → State → Prop) (hC : CxOk Cx) (σ : Sg) (g : Nat) (w : Int32) (x : Int32) (hg : g < 8) : xKv l yX0_goesOff cX0_goesOff 4 1 D ty Cx o ad ex σ [.int (nI g), .int w, .int x] (fun τ => τ = xOff σ g w x) := by
  refine Kv.of (by decide) (Nat.le_of_ble_eq_true rfl) ?_
  intro p e s m below meth c A ls args E hK hA hX hlk hr hnm I hl
  have hx := E.1
  have hb := E.2.1
  have hl : lv_has ls 4 [(0, .ref o), (1, .int (nI g)), (2, .int w), (3, .int x)] := hl
  refine lv_aload_n hx hb dX0_goesOff_0 rfl (lv_at hl 0 rfl) ?_
  refine x_get E hK I 11 rfl q150 rfl dX0_goesOff_1 ?_
  refine lv_iload_n hx hb dX0_goesOff_4 rfl (lv_at hl 1 rfl) ?_
  refine lv_iload_n hx hb dX0_goesOff_5 rfl (lv_at hl 2 rfl) ?_
  refine x_ast (i := g) E hK I 3 rfl rfl rfl dX0_goesOff_6 (by simp only [xLn]; omega) (fun H locs I => ?_)
  refine lv_aload_n hx hb dX0_goesOff_7 rfl (lv_at hl 0 rfl) ?_
  refine x_get E hK I 15 rfl q154 rfl dX0_goesOff_8 ?_
  refine lv_iload_n hx hb dX0_goesOff_11 rfl (lv_at hl 1 rfl) ?_
  refine lv_iload_n hx hb dX0_goesOff_12 rfl (lv_at hl 3 rfl) ?_
  refine x_ast (i := g) E hK I 7 rfl rfl rfl dX0_goesOff_13 (by simp only [xLn]; omega) (fun H locs I => ?_)
  exact r_v E hlk hr I (Nat.le_refl 0) (Nat.le_refl 0) dX0_goesOff_14 (rfl)
theorem dc_x_goesOff : yX0_goesOff.cls = RX0 ∧ yX0_goesOff.cls ≠ "java/lang/invoke/MethodHandle" ∧ yX0_goesOff.cls ≠ "java/lang/invoke/VarHandle" ∧ (parseMethodDescriptor yX0_goesOff.desc).map (fun d => d.parameters.length) = some 3 := by decide +kernel
theorem go_x_goesOff : GoodIn lw_all (wsV RX0 199 RX0 yX0_goesOff (ws_ yX0_goesOff cX0_goesOff 4 none)) := lw_V q519 q521 qs18 q71 q522
theorem x_refused (l : Launch) (D : va_G) (ty : Nat → ClassId) (o : Nat) (ad : Nat → Nat) (ex : va_W) (Cx : (Nat → Prop) → State → Prop) (hC : CxOk Cx) (σ : Sg) (f : Int32) : xKi l yX0_refused cX0_refused 2 .int 1 D ty Cx o ad ex σ [.int f] (fun r τ => r = f ∧ τ = up σ 22 0 0) := by
  refine Ki.of (by decide) (Nat.le_of_ble_eq_true rfl) ?_
  intro p e s m below meth c A ls args E hK hA hX hlk hr I hl
  have hx := E.1
  have hb := E.2.1
  have hl : lv_has ls 2 [(0, .ref o), (1, .int f)] := hl
  refine lv_aload_n hx hb dX0_refused_0 rfl (lv_at hl 0 rfl) ?_
  refine lv_iconst (v := 0) hx hb dX0_refused_1 (by decide) ?_
  refine x_put E hK I 22 rfl rfl q162 rfl rfl rfl dX0_refused_2 (fun H locs I => ?_)
  refine lv_iload_n hx hb dX0_refused_5 rfl (lv_at hl 1 rfl) ?_
  exact r_i E hlk hr I (Nat.le_refl 0) (Nat.le_refl 0) dX0_refused_6 (⟨rfl, rfl⟩)
theorem dc_x_refused : yX0_refused.cls = RX0 ∧ yX0_refused.cls ≠ "java/lang/invoke/MethodHandle" ∧ yX0_refused.cls ≠ "java/lang/invoke/VarHandle" ∧ (parseMethodDescriptor yX0_refused.desc).map (fun d => d.parameters.length) = some 1 := by decide +kernel
theorem go_x_refused : GoodIn lw_all (wsV RX0 318 RX0 yX0_refused (ws_ yX0_refused cX0_refused 2 (some .int))) := lw_V q743 q745 qs29 q71 q746
theorem x_fails (l : Launch) (D : va_G) (ty : Nat → ClassId) (o : Nat) (ad : Nat → Nat) (ex : va_W) (Cx : (Nat → Prop) → State → Prop) (hC : CxOk Cx) (σ : Sg) (f : Int32) : xKi l yX0_fails cX0_fails 2 .int 1 D ty Cx o ad ex σ [.int f] (fun r τ => r = (-10) - f ∧ τ = up σ 22 0 f) := by
  refine Ki.of (by decide) (Nat.le_of_ble_eq_true rfl) ?_
  intro p e s m below meth c A ls args E hK hA hX hlk hr I hl
  have hx := E.1
  have hb := E.2.1
  have hl : lv_has ls 2 [(0, .ref o), (1, .int f)] := hl
  refine lv_aload_n hx hb dX0_fails_0 rfl (lv_at hl 0 rfl) ?_
  refine lv_iload_n hx hb dX0_fails_1 rfl (lv_at hl 1 rfl) ?_
  refine x_put E hK I 22 rfl rfl q162 rfl rfl rfl dX0_fails_2 (fun H locs I => ?_)
  refine lv_bipush (v := (-10)) hx hb dX0_fails_5 (by decide) ?_
  refine lv_iload_n hx hb dX0_fails_7 rfl (lv_at hl 1 rfl) ?_
  refine lv_isub hx hb dX0_fails_8 ?_
  exact r_i E hlk hr I (Nat.le_refl 0) (Nat.le_refl 0) dX0_fails_9 (⟨rfl, rfl⟩)
theorem dc_x_fails : yX0_fails.cls = RX0 ∧ yX0_fails.cls ≠ "java/lang/invoke/MethodHandle" ∧ yX0_fails.cls ≠ "java/lang/invoke/VarHandle" ∧ (parseMethodDescriptor yX0_fails.desc).map (fun d => d.parameters.length) = some 1 := by decide +kernel
theorem go_x_fails : GoodIn lw_all (wsV RX0 330 RX0 yX0_fails (ws_ yX0_fails cX0_fails 2 (some .int))) := lw_V q761 q763 qs30 q71 q764
theorem x_failsLong (l : Launch) (D : va_G) (ty : Nat → ClassId) (o : Nat) (ad : Nat → Nat) (ex : va_W) (Cx : (Nat → Prop) → State → Prop) (hC : CxOk Cx) (σ : Sg) (f : Int32) : xKl l yX0_failsLong cX0_failsLong 2 1 D ty Cx o ad ex σ [.int f] (fun r τ => r = (-9223372036854775808) ∧ τ = up σ 22 0 f) := by
  refine Kl.of (by decide) (Nat.le_of_ble_eq_true rfl) ?_
  intro p e s m below meth c A ls args E hK hA hX hlk hr I hl
  have hx := E.1
  have hb := E.2.1
  have hl : lv_has ls 2 [(0, .ref o), (1, .int f)] := hl
  refine lv_aload_n hx hb dX0_failsLong_0 rfl (lv_at hl 0 rfl) ?_
  refine lv_iload_n hx hb dX0_failsLong_1 rfl (lv_at hl 1 rfl) ?_
  refine x_put E hK I 22 rfl rfl q162 rfl rfl rfl dX0_failsLong_2 (fun H locs I => ?_)
  refine lv_ldc2 (v := (-9223372036854775808)) hx hb E.2.2.2.1 (E.2.2.2.2 _ q568) dX0_failsLong_5 ?_
  exact r_l E hlk hr I (Nat.le_refl 0) (Nat.le_refl 0) dX0_failsLong_8 (⟨rfl, rfl⟩)
theorem dc_x_failsLong : yX0_failsLong.cls = RX0 ∧ yX0_failsLong.cls ≠ "java/lang/invoke/MethodHandle" ∧ yX0_failsLong.cls ≠ "java/lang/invoke/VarHandle" ∧ (parseMethodDescriptor yX0_failsLong.desc).map (fun d => d.parameters.length) = some 1 := by decide +kernel
theorem go_x_failsLong : GoodIn lw_all (wsV RX0 348 RX0 yX0_failsLong (ws_ yX0_failsLong cX0_failsLong 2 (some .long))) := lw_V q848 q850 qs32 q71 q851
theorem x_trace (l : Launch) (D : va_G) (ty : Nat → ClassId) (o : Nat) (ad : Nat → Nat) (ex : va_W) (Cx : (Nat → Prop) → State → Prop) (hC : CxOk Cx) (σ : Sg) : xKi l yX0_trace cX0_trace 1 .int 1 D ty Cx o ad ex σ [] (fun r τ => r = σ 7 0 ∧ τ = σ) := by
  refine Ki.of (by decide) (Nat.le_of_ble_eq_true rfl) ?_
  intro p e s m below meth c A ls args E hK hA hX hlk hr I hl
  have hx := E.1
  have hb := E.2.1
  have hl : lv_has ls 1 [(0, .ref o)] := hl
  refine lv_aload_n hx hb dX0_trace_0 rfl (lv_at hl 0 rfl) ?_
  refine x_get E hK I 7 rfl q146 rfl dX0_trace_1 ?_
  exact r_i E hlk hr I (Nat.le_refl 0) (Nat.le_refl 0) dX0_trace_4 (⟨rfl, rfl⟩)
theorem dc_x_trace : yX0_trace.cls = RX0 ∧ yX0_trace.cls ≠ "java/lang/invoke/MethodHandle" ∧ yX0_trace.cls ≠ "java/lang/invoke/VarHandle" ∧ (parseMethodDescriptor yX0_trace.desc).map (fun d => d.parameters.length) = some 0 := by decide +kernel
theorem x_fault (l : Launch) (D : va_G) (ty : Nat → ClassId) (o : Nat) (ad : Nat → Nat) (ex : va_W) (Cx : (Nat → Prop) → State → Prop) (hC : CxOk Cx) (σ : Sg) : xKi l yX0_fault cX0_fault 1 .int 1 D ty Cx o ad ex σ [] (fun r τ => r = σ 22 0 ∧ τ = σ) := by
  refine Ki.of (by decide) (Nat.le_of_ble_eq_true rfl) ?_
  intro p e s m below meth c A ls args E hK hA hX hlk hr I hl
  have hx := E.1
  have hb := E.2.1
  have hl : lv_has ls 1 [(0, .ref o)] := hl
  refine lv_aload_n hx hb dX0_fault_0 rfl (lv_at hl 0 rfl) ?_
  refine x_get E hK I 22 rfl q162 rfl dX0_fault_1 ?_
  exact r_i E hlk hr I (Nat.le_refl 0) (Nat.le_refl 0) dX0_fault_4 (⟨rfl, rfl⟩)
theorem dc_x_fault : yX0_fault.cls = RX0 ∧ yX0_fault.cls ≠ "java/lang/invoke/MethodHandle" ∧ yX0_fault.cls ≠ "java/lang/invoke/VarHandle" ∧ (parseMethodDescriptor yX0_fault.desc).map (fun d => d.parameters.length) = some 0 := by decide +kernel
