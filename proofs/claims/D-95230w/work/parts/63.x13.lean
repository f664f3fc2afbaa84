set_option maxRecDepth 100000
set_option maxHeartbeats 4000000
theorem x_tell (l : Launch) (D : va_G) (ty : Nat → ClassId) (o : Nat) (ad : Nat → Nat) (em : Nat) (g : GS) (ex : va_W) (Cy : (Nat → Prop) → State → Prop) (hC : CxOk (CxX em Cy)) (hg : gOk g) (σ : Sg) (v : Int32) : xKi l yX0_tell cX0_tell 2 .int 6 D ty (CxX em Cy) o ad (gE ty o (ad 8) em g ex) σ [.int v] (fun r τ => r = (if wi v 0 (nI g.1 - 1) then gSaidR g (v).toNatClampNeg else (-1)) ∧ τ = if wi v 0 (nI g.1 - 1) then gSaidS σ g (v).toNatClampNeg else σ) := by
  refine Ki.of (by decide) (Nat.le_of_ble_eq_true rfl) ?_
  intro p e s m below meth c A ls args E hK hA hX hlk hr I hl
  have hx := E.1
  have hb := E.2.1
  have hl : lv_has ls 2 [(0, .ref o), (1, .int v)] := hl
  have hg8 := hg.1
  refine lv_aload_n hx hb dX0_tell_0 rfl (lv_at hl 0 rfl) ?_
  refine lv_iload_n hx hb dX0_tell_1 rfl (lv_at hl 1 rfl) ?_
  refine x_ci hC E hK hA hX I (x_noGroup l D ty o ad em g ex Cy hC hg σ v) go_x_noGroup dc_x_noGroup ⟨Nat.le_of_ble_eq_true rfl, Nat.le_of_ble_eq_true rfl⟩ ⟨Nat.le_refl 0, Nat.le_refl 0⟩ hl.1 (Nat.le_of_ble_eq_true rfl) rfl dX0_tell_2 (fun r2 σ2 H locs hp I => ?_)
  refine top_i (y := bI (!wi v 0 (nI g.1 - 1))) hp.1 ?_
  have I := x_as I hp.2
  refine b_eq (tgt := 12) hx hb dX0_tell_5 (by decide) (fun c5 => ?_) (fun c5 => ?_)
  · obtain ⟨j, hj, ej⟩ := wi_idx (i := v) (n := g.1) (by omega) (by simpa using c5)
    subst ej
    refine lv_aload_n hx hb dX0_tell_12 rfl (lv_at hl 0 rfl) ?_
    refine x_get E hK I 8 rfl q147 rfl dX0_tell_13 ?_
    refine lv_iload_n hx hb dX0_tell_16 rfl (lv_at hl 1 rfl) ?_
    refine g_lget (i := j) hC hg E hK hA hX I hj ⟨Nat.le_of_ble_eq_true rfl, Nat.le_of_ble_eq_true rfl⟩ ⟨Nat.le_refl 0, Nat.le_refl 0⟩ hl.1 (Nat.le_of_ble_eq_true rfl) dX0_tell_17 (fun H locs I => ?_)
    refine g_cast (i := j) E hK hX I hg hj q260 dX0_tell_22 ?_
    refine g_said (i := j) q997 hC hg E hK hA hX I hj ⟨Nat.le_of_ble_eq_true rfl, Nat.le_of_ble_eq_true rfl⟩ ⟨Nat.le_refl 0, Nat.le_refl 0⟩ hl.1 (Nat.le_of_ble_eq_true rfl) dX0_tell_25 (fun H locs I => ?_)
    exact r_i E hlk hr I (Nat.le_refl 0) (Nat.le_refl 0) dX0_tell_28 (⟨by simp at c5; simp only [c5, if_true, nI_clamp (show j < 2 ^ 31 by omega)], by simp at c5; simp only [c5, if_true, nI_clamp (show j < 2 ^ 31 by omega)]⟩)
  · refine lv_iconst (v := (-1)) hx hb dX0_tell_8 (by decide) ?_
    refine lv_goto (tgt := 28) hx hb dX0_tell_9 (by decide) ?_
    exact r_i E hlk hr I (Nat.le_refl 0) (Nat.le_refl 0) dX0_tell_28 (⟨by simp at c5; simp [c5], by simp at c5; simp [c5]⟩)
theorem dc_x_tell : yX0_tell.cls = RX0 ∧ yX0_tell.cls ≠ "java/lang/invoke/MethodHandle" ∧ yX0_tell.cls ≠ "java/lang/invoke/VarHandle" ∧ (parseMethodDescriptor yX0_tell.desc).map (fun d => d.parameters.length) = some 1 := by decide +kernel
theorem x_noSheet (l : Launch) (v : Int32) : Pi l yX0_noSheet cX0_noSheet 1 .boolean (rmL 2) [.int v] (fun r => r = bI (!wi v 0 3)) := by
  refine Pi.of (by decide) (Nat.le_of_ble_eq_true rfl) ?_
  intro p e s m below meth c ls args E hlk hr hl
  have hx := E.1
  have hb := E.2.1
  have hl : lv_has ls 1 [(0, .int v)] := hl
  refine lv_iload_n hx hb dX0_noSheet_0 rfl (lv_at hl 0 rfl) ?_
  refine lv_i2l hx hb dX0_noSheet_1 rfl ?_
  refine lv_lconst (v := 0) hx hb dX0_noSheet_2 (by decide) ?_
  refine top_l (y := (0 : Int32).toInt64) (by decide) ?_
  refine lv_ldc2 (v := 3) hx hb E.2.2.2.1 (E.2.2.2.2 _ q602) dX0_noSheet_3 ?_
  refine top_l (y := (3 : Int32).toInt64) (by decide) ?_
  refine c_Si E (x_in l v 0 3) go_x_in ⟨rfl, rfl⟩ dc_x_in ⟨Nat.le_of_ble_eq_true rfl, Nat.le_of_ble_eq_true rfl⟩ ⟨Nat.le_refl 0, Nat.le_refl 0⟩ hl.1 (Nat.le_of_ble_eq_true rfl) rfl dX0_noSheet_6 (fun r6 hp => ?_)
  refine top_i (y := bI (wi v 0 3)) hp ?_
  refine b_ne (tgt := 16) hx hb dX0_noSheet_9 (by decide) (fun c9 => ?_) (fun c9 => ?_)
  · refine lv_iconst (v := 0) hx hb dX0_noSheet_16 (by decide) ?_
    exact s_z (b := false) E hlk hr dX0_noSheet_17 rfl (by simp [c9])
  · refine lv_iconst (v := 1) hx hb dX0_noSheet_12 (by decide) ?_
    refine lv_goto (tgt := 17) hx hb dX0_noSheet_13 (by decide) ?_
    exact s_z (b := true) E hlk hr dX0_noSheet_17 rfl (by simp [c9])
theorem dc_x_noSheet : yX0_noSheet.cls ≠ "java/lang/invoke/MethodHandle" ∧ yX0_noSheet.cls ≠ "java/lang/invoke/VarHandle" ∧ (parseMethodDescriptor yX0_noSheet.desc).map (fun d => d.parameters.length) = some 1 := by decide +kernel
theorem go_x_noSheet : GoodIn lw_all (va_wsS RX0 315 yX0_noSheet (ws_ yX0_noSheet cX0_noSheet 1 (some .boolean))) := lw_S q740 q741 q71 q742
