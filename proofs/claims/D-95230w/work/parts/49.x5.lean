set_option maxRecDepth 100000
set_option maxHeartbeats 4000000
theorem x_noGroup (l : Launch) (D : va_G) (ty : Nat → ClassId) (o : Nat) (ad : Nat → Nat) (em : Nat) (g : GS) (ex : va_W) (Cy : (Nat → Prop) → State → Prop) (hC : CxOk (CxX em Cy)) (hg : gOk g) (σ : Sg) (v : Int32) : xKi l yX0_noGroup cX0_noGroup 2 .boolean 3 D ty (CxX em Cy) o ad (gE ty o (ad 8) em g ex) σ [.int v] (fun r τ => r = bI (!wi v 0 (nI g.1 - 1)) ∧ τ = σ) := by
  refine Ki.of (by decide) (Nat.le_of_ble_eq_true rfl) ?_
  intro p e s m below meth c A ls args E hK hA hX hlk hr I hl
  have hx := E.1
  have hb := E.2.1
  have hl : lv_has ls 2 [(0, .ref o), (1, .int v)] := hl
  have hg8 := hg.1
  refine lv_iload_n hx hb dX0_noGroup_0 rfl (lv_at hl 1 rfl) ?_
  refine lv_i2l hx hb dX0_noGroup_1 rfl ?_
  refine lv_lconst (v := 0) hx hb dX0_noGroup_2 (by decide) ?_
  refine top_l (y := (0 : Int32).toInt64) (by decide) ?_
  refine lv_aload_n hx hb dX0_noGroup_3 rfl (lv_at hl 0 rfl) ?_
  refine x_get E hK I 8 rfl q147 rfl dX0_noGroup_4 ?_
  refine g_size hC E hK hA hX I ⟨Nat.le_of_ble_eq_true rfl, Nat.le_of_ble_eq_true rfl⟩ ⟨Nat.le_refl 0, Nat.le_refl 0⟩ hl.1 (Nat.le_of_ble_eq_true rfl) dX0_noGroup_7 (fun H locs I => ?_)
  refine lv_iconst (v := 1) hx hb dX0_noGroup_12 (by decide) ?_
  refine lv_isub hx hb dX0_noGroup_13 ?_
  refine lv_i2l hx hb dX0_noGroup_14 rfl ?_
  refine c_Si E (x_in l v 0 ((nI g.1) - 1)) go_x_in ⟨rfl, rfl⟩ dc_x_in ⟨Nat.le_of_ble_eq_true rfl, Nat.le_of_ble_eq_true rfl⟩ ⟨Nat.le_refl 0, Nat.le_refl 0⟩ hl.1 (Nat.le_of_ble_eq_true rfl) rfl dX0_noGroup_15 (fun r15 hp => ?_)
  refine top_i (y := bI (wi v 0 ((nI g.1) - 1))) hp ?_
  refine b_ne (tgt := 25) hx hb dX0_noGroup_18 (by decide) (fun c18 => ?_) (fun c18 => ?_)
  · refine lv_iconst (v := 0) hx hb dX0_noGroup_25 (by decide) ?_
    exact r_z (b := false) E hlk hr I (Nat.le_refl 0) (Nat.le_refl 0) dX0_noGroup_26 rfl (⟨by simp [c18], rfl⟩)
  · refine lv_iconst (v := 1) hx hb dX0_noGroup_21 (by decide) ?_
    refine lv_goto (tgt := 26) hx hb dX0_noGroup_22 (by decide) ?_
    exact r_z (b := true) E hlk hr I (Nat.le_refl 0) (Nat.le_refl 0) dX0_noGroup_26 rfl (⟨by simp [c18], rfl⟩)
theorem dc_x_noGroup : yX0_noGroup.cls = RX0 ∧ yX0_noGroup.cls ≠ "java/lang/invoke/MethodHandle" ∧ yX0_noGroup.cls ≠ "java/lang/invoke/VarHandle" ∧ (parseMethodDescriptor yX0_noGroup.desc).map (fun d => d.parameters.length) = some 1 := by decide +kernel
theorem go_x_noGroup : GoodIn lw_all (wsV RX0 141 RX0 yX0_noGroup (ws_ yX0_noGroup cX0_noGroup 2 (some .boolean))) := lw_V q405 q407 qs4 q71 q408
def xWt (σ : Sg) (j : Nat) : Bool := decide (σ 11 j = 4)
def xFit (σ : Sg) (g : GS) (i t : Nat) : Bool := xFree σ t && !decide (σ 6 t < g.2.2.2.2.2 1 i)
def xFitW (σ : Sg) (g : GS) (i : Nat) (w : Bool) (t : Nat) : Bool := xFit σ g i t && (!w || decide (σ 5 t = g.2.2.2.2.2 4 i))
def xSm (σ : Sg) (g : GS) (i : Nat) (w : Bool) (n : Nat) : Option Nat := smo (xFitW σ g i w) (σ 6) n
def xFst (σ : Sg) (g : GS) (i n : Nat) : Option Nat := ffo (xFit σ g i) n 0
def xBest (σ : Sg) (g : GS) (i n : Nat) : Option Nat := if σ 1 0 = 0 then xFst σ g i n else match (if σ 1 0 = 2 then xSm σ g i true n else none) with
  | some b => some b
  | none => xSm σ g i false n
theorem oI_lt {x : Option Nat} (hx : ∀ b, x = some b → b < 1000) (h : oI x < 0) : x = none := by
  cases x with
  | none => rfl
  | some b => exact absurd h (nI_pos (by have := hx b rfl; omega))
theorem oI_ge {x : Option Nat} (h : ¬ oI x < 0) : ∃ b, x = some b := by
  cases x with
  | none => exact absurd (by decide) h
  | some b => exact ⟨b, rfl⟩
theorem xBest_lt {σ : Sg} {g : GS} {i n b : Nat} (h : xBest σ g i n = some b) : b < n := by
  unfold xBest at h
  rcases ite_or h with h | h
  · have := ffo_lt h; omega
  · split at h
    · rename_i c hc
      cases h
      rcases ite_or hc with h | h
      · exact smo_lt h
      · cases h
    · exact smo_lt h
theorem x_waitingNow (l : Launch) (D : va_G) (ty : Nat → ClassId) (o : Nat) (ad : Nat → Nat) (em : Nat) (g : GS) (ex : va_W) (Cy : (Nat → Prop) → State → Prop) (hC : CxOk (CxX em Cy)) (hg : gOk g) (σ : Sg) : xKi l yX0_waitingNow cX0_waitingNow 3 .int 3 D ty (CxX em Cy) o ad (gE ty o (ad 8) em g ex) σ [] (fun r τ => r = nI (cnt (xWt σ) g.1) ∧ τ = σ) := by
  refine Ki.of (by decide) (Nat.le_of_ble_eq_true rfl) ?_
  intro p e s m below meth c A ls args E hK hA hX hlk hr I hl
  have hx := E.1
  have hb := E.2.1
  have hl : lv_has ls 3 [(0, .ref o)] := hl
  refine nameQ (fun Q hQ => ?_)
  have hg8 := hg.1
  refine lv_iconst (v := 0) hx hb dX0_waitingNow_0 (by decide) ?_
  refine lv_istore_n (lv' := [(1, .int 0), (0, .ref o)]) hx hb dX0_waitingNow_1 rfl hl (by decide) rfl (fun ls hl => ?_)
  refine lv_iconst (v := 0) hx hb dX0_waitingNow_2 (by decide) ?_
  refine lv_istore_n (lv' := [(2, .int 0), (1, .int 0), (0, .ref o)]) hx hb dX0_waitingNow_3 rfl hl (by decide) rfl (fun ls hl => ?_)
  have L4 : ∀ j, j ≤ g.1 → ∀ (H : Heap) (locs : List Loc) (ls : Array Slot), gI s D A (gW ty o ad em g ex σ) H locs → lv_has ls 3 [(0, .ref o), (1, .int (nI (cnt (xWt σ) j))), (2, .int (nI j))] → W p l e (rmL 3) s m args below meth c H locs 0 0 Q (F0 m 4 ls []) := by
    refine dn_ind g.1 ?_ ?_
    · intro H locs ls I hl
      refine lv_iload_n hx hb dX0_waitingNow_4 rfl (lv_at hl 2 rfl) ?_
      refine lv_aload_n hx hb dX0_waitingNow_5 rfl (lv_at hl 0 rfl) ?_
      refine x_get E hK I 8 rfl q147 rfl dX0_waitingNow_6 ?_
      refine g_size hC E hK hA hX I ⟨Nat.le_of_ble_eq_true rfl, Nat.le_of_ble_eq_true rfl⟩ ⟨Nat.le_refl 0, Nat.le_refl 0⟩ hl.1 (Nat.le_of_ble_eq_true rfl) dX0_waitingNow_9 (fun H locs I => ?_)
      refine lv_icmp_ge (tgt := 41) hx hb dX0_waitingNow_14 (by decide) (fun c14 => ?_) (fun c14 => absurd c14 (fun h => h (Int32.le_refl _)))
      refine lv_iload_n hx hb dX0_waitingNow_41 rfl (lv_at hl 1 rfl) ?_
      subst hQ
      exact r_i E hlk hr I (Nat.le_refl 0) (Nat.le_refl 0) dX0_waitingNow_42 (⟨rfl, rfl⟩)
    · intro j hj ih4 H locs ls I hl
      refine lv_iload_n hx hb dX0_waitingNow_4 rfl (lv_at hl 2 rfl) ?_
      refine lv_aload_n hx hb dX0_waitingNow_5 rfl (lv_at hl 0 rfl) ?_
      refine x_get E hK I 8 rfl q147 rfl dX0_waitingNow_6 ?_
      refine g_size hC E hK hA hX I ⟨Nat.le_of_ble_eq_true rfl, Nat.le_of_ble_eq_true rfl⟩ ⟨Nat.le_refl 0, Nat.le_refl 0⟩ hl.1 (Nat.le_of_ble_eq_true rfl) dX0_waitingNow_9 (fun H locs I => ?_)
      refine lv_icmp_ge (tgt := 41) hx hb dX0_waitingNow_14 (by decide) (fun c14 => absurd c14 (nI_ge hj (by omega))) (fun c14 => ?_)
      refine lv_iload_n hx hb dX0_waitingNow_17 rfl (lv_at hl 1 rfl) ?_
      refine lv_aload_n hx hb dX0_waitingNow_18 rfl (lv_at hl 0 rfl) ?_
      refine x_get E hK I 11 rfl q150 rfl dX0_waitingNow_19 ?_
      refine lv_iload_n hx hb dX0_waitingNow_22 rfl (lv_at hl 2 rfl) ?_
      refine x_ald (i := j) E hK I 3 rfl rfl rfl dX0_waitingNow_23 (by simp only [xLn]; omega) ?_
      refine lv_iconst (v := 4) hx hb dX0_waitingNow_24 (by decide) ?_
      refine lv_icmp_ne (tgt := 32) hx hb dX0_waitingNow_25 (by decide) (fun c25 => ?_) (fun c25 => ?_)
      · refine lv_iconst (v := 0) hx hb dX0_waitingNow_32 (by decide) ?_
        refine lv_iadd hx hb dX0_waitingNow_33 ?_
        refine lv_istore_n (lv' := [(1, .int ((nI (cnt (xWt σ) j)) + 0)), (0, .ref o), (2, .int (nI j))]) hx hb dX0_waitingNow_34 rfl hl (by decide) rfl (fun ls hl => ?_)
        refine lv_iinc (v := nI (j + 1)) (lv' := [(2, .int (nI (j + 1))), (1, .int ((nI (cnt (xWt σ) j)) + 0)), (0, .ref o)]) hx hb dX0_waitingNow_35 hl (k := 2) rfl (nI_1 _) (by decide) rfl (fun ls hl => ?_)
        refine lv_goto (tgt := 4) hx hb dX0_waitingNow_38 (by decide) ?_
        exact ih4 _ _ ls (x_as I (rfl)) (lv_as (lv_sub (l' := [(0, .ref o), (1, .int ((nI (cnt (xWt σ) j)) + 0)), (2, .int (nI (j + 1)))]) hl [2, 1, 0] rfl) (by simp [cnt, xWt, nI_succ, c14, c25]))
      · refine lv_iconst (v := 1) hx hb dX0_waitingNow_28 (by decide) ?_
        refine lv_goto (tgt := 33) hx hb dX0_waitingNow_29 (by decide) ?_
        refine lv_iadd hx hb dX0_waitingNow_33 ?_
        refine lv_istore_n (lv' := [(1, .int ((nI (cnt (xWt σ) j)) + 1)), (0, .ref o), (2, .int (nI j))]) hx hb dX0_waitingNow_34 rfl hl (by decide) rfl (fun ls hl => ?_)
        refine lv_iinc (v := nI (j + 1)) (lv' := [(2, .int (nI (j + 1))), (1, .int ((nI (cnt (xWt σ) j)) + 1)), (0, .ref o)]) hx hb dX0_waitingNow_35 hl (k := 2) rfl (nI_1 _) (by decide) rfl (fun ls hl => ?_)
        refine lv_goto (tgt := 4) hx hb dX0_waitingNow_38 (by decide) ?_
        exact ih4 _ _ ls (x_as I (rfl)) (lv_as (lv_sub (l' := [(0, .ref o), (1, .int ((nI (cnt (xWt σ) j)) + 1)), (2, .int (nI (j + 1)))]) hl [2, 1, 0] rfl) (by simp [cnt, xWt, nI_succ, c14, c25]))
  exact L4 0 (Nat.zero_le _) _ _ ls (x_as I (rfl)) (lv_as (lv_sub (l' := [(0, .ref o), (1, .int 0), (2, .int 0)]) hl [2, 1, 0] rfl) (rfl))
theorem dc_x_waitingNow : yX0_waitingNow.cls = RX0 ∧ yX0_waitingNow.cls ≠ "java/lang/invoke/MethodHandle" ∧ yX0_waitingNow.cls ≠ "java/lang/invoke/VarHandle" ∧ (parseMethodDescriptor yX0_waitingNow.desc).map (fun d => d.parameters.length) = some 0 := by decide +kernel
theorem go_x_waitingNow : GoodIn lw_all (wsV RX0 178 RX0 yX0_waitingNow (ws_ yX0_waitingNow cX0_waitingNow 3 (some .int))) := lw_V q514 q516 qs17 q71 q517
theorem x_tightest (l : Launch) (D : va_G) (ty : Nat → ClassId) (o : Nat) (ad : Nat → Nat) (em : Nat) (g : GS) (ex : va_W) (Cy : (Nat → Prop) → State → Prop) (hC : CxOk (CxX em Cy)) (hg : gOk g) (σ : Sg) (i : Nat) (w : Bool) (hi : i < g.1) (T : Nat) (hT : T ≤ 6) (h0 : σ 0 0 = nI T) : xKi l yX0_tightest cX0_tightest 6 .int 4 D ty (CxX em Cy) o ad (gE ty o (ad 8) em g ex) σ [.ref (g.2.2.2.1 i), .int (bI w)] (fun r τ => r = oI (xSm σ g i w T) ∧ τ = σ) := by
  refine Ki.of (by decide) (Nat.le_of_ble_eq_true rfl) ?_
  intro p e s m below meth c A ls args E hK hA hX hlk hr I hl
  have hx := E.1
  have hb := E.2.1
  have hl : lv_has ls 6 [(0, .ref o), (1, .ref (g.2.2.2.1 i)), (2, .int (bI w))] := hl
  refine nameQ (fun Q hQ => ?_)
  have hg8 := hg.1
  refine lv_bipush (v := (-9)) hx hb dX0_tightest_0 (by decide) ?_
  refine lv_istore_n (lv' := [(3, .int (-9)), (0, .ref o), (1, .ref (g.2.2.2.1 i)), (2, .int (bI w))]) hx hb dX0_tightest_2 rfl hl (by decide) rfl (fun ls hl => ?_)
  refine lv_iconst (v := 0) hx hb dX0_tightest_3 (by decide) ?_
  refine lv_istore (lv' := [(4, .int 0), (3, .int (-9)), (0, .ref o), (1, .ref (g.2.2.2.1 i)), (2, .int (bI w))]) hx hb dX0_tightest_4 hl (by decide) rfl (fun ls hl => ?_)
  have L6 : ∀ t, t ≤ T → ∀ (H : Heap) (locs : List Loc) (ls : Array Slot), gI s D A (gW ty o ad em g ex σ) H locs → lv_has ls 6 [(0, .ref o), (1, .ref (g.2.2.2.1 i)), (2, .int (bI w)), (3, .int (oI (xSm σ g i w t))), (4, .int (nI t))] → W p l e (rmL 4) s m args below meth c H locs 0 0 Q (F0 m 6 ls []) := by
    refine dn_ind T ?_ ?_
    · intro H locs ls I hl
      refine lv_iload hx hb dX0_tightest_6 (lv_at hl 4 rfl) ?_
      refine lv_aload_n hx hb dX0_tightest_8 rfl (lv_at hl 0 rfl) ?_
      refine x_get (v := .int (nI T)) E hK I 0 rfl q138 (congrArg Value.int (h0)) dX0_tightest_9 ?_
      refine lv_icmp_ge (tgt := 101) hx hb dX0_tightest_12 (by decide) (fun c12 => ?_) (fun c12 => absurd c12 (fun h => h (Int32.le_refl _)))
      refine lv_iload_n hx hb dX0_tightest_101 rfl (lv_at hl 3 rfl) ?_
      subst hQ
      exact r_i E hlk hr I (Nat.le_refl 0) (Nat.le_refl 0) dX0_tightest_102 (⟨rfl, rfl⟩)
    · intro t ht ih6 H locs ls I hl
      refine lv_iload hx hb dX0_tightest_6 (lv_at hl 4 rfl) ?_
      refine lv_aload_n hx hb dX0_tightest_8 rfl (lv_at hl 0 rfl) ?_
      refine x_get (v := .int (nI T)) E hK I 0 rfl q138 (congrArg Value.int (h0)) dX0_tightest_9 ?_
      refine lv_icmp_ge (tgt := 101) hx hb dX0_tightest_12 (by decide) (fun c12 => absurd c12 (nI_ge ht (by omega))) (fun c12 => ?_)
      refine lv_aload_n hx hb dX0_tightest_15 rfl (lv_at hl 0 rfl) ?_
      refine lv_iload hx hb dX0_tightest_16 (lv_at hl 4 rfl) ?_
      refine x_ci hC E hK hA hX I (x_isFree l D ty o ad (gE ty o (ad 8) em g ex) (CxX em Cy) hC σ t (by omega)) go_x_isFree dc_x_isFree ⟨Nat.le_of_ble_eq_true rfl, Nat.le_of_ble_eq_true rfl⟩ ⟨Nat.le_refl 0, Nat.le_refl 0⟩ hl.1 (Nat.le_of_ble_eq_true rfl) rfl dX0_tightest_18 (fun r18 σ18 H locs hp I => ?_)
      refine top_i (y := bI (xFree σ t)) hp.1 ?_
      have I := x_as I hp.2
      refine b_eq (tgt := 60) hx hb dX0_tightest_21 (by decide) (fun c21 => ?_) (fun c21 => ?_)
      · refine lv_iconst (v := 0) hx hb dX0_tightest_60 (by decide) ?_
        refine lv_istore (lv' := [(5, .int 0), (0, .ref o), (1, .ref (g.2.2.2.1 i)), (2, .int (bI w)), (3, .int (oI (xSm σ g i w t))), (4, .int (nI t))]) hx hb dX0_tightest_61 hl (by decide) rfl (fun ls hl => ?_)
        refine lv_iload hx hb dX0_tightest_63 (lv_at hl 0 rfl) ?_
        refine lv_if_eq (tgt := 93) hx hb dX0_tightest_65 (by decide) (fun _ => ?_) (fun h => absurd h (by decide))
        refine lv_iload_n hx hb dX0_tightest_93 rfl (lv_at hl 4 rfl) ?_
        refine lv_istore_n (lv' := [(3, .int (oI (xSm σ g i w t))), (5, .int 0), (0, .ref o), (1, .ref (g.2.2.2.1 i)), (2, .int (bI w)), (4, .int (nI t))]) hx hb dX0_tightest_94 rfl hl (by decide) rfl (fun ls hl => ?_)
        refine lv_iinc (v := nI (t + 1)) (lv' := [(4, .int (nI (t + 1))), (3, .int (oI (xSm σ g i w t))), (5, .int 0), (0, .ref o), (1, .ref (g.2.2.2.1 i)), (2, .int (bI w))]) hx hb dX0_tightest_95 hl (k := 5) rfl (nI_1 _) (by decide) rfl (fun ls hl => ?_)
        refine lv_goto (tgt := 6) hx hb dX0_tightest_98 (by decide) ?_
        exact ih6 _ _ ls (x_as I (rfl)) (lv_as (lv_sub (l' := [(0, .ref o), (1, .ref (g.2.2.2.1 i)), (2, .int (bI w)), (3, .int (oI (xSm σ g i w t))), (4, .int (nI (t + 1)))]) hl [3, 4, 5, 1, 0] rfl) (by rw [show xSm σ g i w (t + 1) = xSm σ g i w t from smo_d (by simp [xFitW, xFit, c12, c21])]))
      · refine lv_aload_n hx hb dX0_tightest_24 rfl (lv_at hl 0 rfl) ?_
        refine x_get E hK I 6 rfl q144 rfl dX0_tightest_25 ?_
        refine lv_iload hx hb dX0_tightest_28 (lv_at hl 4 rfl) ?_
        refine x_ald (i := t) E hK I 1 rfl rfl rfl dX0_tightest_30 (by simp only [xLn]; omega) ?_
        refine lv_aload_n hx hb dX0_tightest_31 rfl (lv_at hl 1 rfl) ?_
        refine gf_get (i := i) E hK I hg hi 1 (by decide) q274 rfl dX0_tightest_32 ?_
        refine lv_icmp_lt (tgt := 60) hx hb dX0_tightest_35 (by decide) (fun c35 => ?_) (fun c35 => ?_)
        · refine lv_iconst (v := 0) hx hb dX0_tightest_60 (by decide) ?_
          refine lv_istore (lv' := [(5, .int 0), (0, .ref o), (1, .ref (g.2.2.2.1 i)), (2, .int (bI w)), (3, .int (oI (xSm σ g i w t))), (4, .int (nI t))]) hx hb dX0_tightest_61 hl (by decide) rfl (fun ls hl => ?_)
          refine lv_iload hx hb dX0_tightest_63 (lv_at hl 0 rfl) ?_
          refine lv_if_eq (tgt := 93) hx hb dX0_tightest_65 (by decide) (fun _ => ?_) (fun h => absurd h (by decide))
          refine lv_iload_n hx hb dX0_tightest_93 rfl (lv_at hl 4 rfl) ?_
          refine lv_istore_n (lv' := [(3, .int (oI (xSm σ g i w t))), (5, .int 0), (0, .ref o), (1, .ref (g.2.2.2.1 i)), (2, .int (bI w)), (4, .int (nI t))]) hx hb dX0_tightest_94 rfl hl (by decide) rfl (fun ls hl => ?_)
          refine lv_iinc (v := nI (t + 1)) (lv' := [(4, .int (nI (t + 1))), (3, .int (oI (xSm σ g i w t))), (5, .int 0), (0, .ref o), (1, .ref (g.2.2.2.1 i)), (2, .int (bI w))]) hx hb dX0_tightest_95 hl (k := 5) rfl (nI_1 _) (by decide) rfl (fun ls hl => ?_)
          refine lv_goto (tgt := 6) hx hb dX0_tightest_98 (by decide) ?_
          exact ih6 _ _ ls (x_as I (rfl)) (lv_as (lv_sub (l' := [(0, .ref o), (1, .ref (g.2.2.2.1 i)), (2, .int (bI w)), (3, .int (oI (xSm σ g i w t))), (4, .int (nI (t + 1)))]) hl [3, 4, 5, 1, 0] rfl) (by rw [show xSm σ g i w (t + 1) = xSm σ g i w t from smo_d (by simp [xFitW, xFit, c12, c21, c35])]))
        · refine lv_iload_n hx hb dX0_tightest_38 rfl (lv_at hl 2 rfl) ?_
          refine b_eq (tgt := 56) hx hb dX0_tightest_39 (by decide) (fun c39 => ?_) (fun c39 => ?_)
          · refine lv_iconst (v := 1) hx hb dX0_tightest_56 (by decide) ?_
            refine lv_goto (tgt := 61) hx hb dX0_tightest_57 (by decide) ?_
            refine lv_istore (lv' := [(5, .int 1), (0, .ref o), (1, .ref (g.2.2.2.1 i)), (2, .int (bI w)), (3, .int (oI (xSm σ g i w t))), (4, .int (nI t))]) hx hb dX0_tightest_61 hl (by decide) rfl (fun ls hl => ?_)
            refine lv_iload hx hb dX0_tightest_63 (lv_at hl 0 rfl) ?_
            refine lv_if_eq (tgt := 93) hx hb dX0_tightest_65 (by decide) (fun h => absurd h (by decide)) (fun _ => ?_)
            refine lv_iload_n hx hb dX0_tightest_68 rfl (lv_at hl 4 rfl) ?_
            refine lv_if_lt (tgt := 88) hx hb dX0_tightest_69 (by decide) (fun c69 => ?_) (fun c69 => ?_)
            · have hz := oI_lt (fun b h => by have := smo_lt h; omega) c69
              refine lv_iload hx hb dX0_tightest_88 (lv_at hl 5 rfl) ?_
              refine lv_goto (tgt := 94) hx hb dX0_tightest_90 (by decide) ?_
              refine lv_istore_n (lv' := [(3, .int (nI t)), (5, .int 1), (0, .ref o), (1, .ref (g.2.2.2.1 i)), (2, .int (bI w)), (4, .int (nI t))]) hx hb dX0_tightest_94 rfl hl (by decide) rfl (fun ls hl => ?_)
              refine lv_iinc (v := nI (t + 1)) (lv' := [(4, .int (nI (t + 1))), (3, .int (nI t)), (5, .int 1), (0, .ref o), (1, .ref (g.2.2.2.1 i)), (2, .int (bI w))]) hx hb dX0_tightest_95 hl (k := 5) rfl (nI_1 _) (by decide) rfl (fun ls hl => ?_)
              refine lv_goto (tgt := 6) hx hb dX0_tightest_98 (by decide) ?_
              exact ih6 _ _ ls (x_as I (rfl)) (lv_as (lv_sub (l' := [(0, .ref o), (1, .ref (g.2.2.2.1 i)), (2, .int (bI w)), (3, .int (nI t)), (4, .int (nI (t + 1)))]) hl [3, 4, 5, 1, 0] rfl) (by rw [show xSm σ g i w (t + 1) = some t from smo_a (by simp [xFitW, xFit, c12, c21, c35, c39]) hz]; rfl))
            · obtain ⟨b, hb'⟩ := oI_ge c69
              have hbl := smo_lt hb'
              refine lv_aload_n hx hb dX0_tightest_72 rfl (lv_at hl 1 rfl) ?_
              refine x_get E hK I 6 rfl q144 rfl dX0_tightest_73 ?_
              refine lv_iload hx hb dX0_tightest_76 (lv_at hl 5 rfl) ?_
              refine x_ald (i := t) E hK I 1 rfl rfl rfl dX0_tightest_78 (by simp only [xLn]; omega) ?_
              refine lv_aload_n hx hb dX0_tightest_79 rfl (lv_at hl 1 rfl) ?_
              refine x_get E hK I 6 rfl q144 rfl dX0_tightest_80 ?_
              refine lv_iload_n hx hb dX0_tightest_83 rfl (lv_at hl 4 rfl) ?_
              refine top_i (y := nI b) (by rw [hb']; rfl) ?_
              refine x_ald (i := b) E hK I 1 rfl rfl rfl dX0_tightest_84 (by simp only [xLn]; omega) ?_
              refine lv_icmp_ge (tgt := 93) hx hb dX0_tightest_85 (by decide) (fun c85 => ?_) (fun c85 => ?_)
              · refine lv_iload_n hx hb dX0_tightest_93 rfl (lv_at hl 4 rfl) ?_
                refine lv_istore_n (lv' := [(3, .int (oI (xSm σ g i w t))), (5, .int 1), (0, .ref o), (1, .ref (g.2.2.2.1 i)), (2, .int (bI w)), (4, .int (nI t))]) hx hb dX0_tightest_94 rfl hl (by decide) rfl (fun ls hl => ?_)
                refine lv_iinc (v := nI (t + 1)) (lv' := [(4, .int (nI (t + 1))), (3, .int (oI (xSm σ g i w t))), (5, .int 1), (0, .ref o), (1, .ref (g.2.2.2.1 i)), (2, .int (bI w))]) hx hb dX0_tightest_95 hl (k := 5) rfl (nI_1 _) (by decide) rfl (fun ls hl => ?_)
                refine lv_goto (tgt := 6) hx hb dX0_tightest_98 (by decide) ?_
                exact ih6 _ _ ls (x_as I (rfl)) (lv_as (lv_sub (l' := [(0, .ref o), (1, .ref (g.2.2.2.1 i)), (2, .int (bI w)), (3, .int (oI (xSm σ g i w t))), (4, .int (nI (t + 1)))]) hl [3, 4, 5, 1, 0] rfl) (by rw [show xSm σ g i w (t + 1) = xSm σ g i w t from smo_c hb' (Int32.not_lt.mpr c85)]))
              · refine lv_iload hx hb dX0_tightest_88 (lv_at hl 5 rfl) ?_
                refine lv_goto (tgt := 94) hx hb dX0_tightest_90 (by decide) ?_
                refine lv_istore_n (lv' := [(3, .int (nI t)), (5, .int 1), (0, .ref o), (1, .ref (g.2.2.2.1 i)), (2, .int (bI w)), (4, .int (nI t))]) hx hb dX0_tightest_94 rfl hl (by decide) rfl (fun ls hl => ?_)
                refine lv_iinc (v := nI (t + 1)) (lv' := [(4, .int (nI (t + 1))), (3, .int (nI t)), (5, .int 1), (0, .ref o), (1, .ref (g.2.2.2.1 i)), (2, .int (bI w))]) hx hb dX0_tightest_95 hl (k := 5) rfl (nI_1 _) (by decide) rfl (fun ls hl => ?_)
                refine lv_goto (tgt := 6) hx hb dX0_tightest_98 (by decide) ?_
                exact ih6 _ _ ls (x_as I (rfl)) (lv_as (lv_sub (l' := [(0, .ref o), (1, .ref (g.2.2.2.1 i)), (2, .int (bI w)), (3, .int (nI t)), (4, .int (nI (t + 1)))]) hl [3, 4, 5, 1, 0] rfl) (by rw [show xSm σ g i w (t + 1) = some t from smo_b (by simp [xFitW, xFit, c12, c21, c35, c39]) hb' (Int32.not_le.mp c85)]; rfl))
          · refine lv_aload_n hx hb dX0_tightest_42 rfl (lv_at hl 0 rfl) ?_
            refine x_get E hK I 5 rfl q143 rfl dX0_tightest_43 ?_
            refine lv_iload hx hb dX0_tightest_46 (lv_at hl 4 rfl) ?_
            refine x_ald (i := t) E hK I 0 rfl rfl rfl dX0_tightest_48 (by simp only [xLn]; omega) ?_
            refine lv_aload_n hx hb dX0_tightest_49 rfl (lv_at hl 1 rfl) ?_
            refine gf_get (i := i) E hK I hg hi 4 (by decide) q279 rfl dX0_tightest_50 ?_
            refine lv_icmp_ne (tgt := 60) hx hb dX0_tightest_53 (by decide) (fun c53 => ?_) (fun c53 => ?_)
            · refine lv_iconst (v := 0) hx hb dX0_tightest_60 (by decide) ?_
              refine lv_istore (lv' := [(5, .int 0), (0, .ref o), (1, .ref (g.2.2.2.1 i)), (2, .int (bI w)), (3, .int (oI (xSm σ g i w t))), (4, .int (nI t))]) hx hb dX0_tightest_61 hl (by decide) rfl (fun ls hl => ?_)
              refine lv_iload hx hb dX0_tightest_63 (lv_at hl 0 rfl) ?_
              refine lv_if_eq (tgt := 93) hx hb dX0_tightest_65 (by decide) (fun _ => ?_) (fun h => absurd h (by decide))
              refine lv_iload_n hx hb dX0_tightest_93 rfl (lv_at hl 4 rfl) ?_
              refine lv_istore_n (lv' := [(3, .int (oI (xSm σ g i w t))), (5, .int 0), (0, .ref o), (1, .ref (g.2.2.2.1 i)), (2, .int (bI w)), (4, .int (nI t))]) hx hb dX0_tightest_94 rfl hl (by decide) rfl (fun ls hl => ?_)
              refine lv_iinc (v := nI (t + 1)) (lv' := [(4, .int (nI (t + 1))), (3, .int (oI (xSm σ g i w t))), (5, .int 0), (0, .ref o), (1, .ref (g.2.2.2.1 i)), (2, .int (bI w))]) hx hb dX0_tightest_95 hl (k := 5) rfl (nI_1 _) (by decide) rfl (fun ls hl => ?_)
              refine lv_goto (tgt := 6) hx hb dX0_tightest_98 (by decide) ?_
              exact ih6 _ _ ls (x_as I (rfl)) (lv_as (lv_sub (l' := [(0, .ref o), (1, .ref (g.2.2.2.1 i)), (2, .int (bI w)), (3, .int (oI (xSm σ g i w t))), (4, .int (nI (t + 1)))]) hl [3, 4, 5, 1, 0] rfl) (by rw [show xSm σ g i w (t + 1) = xSm σ g i w t from smo_d (by simp [xFitW, xFit, c12, c21, c35, c39, c53])]))
            · refine lv_iconst (v := 1) hx hb dX0_tightest_56 (by decide) ?_
              refine lv_goto (tgt := 61) hx hb dX0_tightest_57 (by decide) ?_
              refine lv_istore (lv' := [(5, .int 1), (0, .ref o), (1, .ref (g.2.2.2.1 i)), (2, .int (bI w)), (3, .int (oI (xSm σ g i w t))), (4, .int (nI t))]) hx hb dX0_tightest_61 hl (by decide) rfl (fun ls hl => ?_)
              refine lv_iload hx hb dX0_tightest_63 (lv_at hl 0 rfl) ?_
              refine lv_if_eq (tgt := 93) hx hb dX0_tightest_65 (by decide) (fun h => absurd h (by decide)) (fun _ => ?_)
              refine lv_iload_n hx hb dX0_tightest_68 rfl (lv_at hl 4 rfl) ?_
              refine lv_if_lt (tgt := 88) hx hb dX0_tightest_69 (by decide) (fun c69 => ?_) (fun c69 => ?_)
              · have hz := oI_lt (fun b h => by have := smo_lt h; omega) c69
                refine lv_iload hx hb dX0_tightest_88 (lv_at hl 5 rfl) ?_
                refine lv_goto (tgt := 94) hx hb dX0_tightest_90 (by decide) ?_
                refine lv_istore_n (lv' := [(3, .int (nI t)), (5, .int 1), (0, .ref o), (1, .ref (g.2.2.2.1 i)), (2, .int (bI w)), (4, .int (nI t))]) hx hb dX0_tightest_94 rfl hl (by decide) rfl (fun ls hl => ?_)
                refine lv_iinc (v := nI (t + 1)) (lv' := [(4, .int (nI (t + 1))), (3, .int (nI t)), (5, .int 1), (0, .ref o), (1, .ref (g.2.2.2.1 i)), (2, .int (bI w))]) hx hb dX0_tightest_95 hl (k := 5) rfl (nI_1 _) (by decide) rfl (fun ls hl => ?_)
                refine lv_goto (tgt := 6) hx hb dX0_tightest_98 (by decide) ?_
                exact ih6 _ _ ls (x_as I (rfl)) (lv_as (lv_sub (l' := [(0, .ref o), (1, .ref (g.2.2.2.1 i)), (2, .int (bI w)), (3, .int (nI t)), (4, .int (nI (t + 1)))]) hl [3, 4, 5, 1, 0] rfl) (by rw [show xSm σ g i w (t + 1) = some t from smo_a (by simp [xFitW, xFit, c12, c21, c35, c39, c53]) hz]; rfl))
              · obtain ⟨b, hb'⟩ := oI_ge c69
                have hbl := smo_lt hb'
                refine lv_aload_n hx hb dX0_tightest_72 rfl (lv_at hl 1 rfl) ?_
                refine x_get E hK I 6 rfl q144 rfl dX0_tightest_73 ?_
                refine lv_iload hx hb dX0_tightest_76 (lv_at hl 5 rfl) ?_
                refine x_ald (i := t) E hK I 1 rfl rfl rfl dX0_tightest_78 (by simp only [xLn]; omega) ?_
                refine lv_aload_n hx hb dX0_tightest_79 rfl (lv_at hl 1 rfl) ?_
                refine x_get E hK I 6 rfl q144 rfl dX0_tightest_80 ?_
                refine lv_iload_n hx hb dX0_tightest_83 rfl (lv_at hl 4 rfl) ?_
                refine top_i (y := nI b) (by rw [hb']; rfl) ?_
                refine x_ald (i := b) E hK I 1 rfl rfl rfl dX0_tightest_84 (by simp only [xLn]; omega) ?_
                refine lv_icmp_ge (tgt := 93) hx hb dX0_tightest_85 (by decide) (fun c85 => ?_) (fun c85 => ?_)
                · refine lv_iload_n hx hb dX0_tightest_93 rfl (lv_at hl 4 rfl) ?_
                  refine lv_istore_n (lv' := [(3, .int (oI (xSm σ g i w t))), (5, .int 1), (0, .ref o), (1, .ref (g.2.2.2.1 i)), (2, .int (bI w)), (4, .int (nI t))]) hx hb dX0_tightest_94 rfl hl (by decide) rfl (fun ls hl => ?_)
                  refine lv_iinc (v := nI (t + 1)) (lv' := [(4, .int (nI (t + 1))), (3, .int (oI (xSm σ g i w t))), (5, .int 1), (0, .ref o), (1, .ref (g.2.2.2.1 i)), (2, .int (bI w))]) hx hb dX0_tightest_95 hl (k := 5) rfl (nI_1 _) (by decide) rfl (fun ls hl => ?_)
                  refine lv_goto (tgt := 6) hx hb dX0_tightest_98 (by decide) ?_
                  exact ih6 _ _ ls (x_as I (rfl)) (lv_as (lv_sub (l' := [(0, .ref o), (1, .ref (g.2.2.2.1 i)), (2, .int (bI w)), (3, .int (oI (xSm σ g i w t))), (4, .int (nI (t + 1)))]) hl [3, 4, 5, 1, 0] rfl) (by rw [show xSm σ g i w (t + 1) = xSm σ g i w t from smo_c hb' (Int32.not_lt.mpr c85)]))
                · refine lv_iload hx hb dX0_tightest_88 (lv_at hl 5 rfl) ?_
                  refine lv_goto (tgt := 94) hx hb dX0_tightest_90 (by decide) ?_
                  refine lv_istore_n (lv' := [(3, .int (nI t)), (5, .int 1), (0, .ref o), (1, .ref (g.2.2.2.1 i)), (2, .int (bI w)), (4, .int (nI t))]) hx hb dX0_tightest_94 rfl hl (by decide) rfl (fun ls hl => ?_)
                  refine lv_iinc (v := nI (t + 1)) (lv' := [(4, .int (nI (t + 1))), (3, .int (nI t)), (5, .int 1), (0, .ref o), (1, .ref (g.2.2.2.1 i)), (2, .int (bI w))]) hx hb dX0_tightest_95 hl (k := 5) rfl (nI_1 _) (by decide) rfl (fun ls hl => ?_)
                  refine lv_goto (tgt := 6) hx hb dX0_tightest_98 (by decide) ?_
                  exact ih6 _ _ ls (x_as I (rfl)) (lv_as (lv_sub (l' := [(0, .ref o), (1, .ref (g.2.2.2.1 i)), (2, .int (bI w)), (3, .int (nI t)), (4, .int (nI (t + 1)))]) hl [3, 4, 5, 1, 0] rfl) (by rw [show xSm σ g i w (t + 1) = some t from smo_b (by simp [xFitW, xFit, c12, c21, c35, c39, c53]) hb' (Int32.not_le.mp c85)]; rfl))
  exact L6 0 (Nat.zero_le _) _ _ ls (x_as I (rfl)) (lv_as (lv_sub (l' := [(0, .ref o), (1, .ref (g.2.2.2.1 i)), (2, .int (bI w)), (3, .int (-9)), (4, .int 0)]) hl [2, 3, 4, 1, 0] rfl) (rfl))
theorem dc_x_tightest : yX0_tightest.cls = RX0 ∧ yX0_tightest.cls ≠ "java/lang/invoke/MethodHandle" ∧ yX0_tightest.cls ≠ "java/lang/invoke/VarHandle" ∧ (parseMethodDescriptor yX0_tightest.desc).map (fun d => d.parameters.length) = some 2 := by decide +kernel
theorem go_x_tightest : GoodIn lw_all (wsV RX0 163 RX0 yX0_tightest (ws_ yX0_tightest cX0_tightest 6 (some .int))) := lw_V q498 q500 qs13 q71 q501
theorem x_tableFor (l : Launch) (D : va_G) (ty : Nat → ClassId) (o : Nat) (ad : Nat → Nat) (em : Nat) (g : GS) (ex : va_W) (Cy : (Nat → Prop) → State → Prop) (hC : CxOk (CxX em Cy)) (hg : gOk g) (σ : Sg) (i : Nat) (hi : i < g.1) (T : Nat) (hT : T ≤ 6) (h0 : σ 0 0 = nI T) : xKi l yX0_tableFor cX0_tableFor 3 .int 5 D ty (CxX em Cy) o ad (gE ty o (ad 8) em g ex) σ [.ref (g.2.2.2.1 i)] (fun r τ => r = oI (xBest σ g i T) ∧ τ = σ) := by
  refine Ki.of (by decide) (Nat.le_of_ble_eq_true rfl) ?_
  intro p e s m below meth c A ls args E hK hA hX hlk hr I hl
  have hx := E.1
  have hb := E.2.1
  have hl : lv_has ls 3 [(0, .ref o), (1, .ref (g.2.2.2.1 i))] := hl
  refine nameQ (fun Q hQ => ?_)
  have hg8 := hg.1
  refine lv_aload_n hx hb dX0_tableFor_0 rfl (lv_at hl 0 rfl) ?_
  refine x_get E hK I 1 rfl q139 rfl dX0_tableFor_1 ?_
  refine lv_if_ne (tgt := 49) hx hb dX0_tableFor_4 (by decide) (fun c4 => ?_) (fun c4 => ?_)
  · refine lv_aload_n hx hb dX0_tableFor_49 rfl (lv_at hl 0 rfl) ?_
    refine x_get E hK I 1 rfl q139 rfl dX0_tableFor_50 ?_
    refine lv_iconst (v := 2) hx hb dX0_tableFor_53 (by decide) ?_
    refine lv_icmp_ne (tgt := 66) hx hb dX0_tableFor_54 (by decide) (fun c54 => ?_) (fun c54 => ?_)
    · refine lv_bipush (v := (-9)) hx hb dX0_tableFor_66 (by decide) ?_
      refine lv_istore_n (lv' := [(2, .int (-9)), (0, .ref o), (1, .ref (g.2.2.2.1 i))]) hx hb dX0_tableFor_68 rfl hl (by decide) rfl (fun ls hl => ?_)
      have hm : xBest σ g i T = xSm σ g i false T := by simp [xBest, c4, c54]
      refine lv_iload_n hx hb dX0_tableFor_69 rfl (lv_at hl 0 rfl) ?_
      refine lv_if_ge (tgt := 82) hx hb dX0_tableFor_70 (by decide) (fun h => absurd h (by decide)) (fun _ => ?_)
      refine lv_aload_n hx hb dX0_tableFor_73 rfl (lv_at hl 1 rfl) ?_
      refine lv_aload_n hx hb dX0_tableFor_74 rfl (lv_at hl 2 rfl) ?_
      refine lv_iconst (v := 0) hx hb dX0_tableFor_75 (by decide) ?_
      refine x_ci hC E hK hA hX I (x_tightest l D ty o ad em g ex Cy hC hg σ i false hi T hT h0) go_x_tightest dc_x_tightest ⟨Nat.le_of_ble_eq_true rfl, Nat.le_of_ble_eq_true rfl⟩ ⟨Nat.le_refl 0, Nat.le_refl 0⟩ hl.1 (Nat.le_of_ble_eq_true rfl) rfl dX0_tableFor_76 (fun r76 σ76 H locs hp I => ?_)
      refine top_i (y := oI (xSm σ g i false T)) hp.1 ?_
      have I := x_as I hp.2
      refine lv_goto (tgt := 83) hx hb dX0_tableFor_79 (by decide) ?_
      subst hQ
      exact r_i E hlk hr I (Nat.le_refl 0) (Nat.le_refl 0) dX0_tableFor_83 (⟨by rw [hm], rfl⟩)
    · refine lv_aload_n hx hb dX0_tableFor_57 rfl (lv_at hl 0 rfl) ?_
      refine lv_aload_n hx hb dX0_tableFor_58 rfl (lv_at hl 1 rfl) ?_
      refine lv_iconst (v := 1) hx hb dX0_tableFor_59 (by decide) ?_
      refine x_ci hC E hK hA hX I (x_tightest l D ty o ad em g ex Cy hC hg σ i true hi T hT h0) go_x_tightest dc_x_tightest ⟨Nat.le_of_ble_eq_true rfl, Nat.le_of_ble_eq_true rfl⟩ ⟨Nat.le_refl 0, Nat.le_refl 0⟩ hl.1 (Nat.le_of_ble_eq_true rfl) rfl dX0_tableFor_60 (fun r60 σ60 H locs hp I => ?_)
      refine top_i (y := oI (xSm σ g i true T)) hp.1 ?_
      have I := x_as I hp.2
      refine lv_goto (tgt := 68) hx hb dX0_tableFor_63 (by decide) ?_
      refine lv_istore_n (lv' := [(2, .int (oI (xSm σ g i true T))), (0, .ref o), (1, .ref (g.2.2.2.1 i))]) hx hb dX0_tableFor_68 rfl hl (by decide) rfl (fun ls hl => ?_)
      refine lv_iload_n hx hb dX0_tableFor_69 rfl (lv_at hl 0 rfl) ?_
      refine lv_if_ge (tgt := 82) hx hb dX0_tableFor_70 (by decide) (fun c70 => ?_) (fun c70 => ?_)
      · obtain ⟨b, hb'⟩ := oI_ge (Int32.not_lt.mpr c70)
        have hm : xBest σ g i T = xSm σ g i true T := by simp [xBest, c54, hb']
        refine lv_iload_n hx hb dX0_tableFor_82 rfl (lv_at hl 0 rfl) ?_
        subst hQ
        exact r_i E hlk hr I (Nat.le_refl 0) (Nat.le_refl 0) dX0_tableFor_83 (⟨by rw [hm], rfl⟩)
      · have hz := oI_lt (fun b h => by have := smo_lt h; omega) (Int32.not_le.mp c70)
        have hm : xBest σ g i T = xSm σ g i false T := by simp [xBest, c4, c54, hz]
        refine lv_aload_n hx hb dX0_tableFor_73 rfl (lv_at hl 1 rfl) ?_
        refine lv_aload_n hx hb dX0_tableFor_74 rfl (lv_at hl 2 rfl) ?_
        refine lv_iconst (v := 0) hx hb dX0_tableFor_75 (by decide) ?_
        refine x_ci hC E hK hA hX I (x_tightest l D ty o ad em g ex Cy hC hg σ i false hi T hT h0) go_x_tightest dc_x_tightest ⟨Nat.le_of_ble_eq_true rfl, Nat.le_of_ble_eq_true rfl⟩ ⟨Nat.le_refl 0, Nat.le_refl 0⟩ hl.1 (Nat.le_of_ble_eq_true rfl) rfl dX0_tableFor_76 (fun r76 σ76 H locs hp I => ?_)
        refine top_i (y := oI (xSm σ g i false T)) hp.1 ?_
        have I := x_as I hp.2
        refine lv_goto (tgt := 83) hx hb dX0_tableFor_79 (by decide) ?_
        subst hQ
        exact r_i E hlk hr I (Nat.le_refl 0) (Nat.le_refl 0) dX0_tableFor_83 (⟨by rw [hm], rfl⟩)
  · refine lv_iconst (v := 0) hx hb dX0_tableFor_7 (by decide) ?_
    refine lv_istore_n (lv' := [(2, .int 0), (0, .ref o), (1, .ref (g.2.2.2.1 i))]) hx hb dX0_tableFor_8 rfl hl (by decide) rfl (fun ls hl => ?_)
    have L9 : ∀ t, t ≤ T → (xFst σ g i T = ffo (xFit σ g i) (T - t) t) → ∀ (H : Heap) (locs : List Loc) (ls : Array Slot), gI s D A (gW ty o ad em g ex σ) H locs → lv_has ls 3 [(0, .ref o), (1, .ref (g.2.2.2.1 i)), (2, .int (nI t))] → W p l e (rmL 5) s m args below meth c H locs 0 0 Q (F0 m 9 ls []) := by
      refine dn_ind T ?_ ?_
      · intro hn H locs ls I hl
        refine lv_iload_n hx hb dX0_tableFor_9 rfl (lv_at hl 2 rfl) ?_
        refine lv_aload_n hx hb dX0_tableFor_10 rfl (lv_at hl 0 rfl) ?_
        refine x_get (v := .int (nI T)) E hK I 0 rfl q138 (congrArg Value.int (h0)) dX0_tableFor_11 ?_
        refine lv_icmp_ge (tgt := 46) hx hb dX0_tableFor_14 (by decide) (fun c14 => ?_) (fun c14 => absurd c14 (fun h => h (Int32.le_refl _)))
        refine lv_bipush (v := (-9)) hx hb dX0_tableFor_46 (by decide) ?_
        subst hQ
        exact r_i E hlk hr I (Nat.le_refl 0) (Nat.le_refl 0) dX0_tableFor_48 (⟨by rw [xBest, if_pos c4, hn, Nat.sub_self]; rfl, rfl⟩)
      · intro t ht ih9 hn H locs ls I hl
        refine lv_iload_n hx hb dX0_tableFor_9 rfl (lv_at hl 2 rfl) ?_
        refine lv_aload_n hx hb dX0_tableFor_10 rfl (lv_at hl 0 rfl) ?_
        refine x_get (v := .int (nI T)) E hK I 0 rfl q138 (congrArg Value.int (h0)) dX0_tableFor_11 ?_
        refine lv_icmp_ge (tgt := 46) hx hb dX0_tableFor_14 (by decide) (fun c14 => absurd c14 (nI_ge ht (by omega))) (fun c14 => ?_)
        refine lv_aload_n hx hb dX0_tableFor_17 rfl (lv_at hl 0 rfl) ?_
        refine lv_iload_n hx hb dX0_tableFor_18 rfl (lv_at hl 2 rfl) ?_
        refine x_ci hC E hK hA hX I (x_isFree l D ty o ad (gE ty o (ad 8) em g ex) (CxX em Cy) hC σ t (by omega)) go_x_isFree dc_x_isFree ⟨Nat.le_of_ble_eq_true rfl, Nat.le_of_ble_eq_true rfl⟩ ⟨Nat.le_refl 0, Nat.le_refl 0⟩ hl.1 (Nat.le_of_ble_eq_true rfl) rfl dX0_tableFor_19 (fun r19 σ19 H locs hp I => ?_)
        refine top_i (y := bI (xFree σ t)) hp.1 ?_
        have I := x_as I hp.2
        refine b_eq (tgt := 40) hx hb dX0_tableFor_22 (by decide) (fun c22 => ?_) (fun c22 => ?_)
        · refine lv_iinc (v := nI (t + 1)) (lv' := [(2, .int (nI (t + 1))), (0, .ref o), (1, .ref (g.2.2.2.1 i))]) hx hb dX0_tableFor_40 hl (k := 2) rfl (nI_1 _) (by decide) rfl (fun ls hl => ?_)
          refine lv_goto (tgt := 9) hx hb dX0_tableFor_43 (by decide) ?_
          exact ih9 (hn.trans (ffo_f ht (by simp [xFit, c22]))) _ _ ls (x_as I (rfl)) (lv_as (lv_sub (l' := [(0, .ref o), (1, .ref (g.2.2.2.1 i)), (2, .int (nI (t + 1)))]) hl [1, 2, 0] rfl) (rfl))
        · refine lv_aload_n hx hb dX0_tableFor_25 rfl (lv_at hl 0 rfl) ?_
          refine x_get E hK I 6 rfl q144 rfl dX0_tableFor_26 ?_
          refine lv_iload_n hx hb dX0_tableFor_29 rfl (lv_at hl 2 rfl) ?_
          refine x_ald (i := t) E hK I 1 rfl rfl rfl dX0_tableFor_30 (by simp only [xLn]; omega) ?_
          refine lv_aload_n hx hb dX0_tableFor_31 rfl (lv_at hl 1 rfl) ?_
          refine gf_get (i := i) E hK I hg hi 1 (by decide) q274 rfl dX0_tableFor_32 ?_
          refine lv_icmp_lt (tgt := 40) hx hb dX0_tableFor_35 (by decide) (fun c35 => ?_) (fun c35 => ?_)
          · refine lv_iinc (v := nI (t + 1)) (lv' := [(2, .int (nI (t + 1))), (0, .ref o), (1, .ref (g.2.2.2.1 i))]) hx hb dX0_tableFor_40 hl (k := 2) rfl (nI_1 _) (by decide) rfl (fun ls hl => ?_)
            refine lv_goto (tgt := 9) hx hb dX0_tableFor_43 (by decide) ?_
            exact ih9 (hn.trans (ffo_f ht (by simp [xFit, c22, c35]))) _ _ ls (x_as I (rfl)) (lv_as (lv_sub (l' := [(0, .ref o), (1, .ref (g.2.2.2.1 i)), (2, .int (nI (t + 1)))]) hl [1, 2, 0] rfl) (rfl))
          · refine lv_iload_n hx hb dX0_tableFor_38 rfl (lv_at hl 2 rfl) ?_
            subst hQ
            exact r_i E hlk hr I (Nat.le_refl 0) (Nat.le_refl 0) dX0_tableFor_39 (⟨by rw [xBest, if_pos c4, hn, ffo_t ht (by simp [xFit, c22, c35])]; rfl, rfl⟩)
    exact L9 0 (Nat.zero_le _) (rfl) _ _ ls (x_as I (rfl)) (lv_as (lv_sub (l' := [(0, .ref o), (1, .ref (g.2.2.2.1 i)), (2, .int 0)]) hl [1, 2, 0] rfl) (rfl))
theorem dc_x_tableFor : yX0_tableFor.cls = RX0 ∧ yX0_tableFor.cls ≠ "java/lang/invoke/MethodHandle" ∧ yX0_tableFor.cls ≠ "java/lang/invoke/VarHandle" ∧ (parseMethodDescriptor yX0_tableFor.desc).map (fun d => d.parameters.length) = some 1 := by decide +kernel
theorem go_x_tableFor : GoodIn lw_all (wsV RX0 167 RX0 yX0_tableFor (ws_ yX0_tableFor cX0_tableFor 3 (some .int))) := lw_V q490 q492 qs11 q71 q493
