set_option maxRecDepth 100000
set_option maxHeartbeats 4000000
def xBg1 (σ : Sg) (v : Int32) (j : Nat) : Sg := up (up (up (up (up σ 11 j (if nI j = v then 2 else -1)) 12 j (-9)) 13 j (-9)) 14 j (-9)) 15 j 0
def xBg (v : Int32) (σ : Sg) : Nat → Sg
  | 0 => σ
  | j + 1 => xBg1 (xBg v σ j) v j
/-- the day begins -/
def xBegin (σ : Sg) (v : Int32) : Sg := xBg v (up (xFil σ 9 (-9) 6) 10 0 (bI false)) 8
theorem xBg_k {k : Nat} (h : k < 9 ∨ 15 < k) (v : Int32) (σ : Sg) : ∀ j, xBg v σ j k = σ k
  | 0 => rfl
  | j + 1 => by rw [xBg, xBg1, up_rk (by omega), up_rk (by omega), up_rk (by omega), up_rk (by omega), up_rk (by omega), xBg_k h]
theorem xBegin_k {k : Nat} (h : k < 9 ∨ 15 < k) (σ : Sg) (v : Int32) : xBegin σ v k = σ k := by
  rw [xBegin, xBg_k h, up_rk (by omega), xFil_k (by omega)]
def xLv1 (q T : Nat) (σ : Sg) (i : Nat) : Sg := if σ 11 i = 3 ∧ σ 14 i = nI q then xGoes σ i (nI q) T else σ
def xLv (q T : Nat) (σ : Sg) : Nat → Sg
  | 0 => σ
  | i + 1 => xLv1 q T (xLv q T σ i) i
theorem xLv_k {k : Nat} (h : k < 9 ∨ 15 < k) (q T : Nat) (σ : Sg) : ∀ i, xLv q T σ i k = σ k
  | 0 => rfl
  | i + 1 => by
    rw [xLv, xLv1]
    split
    · rw [xGoes_k h, xLv_k h]
    · exact xLv_k h q T σ i
def xWet (σ : Sg) (g : GS) (q T : Nat) : Sg := if nI q = σ 4 0 then xRain σ g q T else σ
theorem xWet_k {k : Nat} (h : k < 9 ∨ 15 < k) (σ : Sg) (g : GS) (q T : Nat) : xWet σ g q T k = σ k := by
  unfold xWet
  split
  · exact xRain_k h σ g q T
  · rfl
/-- one minute -/
def xMin (σ : Sg) (g : GS) (q T : Nat) : Sg := xCm g q T (xLw g q T 8 (xWet (xLv q T σ g.1) g q T) 0) g.1
theorem xMin_k {k : Nat} (h : k < 9 ∨ 15 < k) (σ : Sg) (g : GS) (q T : Nat) : xMin σ g q T k = σ k := by
  rw [xMin, xCm_k h, xLw_k h, xWet_k h, xLv_k h]
def xDy (g : GS) (T : Nat) (σ : Sg) : Nat → Sg
  | 0 => σ
  | q + 1 => xMin (xDy g T σ q) g q T
theorem xDy_k {k : Nat} (h : k < 9 ∨ 15 < k) (g : GS) (T : Nat) (σ : Sg) : ∀ q, xDy g T σ q k = σ k
  | 0 => rfl
  | q + 1 => by rw [xDy, xMin_k h, xDy_k h]
def xTo (σ : Sg) (g : GS) (T n : Nat) (v : Int32) : Sg := xDy g T (xBegin σ v) (n + 1)
theorem xTo_k {k : Nat} (h : k < 9 ∨ 15 < k) (σ : Sg) (g : GS) (T n : Nat) (v : Int32) : xTo σ g T n v k = σ k := by
  rw [xTo, xDy_k h, xBegin_k h]
def xCo (σ : Sg) (g : GS) (i : Nat) : Int32 := if σ 11 i = 0 then gCo g i (σ 14 i - σ 13 i) else 0
def xSum (σ : Sg) (g : GS) : Nat → Int32
  | 0 => 0
  | i + 1 => xSum σ g i + xCo σ g i
theorem nI_ltS {n : Nat} (h : n < 1000) : nI n < nI (n + 1) := Int32.not_le.mp (nI_ge (Nat.lt_succ_self n) (by omega))
def xDayR (σ : Sg) (g : GS) (j : Nat) (w : Int32) : Int32 := if w = 0 then σ 11 j else if w = 1 then σ 12 j else if w = 2 then σ 13 j else if w = 3 then σ 14 j else if w = 4 then xCo σ g j else if w = 5 then (if σ 11 j = 0 then σ 13 j else σ 15 j) - g.2.2.2.2.2 2 j else (-2)
theorem x_beginDay (l : Launch) (D : va_G) (ty : Nat → ClassId) (o : Nat) (ad : Nat → Nat) (em : Nat) (g : GS) (ex : va_W) (Cy : (Nat → Prop) → State → Prop) (hC : CxOk (CxX em Cy)) (hg : gOk g) (σ : Sg) (v : Int32) : xKv l yX0_beginDay cX0_beginDay 3 2 D ty (CxX em Cy) o ad (gE ty o (ad 8) em g ex) σ [.int v] (fun τ => τ = xBegin σ v) := by
  refine Kv.of (by decide) (Nat.le_of_ble_eq_true rfl) ?_
  intro p e s m below meth c A ls args E hK hA hX hlk hr hnm I hl
  have hx := E.1
  have hb := E.2.1
  have hl : lv_has ls 3 [(0, .ref o), (1, .int v)] := hl
  refine nameQ (fun Q hQ => ?_)
  have hg8 := hg.1
  refine lv_aload_n hx hb dX0_beginDay_0 rfl (lv_at hl 0 rfl) ?_
  refine x_get E hK I 9 rfl q148 rfl dX0_beginDay_1 ?_
  refine lv_bipush (v := (-9)) hx hb dX0_beginDay_4 (by decide) ?_
  refine c_Tv (As := [.ref (ad 9), .int (-9)]) hC E hK hA hX I (x_fill l D ty o ad (gE ty o (ad 8) em g ex) (CxX em Cy) σ 2 9 rfl rfl (-9)) go_fill dc_fill ⟨Nat.le_of_ble_eq_true rfl, Nat.le_of_ble_eq_true rfl⟩ ⟨Nat.le_refl 0, Nat.le_refl 0⟩ hl.1 (Nat.le_of_ble_eq_true rfl) rfl dX0_beginDay_6 (fun σ6 H locs hp I => ?_)
  have I := x_as I (show _ = xFil σ 9 (-9) 6 from hp)
  refine lv_aload_n hx hb dX0_beginDay_9 rfl (lv_at hl 0 rfl) ?_
  refine lv_iconst (v := 0) hx hb dX0_beginDay_10 (by decide) ?_
  refine x_put (v := bI false) E hK I 10 rfl rfl q149 rfl (bI_nar _) (bI_fit _) dX0_beginDay_11 (fun H locs I => ?_)
  obtain ⟨s1, hs1⟩ : ∃ z, z = up (xFil σ 9 (-9) 6) 10 0 (bI false) := ⟨_, rfl⟩
  have I := x_as I hs1.symm
  refine lv_iconst (v := 0) hx hb dX0_beginDay_14 (by decide) ?_
  refine lv_istore_n (lv' := [(2, .int 0), (0, .ref o), (1, .int v)]) hx hb dX0_beginDay_15 rfl hl (by decide) rfl (fun ls hl => ?_)
  have L16 : ∀ j, j ≤ 8 → ∀ (H : Heap) (locs : List Loc) (ls : Array Slot), gI s D A (gW ty o ad em g ex (xBg v s1 j)) H locs → lv_has ls 3 [(0, .ref o), (1, .int v), (2, .int (nI j))] → W p l e (rmL 2) s m args below meth c H locs 0 0 Q (F0 m 16 ls []) := by
    refine dn_ind 8 ?_ ?_
    · intro H locs ls I hl
      refine lv_iload_n hx hb dX0_beginDay_16 rfl (lv_at hl 2 rfl) ?_
      refine lv_bipush (v := 8) hx hb dX0_beginDay_17 (by decide) ?_
      refine top_i (y := nI 8) (by decide) ?_
      refine lv_icmp_ge (tgt := 75) hx hb dX0_beginDay_19 (by decide) (fun c19 => ?_) (fun c19 => absurd c19 (fun h => h (Int32.le_refl _)))
      subst hQ
      exact r_v E hlk hr I (Nat.le_refl 0) (Nat.le_refl 0) dX0_beginDay_75 (by rw [hs1]; rfl)
    · intro j hj ih16 H locs ls I hl
      refine lv_iload_n hx hb dX0_beginDay_16 rfl (lv_at hl 2 rfl) ?_
      refine lv_bipush (v := 8) hx hb dX0_beginDay_17 (by decide) ?_
      refine top_i (y := nI 8) (by decide) ?_
      refine lv_icmp_ge (tgt := 75) hx hb dX0_beginDay_19 (by decide) (fun c19 => absurd c19 (nI_ge hj (by omega))) (fun c19 => ?_)
      refine lv_aload_n hx hb dX0_beginDay_22 rfl (lv_at hl 0 rfl) ?_
      refine x_get E hK I 11 rfl q150 rfl dX0_beginDay_23 ?_
      refine lv_iload_n hx hb dX0_beginDay_26 rfl (lv_at hl 2 rfl) ?_
      refine lv_iload_n hx hb dX0_beginDay_27 rfl (lv_at hl 2 rfl) ?_
      refine lv_iload_n hx hb dX0_beginDay_28 rfl (lv_at hl 1 rfl) ?_
      refine lv_icmp_ne (tgt := 36) hx hb dX0_beginDay_29 (by decide) (fun c29 => ?_) (fun c29 => ?_)
      · refine lv_iconst (v := (-1)) hx hb dX0_beginDay_36 (by decide) ?_
        refine x_ast (i := j) E hK I 3 rfl rfl rfl dX0_beginDay_37 (by simp only [xLn]; omega) (fun H locs I => ?_)
        refine lv_aload_n hx hb dX0_beginDay_38 rfl (lv_at hl 0 rfl) ?_
        refine x_get E hK I 12 rfl q151 rfl dX0_beginDay_39 ?_
        refine lv_iload_n hx hb dX0_beginDay_42 rfl (lv_at hl 2 rfl) ?_
        refine lv_bipush (v := (-9)) hx hb dX0_beginDay_43 (by decide) ?_
        refine x_ast (i := j) E hK I 4 rfl rfl rfl dX0_beginDay_45 (by simp only [xLn]; omega) (fun H locs I => ?_)
        refine lv_aload_n hx hb dX0_beginDay_46 rfl (lv_at hl 0 rfl) ?_
        refine x_get E hK I 13 rfl q152 rfl dX0_beginDay_47 ?_
        refine lv_iload_n hx hb dX0_beginDay_50 rfl (lv_at hl 2 rfl) ?_
        refine lv_bipush (v := (-9)) hx hb dX0_beginDay_51 (by decide) ?_
        refine x_ast (i := j) E hK I 5 rfl rfl rfl dX0_beginDay_53 (by simp only [xLn]; omega) (fun H locs I => ?_)
        refine lv_aload_n hx hb dX0_beginDay_54 rfl (lv_at hl 0 rfl) ?_
        refine x_get E hK I 14 rfl q153 rfl dX0_beginDay_55 ?_
        refine lv_iload_n hx hb dX0_beginDay_58 rfl (lv_at hl 2 rfl) ?_
        refine lv_bipush (v := (-9)) hx hb dX0_beginDay_59 (by decide) ?_
        refine x_ast (i := j) E hK I 6 rfl rfl rfl dX0_beginDay_61 (by simp only [xLn]; omega) (fun H locs I => ?_)
        refine lv_aload_n hx hb dX0_beginDay_62 rfl (lv_at hl 0 rfl) ?_
        refine x_get E hK I 15 rfl q154 rfl dX0_beginDay_63 ?_
        refine lv_iload_n hx hb dX0_beginDay_66 rfl (lv_at hl 2 rfl) ?_
        refine lv_iconst (v := 0) hx hb dX0_beginDay_67 (by decide) ?_
        refine x_ast (i := j) E hK I 7 rfl rfl rfl dX0_beginDay_68 (by simp only [xLn]; omega) (fun H locs I => ?_)
        refine lv_iinc (v := nI (j + 1)) (lv' := [(2, .int (nI (j + 1))), (0, .ref o), (1, .int v)]) hx hb dX0_beginDay_69 hl (k := 2) rfl (nI_1 _) (by decide) rfl (fun ls hl => ?_)
        refine lv_goto (tgt := 16) hx hb dX0_beginDay_72 (by decide) ?_
        exact ih16 _ _ ls (x_as I (by simp [xBg, xBg1, c29])) (lv_as (lv_sub (l' := [(0, .ref o), (1, .int v), (2, .int (nI (j + 1)))]) hl [1, 2, 0] rfl) (rfl))
      · refine lv_iconst (v := 2) hx hb dX0_beginDay_32 (by decide) ?_
        refine lv_goto (tgt := 37) hx hb dX0_beginDay_33 (by decide) ?_
        refine x_ast (i := j) E hK I 3 rfl rfl rfl dX0_beginDay_37 (by simp only [xLn]; omega) (fun H locs I => ?_)
        refine lv_aload_n hx hb dX0_beginDay_38 rfl (lv_at hl 0 rfl) ?_
        refine x_get E hK I 12 rfl q151 rfl dX0_beginDay_39 ?_
        refine lv_iload_n hx hb dX0_beginDay_42 rfl (lv_at hl 2 rfl) ?_
        refine lv_bipush (v := (-9)) hx hb dX0_beginDay_43 (by decide) ?_
        refine x_ast (i := j) E hK I 4 rfl rfl rfl dX0_beginDay_45 (by simp only [xLn]; omega) (fun H locs I => ?_)
        refine lv_aload_n hx hb dX0_beginDay_46 rfl (lv_at hl 0 rfl) ?_
        refine x_get E hK I 13 rfl q152 rfl dX0_beginDay_47 ?_
        refine lv_iload_n hx hb dX0_beginDay_50 rfl (lv_at hl 2 rfl) ?_
        refine lv_bipush (v := (-9)) hx hb dX0_beginDay_51 (by decide) ?_
        refine x_ast (i := j) E hK I 5 rfl rfl rfl dX0_beginDay_53 (by simp only [xLn]; omega) (fun H locs I => ?_)
        refine lv_aload_n hx hb dX0_beginDay_54 rfl (lv_at hl 0 rfl) ?_
        refine x_get E hK I 14 rfl q153 rfl dX0_beginDay_55 ?_
        refine lv_iload_n hx hb dX0_beginDay_58 rfl (lv_at hl 2 rfl) ?_
        refine lv_bipush (v := (-9)) hx hb dX0_beginDay_59 (by decide) ?_
        refine x_ast (i := j) E hK I 6 rfl rfl rfl dX0_beginDay_61 (by simp only [xLn]; omega) (fun H locs I => ?_)
        refine lv_aload_n hx hb dX0_beginDay_62 rfl (lv_at hl 0 rfl) ?_
        refine x_get E hK I 15 rfl q154 rfl dX0_beginDay_63 ?_
        refine lv_iload_n hx hb dX0_beginDay_66 rfl (lv_at hl 2 rfl) ?_
        refine lv_iconst (v := 0) hx hb dX0_beginDay_67 (by decide) ?_
        refine x_ast (i := j) E hK I 7 rfl rfl rfl dX0_beginDay_68 (by simp only [xLn]; omega) (fun H locs I => ?_)
        refine lv_iinc (v := nI (j + 1)) (lv' := [(2, .int (nI (j + 1))), (0, .ref o), (1, .int v)]) hx hb dX0_beginDay_69 hl (k := 2) rfl (nI_1 _) (by decide) rfl (fun ls hl => ?_)
        refine lv_goto (tgt := 16) hx hb dX0_beginDay_72 (by decide) ?_
        exact ih16 _ _ ls (x_as I (by simp [xBg, xBg1, c29])) (lv_as (lv_sub (l' := [(0, .ref o), (1, .int v), (2, .int (nI (j + 1)))]) hl [1, 2, 0] rfl) (rfl))
  exact L16 0 (Nat.zero_le _) _ _ ls (x_as I (rfl)) (lv_as (lv_sub (l' := [(0, .ref o), (1, .int v), (2, .int 0)]) hl [1, 2, 0] rfl) (rfl))
theorem dc_x_beginDay : yX0_beginDay.cls = RX0 ∧ yX0_beginDay.cls ≠ "java/lang/invoke/MethodHandle" ∧ yX0_beginDay.cls ≠ "java/lang/invoke/VarHandle" ∧ (parseMethodDescriptor yX0_beginDay.desc).map (fun d => d.parameters.length) = some 1 := by decide +kernel
theorem go_x_beginDay : GoodIn lw_all (wsV RX0 225 RX0 yX0_beginDay (ws_ yX0_beginDay cX0_beginDay 3 none)) := lw_V q467 q469 qs6 q71 q470
theorem x_goMinute (l : Launch) (D : va_G) (ty : Nat → ClassId) (o : Nat) (ad : Nat → Nat) (em : Nat) (g : GS) (ex : va_W) (Cy : (Nat → Prop) → State → Prop) (hC : CxOk (CxX em Cy)) (hg : gOk g) (σ : Sg) (q : Nat) (T : Nat) (hT : T ≤ 6) (h0 : σ 0 0 = nI T) : xKv l yX0_goMinute cX0_goMinute 3 9 D ty (CxX em Cy) o ad (gE ty o (ad 8) em g ex) σ [.int (nI q)] (fun τ => τ = xMin σ g q T) := by
  refine Kv.of (by decide) (Nat.le_of_ble_eq_true rfl) ?_
  intro p e s m below meth c A ls args E hK hA hX hlk hr hnm I hl
  have hx := E.1
  have hb := E.2.1
  have hl : lv_has ls 3 [(0, .ref o), (1, .int (nI q))] := hl
  refine nameQ (fun Q hQ => ?_)
  have hg8 := hg.1
  refine lv_iconst (v := 0) hx hb dX0_goMinute_0 (by decide) ?_
  refine lv_istore_n (lv' := [(2, .int 0), (0, .ref o), (1, .int (nI q))]) hx hb dX0_goMinute_1 rfl hl (by decide) rfl (fun ls hl => ?_)
  have L2 : ∀ i, i ≤ g.1 → ∀ (H : Heap) (locs : List Loc) (ls : Array Slot), gI s D A (gW ty o ad em g ex (xLv q T σ i)) H locs → lv_has ls 3 [(0, .ref o), (1, .int (nI q)), (2, .int (nI i))] → W p l e (rmL 9) s m args below meth c H locs 0 0 Q (F0 m 2 ls []) := by
    refine dn_ind g.1 ?_ ?_
    · intro H locs ls I hl
      refine lv_iload_n hx hb dX0_goMinute_2 rfl (lv_at hl 2 rfl) ?_
      refine lv_aload_n hx hb dX0_goMinute_3 rfl (lv_at hl 0 rfl) ?_
      refine x_get E hK I 8 rfl q147 rfl dX0_goMinute_4 ?_
      refine g_size hC E hK hA hX I ⟨Nat.le_of_ble_eq_true rfl, Nat.le_of_ble_eq_true rfl⟩ ⟨Nat.le_refl 0, Nat.le_refl 0⟩ hl.1 (Nat.le_of_ble_eq_true rfl) dX0_goMinute_7 (fun H locs I => ?_)
      refine lv_icmp_ge (tgt := 47) hx hb dX0_goMinute_12 (by decide) (fun c12 => ?_) (fun c12 => absurd c12 (fun h => h (Int32.le_refl _)))
      obtain ⟨s1, hs1⟩ : ∃ z, z = xLv q T σ g.1 := ⟨_, rfl⟩
      have I := x_as I hs1.symm
      have h01 : s1 0 0 = nI T := by rw [hs1, xLv_k (by decide)]; exact h0
      refine lv_iload_n hx hb dX0_goMinute_47 rfl (lv_at hl 1 rfl) ?_
      refine lv_aload_n hx hb dX0_goMinute_48 rfl (lv_at hl 0 rfl) ?_
      refine x_get E hK I 4 rfl q142 rfl dX0_goMinute_49 ?_
      refine lv_icmp_ne (tgt := 60) hx hb dX0_goMinute_52 (by decide) (fun c52 => ?_) (fun c52 => ?_)
      · have I := x_as I (show _ = xWet s1 g q T by simp [xWet, c52])
        refine lv_aload_n hx hb dX0_goMinute_60 rfl (lv_at hl 0 rfl) ?_
        refine lv_iload_n hx hb dX0_goMinute_61 rfl (lv_at hl 1 rfl) ?_
        refine x_cv hC E hK hA hX I (x_letWaiting l D ty o ad em g ex Cy hC hg (xWet s1 g q T) q T hT (by rw [xWet_k (by decide)]; exact h01)) go_x_letWaiting dc_x_letWaiting ⟨Nat.le_of_ble_eq_true rfl, Nat.le_of_ble_eq_true rfl⟩ ⟨Nat.le_refl 0, Nat.le_refl 0⟩ hl.1 (Nat.le_of_ble_eq_true rfl) rfl dX0_goMinute_62 (fun σ62 H locs hp I => ?_)
        have I := x_as I hp
        refine lv_aload_n hx hb dX0_goMinute_65 rfl (lv_at hl 0 rfl) ?_
        refine lv_iload_n hx hb dX0_goMinute_66 rfl (lv_at hl 1 rfl) ?_
        refine x_cv hC E hK hA hX I (x_letCome l D ty o ad em g ex Cy hC hg (xLw g q T 8 (xWet s1 g q T) 0) q T hT (by rw [xLw_k (by decide), xWet_k (by decide)]; exact h01)) go_x_letCome dc_x_letCome ⟨Nat.le_of_ble_eq_true rfl, Nat.le_of_ble_eq_true rfl⟩ ⟨Nat.le_refl 0, Nat.le_refl 0⟩ hl.1 (Nat.le_of_ble_eq_true rfl) rfl dX0_goMinute_67 (fun σ67 H locs hp I => ?_)
        have I := x_as I hp
        subst hQ
        exact r_v E hlk hr I (Nat.le_refl 0) (Nat.le_refl 0) dX0_goMinute_70 (by rw [hs1]; rfl)
      · refine lv_aload_n hx hb dX0_goMinute_55 rfl (lv_at hl 0 rfl) ?_
        refine lv_iload_n hx hb dX0_goMinute_56 rfl (lv_at hl 1 rfl) ?_
        refine x_cv hC E hK hA hX I (x_beginRain l D ty o ad em g ex Cy hC hg s1 q T hT h01) go_x_beginRain dc_x_beginRain ⟨Nat.le_of_ble_eq_true rfl, Nat.le_of_ble_eq_true rfl⟩ ⟨Nat.le_refl 0, Nat.le_refl 0⟩ hl.1 (Nat.le_of_ble_eq_true rfl) rfl dX0_goMinute_57 (fun σ57 H locs hp I => ?_)
        have I := x_as I hp
        have I := x_as I (show _ = xWet s1 g q T by simp [xWet, c52])
        refine lv_aload_n hx hb dX0_goMinute_60 rfl (lv_at hl 0 rfl) ?_
        refine lv_iload_n hx hb dX0_goMinute_61 rfl (lv_at hl 1 rfl) ?_
        refine x_cv hC E hK hA hX I (x_letWaiting l D ty o ad em g ex Cy hC hg (xWet s1 g q T) q T hT (by rw [xWet_k (by decide)]; exact h01)) go_x_letWaiting dc_x_letWaiting ⟨Nat.le_of_ble_eq_true rfl, Nat.le_of_ble_eq_true rfl⟩ ⟨Nat.le_refl 0, Nat.le_refl 0⟩ hl.1 (Nat.le_of_ble_eq_true rfl) rfl dX0_goMinute_62 (fun σ62 H locs hp I => ?_)
        have I := x_as I hp
        refine lv_aload_n hx hb dX0_goMinute_65 rfl (lv_at hl 0 rfl) ?_
        refine lv_iload_n hx hb dX0_goMinute_66 rfl (lv_at hl 1 rfl) ?_
        refine x_cv hC E hK hA hX I (x_letCome l D ty o ad em g ex Cy hC hg (xLw g q T 8 (xWet s1 g q T) 0) q T hT (by rw [xLw_k (by decide), xWet_k (by decide)]; exact h01)) go_x_letCome dc_x_letCome ⟨Nat.le_of_ble_eq_true rfl, Nat.le_of_ble_eq_true rfl⟩ ⟨Nat.le_refl 0, Nat.le_refl 0⟩ hl.1 (Nat.le_of_ble_eq_true rfl) rfl dX0_goMinute_67 (fun σ67 H locs hp I => ?_)
        have I := x_as I hp
        subst hQ
        exact r_v E hlk hr I (Nat.le_refl 0) (Nat.le_refl 0) dX0_goMinute_70 (by rw [hs1]; rfl)
    · intro i hi ih2 H locs ls I hl
      refine lv_iload_n hx hb dX0_goMinute_2 rfl (lv_at hl 2 rfl) ?_
      refine lv_aload_n hx hb dX0_goMinute_3 rfl (lv_at hl 0 rfl) ?_
      refine x_get E hK I 8 rfl q147 rfl dX0_goMinute_4 ?_
      refine g_size hC E hK hA hX I ⟨Nat.le_of_ble_eq_true rfl, Nat.le_of_ble_eq_true rfl⟩ ⟨Nat.le_refl 0, Nat.le_refl 0⟩ hl.1 (Nat.le_of_ble_eq_true rfl) dX0_goMinute_7 (fun H locs I => ?_)
      refine lv_icmp_ge (tgt := 47) hx hb dX0_goMinute_12 (by decide) (fun c12 => absurd c12 (nI_ge hi (by omega))) (fun c12 => ?_)
      refine lv_aload_n hx hb dX0_goMinute_15 rfl (lv_at hl 0 rfl) ?_
      refine x_get E hK I 11 rfl q150 rfl dX0_goMinute_16 ?_
      refine lv_iload_n hx hb dX0_goMinute_19 rfl (lv_at hl 2 rfl) ?_
      refine x_ald (i := i) E hK I 3 rfl rfl rfl dX0_goMinute_20 (by simp only [xLn]; omega) ?_
      refine lv_iconst (v := 3) hx hb dX0_goMinute_21 (by decide) ?_
      refine lv_icmp_ne (tgt := 41) hx hb dX0_goMinute_22 (by decide) (fun c22 => ?_) (fun c22 => ?_)
      · refine lv_iinc (v := nI (i + 1)) (lv' := [(2, .int (nI (i + 1))), (0, .ref o), (1, .int (nI q))]) hx hb dX0_goMinute_41 hl (k := 2) rfl (nI_1 _) (by decide) rfl (fun ls hl => ?_)
        refine lv_goto (tgt := 2) hx hb dX0_goMinute_44 (by decide) ?_
        exact ih2 _ _ ls (x_as I (by simp [xLv, xLv1, c22])) (lv_as (lv_sub (l' := [(0, .ref o), (1, .int (nI q)), (2, .int (nI (i + 1)))]) hl [1, 2, 0] rfl) (rfl))
      · refine lv_aload_n hx hb dX0_goMinute_25 rfl (lv_at hl 0 rfl) ?_
        refine x_get E hK I 14 rfl q153 rfl dX0_goMinute_26 ?_
        refine lv_iload_n hx hb dX0_goMinute_29 rfl (lv_at hl 2 rfl) ?_
        refine x_ald (i := i) E hK I 6 rfl rfl rfl dX0_goMinute_30 (by simp only [xLn]; omega) ?_
        refine lv_iload_n hx hb dX0_goMinute_31 rfl (lv_at hl 1 rfl) ?_
        refine lv_icmp_ne (tgt := 41) hx hb dX0_goMinute_32 (by decide) (fun c32 => ?_) (fun c32 => ?_)
        · refine lv_iinc (v := nI (i + 1)) (lv' := [(2, .int (nI (i + 1))), (0, .ref o), (1, .int (nI q))]) hx hb dX0_goMinute_41 hl (k := 2) rfl (nI_1 _) (by decide) rfl (fun ls hl => ?_)
          refine lv_goto (tgt := 2) hx hb dX0_goMinute_44 (by decide) ?_
          exact ih2 _ _ ls (x_as I (by simp [xLv, xLv1, c22, c32])) (lv_as (lv_sub (l' := [(0, .ref o), (1, .int (nI q)), (2, .int (nI (i + 1)))]) hl [1, 2, 0] rfl) (rfl))
        · refine lv_aload_n hx hb dX0_goMinute_35 rfl (lv_at hl 0 rfl) ?_
          refine lv_iload_n hx hb dX0_goMinute_36 rfl (lv_at hl 2 rfl) ?_
          refine lv_iload_n hx hb dX0_goMinute_37 rfl (lv_at hl 1 rfl) ?_
          refine x_cv hC E hK hA hX I (x_goes l D ty o ad (gE ty o (ad 8) em g ex) (CxX em Cy) hC (xLv q T σ i) i (nI q) (by omega) T hT (by rw [xLv_k (by decide)]; exact h0)) go_x_goes dc_x_goes ⟨Nat.le_of_ble_eq_true rfl, Nat.le_of_ble_eq_true rfl⟩ ⟨Nat.le_refl 0, Nat.le_refl 0⟩ hl.1 (Nat.le_of_ble_eq_true rfl) rfl dX0_goMinute_38 (fun σ38 H locs hp I => ?_)
          have I := x_as I hp
          refine lv_iinc (v := nI (i + 1)) (lv' := [(2, .int (nI (i + 1))), (0, .ref o), (1, .int (nI q))]) hx hb dX0_goMinute_41 hl (k := 2) rfl (nI_1 _) (by decide) rfl (fun ls hl => ?_)
          refine lv_goto (tgt := 2) hx hb dX0_goMinute_44 (by decide) ?_
          exact ih2 _ _ ls (x_as I (by simp [xLv, xLv1, c22, c32])) (lv_as (lv_sub (l' := [(0, .ref o), (1, .int (nI q)), (2, .int (nI (i + 1)))]) hl [1, 2, 0] rfl) (rfl))
  exact L2 0 (Nat.zero_le _) _ _ ls (x_as I (rfl)) (lv_as (lv_sub (l' := [(0, .ref o), (1, .int (nI q)), (2, .int 0)]) hl [1, 2, 0] rfl) (rfl))
theorem dc_x_goMinute : yX0_goMinute.cls = RX0 ∧ yX0_goMinute.cls ≠ "java/lang/invoke/MethodHandle" ∧ yX0_goMinute.cls ≠ "java/lang/invoke/VarHandle" ∧ (parseMethodDescriptor yX0_goMinute.desc).map (fun d => d.parameters.length) = some 1 := by decide +kernel
theorem go_x_goMinute : GoodIn lw_all (wsV RX0 228 RX0 yX0_goMinute (ws_ yX0_goMinute cX0_goMinute 3 none)) := lw_V q474 q476 qs7 q71 q477
theorem x_goTo (l : Launch) (D : va_G) (ty : Nat → ClassId) (o : Nat) (ad : Nat → Nat) (em : Nat) (g : GS) (ex : va_W) (Cy : (Nat → Prop) → State → Prop) (hC : CxOk (CxX em Cy)) (hg : gOk g) (σ : Sg) (n : Nat) (v : Int32) (hn : n < 1000) (T : Nat) (hT : T ≤ 6) (h0 : σ 0 0 = nI T) : xKv l yX0_goTo cX0_goTo 4 10 D ty (CxX em Cy) o ad (gE ty o (ad 8) em g ex) σ [.int (nI n), .int v] (fun τ => τ = xTo σ g T n v) := by
  refine Kv.of (by decide) (Nat.le_of_ble_eq_true rfl) ?_
  intro p e s m below meth c A ls args E hK hA hX hlk hr hnm I hl
  have hx := E.1
  have hb := E.2.1
  have hl : lv_has ls 4 [(0, .ref o), (1, .int (nI n)), (2, .int v)] := hl
  refine nameQ (fun Q hQ => ?_)
  have hg8 := hg.1
  refine lv_aload_n hx hb dX0_goTo_0 rfl (lv_at hl 0 rfl) ?_
  refine lv_iload_n hx hb dX0_goTo_1 rfl (lv_at hl 2 rfl) ?_
  refine x_cv hC E hK hA hX I (x_beginDay l D ty o ad em g ex Cy hC hg σ v) go_x_beginDay dc_x_beginDay ⟨Nat.le_of_ble_eq_true rfl, Nat.le_of_ble_eq_true rfl⟩ ⟨Nat.le_refl 0, Nat.le_refl 0⟩ hl.1 (Nat.le_of_ble_eq_true rfl) rfl dX0_goTo_2 (fun σ2 H locs hp I => ?_)
  have I := x_as I hp
  refine lv_iconst (v := 0) hx hb dX0_goTo_5 (by decide) ?_
  refine lv_istore_n (lv' := [(3, .int 0), (0, .ref o), (1, .int (nI n)), (2, .int v)]) hx hb dX0_goTo_6 rfl hl (by decide) rfl (fun ls hl => ?_)
  have L7 : ∀ q, q ≤ (n + 1) → ∀ (H : Heap) (locs : List Loc) (ls : Array Slot), gI s D A (gW ty o ad em g ex (xDy g T (xBegin σ v) q)) H locs → lv_has ls 4 [(0, .ref o), (1, .int (nI n)), (2, .int v), (3, .int (nI q))] → W p l e (rmL 10) s m args below meth c H locs 0 0 Q (F0 m 7 ls []) := by
    refine dn_ind (n + 1) ?_ ?_
    · intro H locs ls I hl
      refine lv_iload_n hx hb dX0_goTo_7 rfl (lv_at hl 3 rfl) ?_
      refine lv_iload_n hx hb dX0_goTo_8 rfl (lv_at hl 1 rfl) ?_
      refine lv_icmp_gt (tgt := 23) hx hb dX0_goTo_9 (by decide) (fun c9 => ?_) (fun c9 => absurd c9 (fun h => h (nI_ltS hn)))
      subst hQ
      exact r_v E hlk hr I (Nat.le_refl 0) (Nat.le_refl 0) dX0_goTo_23 (rfl)
    · intro q hq ih7 H locs ls I hl
      refine lv_iload_n hx hb dX0_goTo_7 rfl (lv_at hl 3 rfl) ?_
      refine lv_iload_n hx hb dX0_goTo_8 rfl (lv_at hl 1 rfl) ?_
      refine lv_icmp_gt (tgt := 23) hx hb dX0_goTo_9 (by decide) (fun c9 => absurd c9 (nI_nlt (by omega) (by omega))) (fun c9 => ?_)
      refine lv_aload_n hx hb dX0_goTo_12 rfl (lv_at hl 0 rfl) ?_
      refine lv_iload_n hx hb dX0_goTo_13 rfl (lv_at hl 3 rfl) ?_
      refine x_cv hC E hK hA hX I (x_goMinute l D ty o ad em g ex Cy hC hg (xDy g T (xBegin σ v) q) q T hT (by rw [xDy_k (by decide), xBegin_k (by decide)]; exact h0)) go_x_goMinute dc_x_goMinute ⟨Nat.le_of_ble_eq_true rfl, Nat.le_of_ble_eq_true rfl⟩ ⟨Nat.le_refl 0, Nat.le_refl 0⟩ hl.1 (Nat.le_of_ble_eq_true rfl) rfl dX0_goTo_14 (fun σ14 H locs hp I => ?_)
      have I := x_as I hp
      refine lv_iinc (v := nI (q + 1)) (lv' := [(3, .int (nI (q + 1))), (0, .ref o), (1, .int (nI n)), (2, .int v)]) hx hb dX0_goTo_17 hl (k := 3) rfl (nI_1 _) (by decide) rfl (fun ls hl => ?_)
      refine lv_goto (tgt := 7) hx hb dX0_goTo_20 (by decide) ?_
      exact ih7 _ _ ls (x_as I (rfl)) (lv_as (lv_sub (l' := [(0, .ref o), (1, .int (nI n)), (2, .int v), (3, .int (nI (q + 1)))]) hl [1, 2, 3, 0] rfl) (rfl))
  exact L7 0 (Nat.zero_le _) _ _ ls (x_as I (rfl)) (lv_as (lv_sub (l' := [(0, .ref o), (1, .int (nI n)), (2, .int v), (3, .int 0)]) hl [1, 2, 3, 0] rfl) (rfl))
theorem dc_x_goTo : yX0_goTo.cls = RX0 ∧ yX0_goTo.cls ≠ "java/lang/invoke/MethodHandle" ∧ yX0_goTo.cls ≠ "java/lang/invoke/VarHandle" ∧ (parseMethodDescriptor yX0_goTo.desc).map (fun d => d.parameters.length) = some 2 := by decide +kernel
theorem go_x_goTo : GoodIn lw_all (wsV RX0 234 RX0 yX0_goTo (ws_ yX0_goTo cX0_goTo 4 none)) := lw_V q463 q465 qs5 q71 q466
theorem x_coinOf (l : Launch) (D : va_G) (ty : Nat → ClassId) (o : Nat) (ad : Nat → Nat) (em : Nat) (g : GS) (ex : va_W) (Cy : (Nat → Prop) → State → Prop) (hC : CxOk (CxX em Cy)) (hg : gOk g) (σ : Sg) (i : Nat) (hi : i < g.1) : xKi l yX0_coinOf cX0_coinOf 2 .int 5 D ty (CxX em Cy) o ad (gE ty o (ad 8) em g ex) σ [.int (nI i)] (fun r τ => r = xCo σ g i ∧ τ = σ) := by
  refine Ki.of (by decide) (Nat.le_of_ble_eq_true rfl) ?_
  intro p e s m below meth c A ls args E hK hA hX hlk hr I hl
  have hx := E.1
  have hb := E.2.1
  have hl : lv_has ls 2 [(0, .ref o), (1, .int (nI i))] := hl
  have hg8 := hg.1
  refine lv_aload_n hx hb dX0_coinOf_0 rfl (lv_at hl 0 rfl) ?_
  refine x_get E hK I 11 rfl q150 rfl dX0_coinOf_1 ?_
  refine lv_iload_n hx hb dX0_coinOf_4 rfl (lv_at hl 1 rfl) ?_
  refine x_ald (i := i) E hK I 3 rfl rfl rfl dX0_coinOf_5 (by simp only [xLn]; omega) ?_
  refine lv_if_ne (tgt := 41) hx hb dX0_coinOf_6 (by decide) (fun c6 => ?_) (fun c6 => ?_)
  · refine lv_iconst (v := 0) hx hb dX0_coinOf_41 (by decide) ?_
    exact r_i E hlk hr I (Nat.le_refl 0) (Nat.le_refl 0) dX0_coinOf_42 (⟨by simp [xCo, c6], rfl⟩)
  · refine lv_aload_n hx hb dX0_coinOf_9 rfl (lv_at hl 0 rfl) ?_
    refine x_get E hK I 8 rfl q147 rfl dX0_coinOf_10 ?_
    refine lv_iload_n hx hb dX0_coinOf_13 rfl (lv_at hl 1 rfl) ?_
    refine g_lget (i := i) hC hg E hK hA hX I (by omega) ⟨Nat.le_of_ble_eq_true rfl, Nat.le_of_ble_eq_true rfl⟩ ⟨Nat.le_refl 0, Nat.le_refl 0⟩ hl.1 (Nat.le_of_ble_eq_true rfl) dX0_coinOf_14 (fun H locs I => ?_)
    refine g_cast (i := i) E hK hX I hg (by omega) q260 dX0_coinOf_19 ?_
    refine lv_aload_n hx hb dX0_coinOf_22 rfl (lv_at hl 0 rfl) ?_
    refine x_get E hK I 14 rfl q153 rfl dX0_coinOf_23 ?_
    refine lv_iload_n hx hb dX0_coinOf_26 rfl (lv_at hl 1 rfl) ?_
    refine x_ald (i := i) E hK I 6 rfl rfl rfl dX0_coinOf_27 (by simp only [xLn]; omega) ?_
    refine lv_aload_n hx hb dX0_coinOf_28 rfl (lv_at hl 0 rfl) ?_
    refine x_get E hK I 13 rfl q152 rfl dX0_coinOf_29 ?_
    refine lv_iload_n hx hb dX0_coinOf_32 rfl (lv_at hl 1 rfl) ?_
    refine x_ald (i := i) E hK I 5 rfl rfl rfl dX0_coinOf_33 (by simp only [xLn]; omega) ?_
    refine lv_isub hx hb dX0_coinOf_34 ?_
    refine g_coin  (i := i) q535 hC hg E hK hA hX I (by omega) ((σ 14 i) - (σ 13 i)) ⟨Nat.le_of_ble_eq_true rfl, Nat.le_of_ble_eq_true rfl⟩ ⟨Nat.le_refl 0, Nat.le_refl 0⟩ hl.1 (Nat.le_of_ble_eq_true rfl) dX0_coinOf_35 (fun H locs I => ?_)
    refine lv_goto (tgt := 42) hx hb dX0_coinOf_38 (by decide) ?_
    exact r_i E hlk hr I (Nat.le_refl 0) (Nat.le_refl 0) dX0_coinOf_42 (⟨by simp [xCo, c6], rfl⟩)
theorem dc_x_coinOf : yX0_coinOf.cls = RX0 ∧ yX0_coinOf.cls ≠ "java/lang/invoke/MethodHandle" ∧ yX0_coinOf.cls ≠ "java/lang/invoke/VarHandle" ∧ (parseMethodDescriptor yX0_coinOf.desc).map (fun d => d.parameters.length) = some 1 := by decide +kernel
theorem go_x_coinOf : GoodIn lw_all (wsV RX0 237 RX0 yX0_coinOf (ws_ yX0_coinOf cX0_coinOf 2 (some .int))) := lw_V q531 q533 qs21 q71 q534
theorem x_coinOfDay (l : Launch) (D : va_G) (ty : Nat → ClassId) (o : Nat) (ad : Nat → Nat) (em : Nat) (g : GS) (ex : va_W) (Cy : (Nat → Prop) → State → Prop) (hC : CxOk (CxX em Cy)) (hg : gOk g) (σ : Sg) (v : Int32) (T : Nat) (hT : T ≤ 6) (h0 : σ 0 0 = nI T) : xKi l yX0_coinOfDay cX0_coinOfDay 4 .int 11 D ty (CxX em Cy) o ad (gE ty o (ad 8) em g ex) σ [.int v] (fun r τ => r = xSum (xTo σ g T 399 v) g g.1 ∧ τ = xTo σ g T 399 v) := by
  refine Ki.of (by decide) (Nat.le_of_ble_eq_true rfl) ?_
  intro p e s m below meth c A ls args E hK hA hX hlk hr I hl
  have hx := E.1
  have hb := E.2.1
  have hl : lv_has ls 4 [(0, .ref o), (1, .int v)] := hl
  refine nameQ (fun Q hQ => ?_)
  have hg8 := hg.1
  refine lv_aload_n hx hb dX0_coinOfDay_0 rfl (lv_at hl 0 rfl) ?_
  refine lv_sipush (v := 399) hx hb dX0_coinOfDay_1 (by decide) ?_
  refine lv_iload_n hx hb dX0_coinOfDay_4 rfl (lv_at hl 1 rfl) ?_
  refine x_cv hC E hK hA hX I (x_goTo l D ty o ad em g ex Cy hC hg σ 399 v (by omega) T hT h0) go_x_goTo dc_x_goTo ⟨Nat.le_of_ble_eq_true rfl, Nat.le_of_ble_eq_true rfl⟩ ⟨Nat.le_refl 0, Nat.le_refl 0⟩ hl.1 (Nat.le_of_ble_eq_true rfl) rfl dX0_coinOfDay_5 (fun σ5 H locs hp I => ?_)
  have I := x_as I hp
  obtain ⟨s1, hs1⟩ : ∃ z, z = xTo σ g T 399 v := ⟨_, rfl⟩
  have I := x_as I hs1.symm
  refine lv_iconst (v := 0) hx hb dX0_coinOfDay_8 (by decide) ?_
  refine lv_istore_n (lv' := [(2, .int 0), (0, .ref o), (1, .int v)]) hx hb dX0_coinOfDay_9 rfl hl (by decide) rfl (fun ls hl => ?_)
  refine lv_iconst (v := 0) hx hb dX0_coinOfDay_10 (by decide) ?_
  refine lv_istore_n (lv' := [(3, .int 0), (2, .int 0), (0, .ref o), (1, .int v)]) hx hb dX0_coinOfDay_11 rfl hl (by decide) rfl (fun ls hl => ?_)
  have L12 : ∀ i, i ≤ g.1 → ∀ (H : Heap) (locs : List Loc) (ls : Array Slot), gI s D A (gW ty o ad em g ex s1) H locs → lv_has ls 4 [(0, .ref o), (1, .int v), (2, .int (xSum s1 g i)), (3, .int (nI i))] → W p l e (rmL 11) s m args below meth c H locs 0 0 Q (F0 m 12 ls []) := by
    refine dn_ind g.1 ?_ ?_
    · intro H locs ls I hl
      refine lv_iload_n hx hb dX0_coinOfDay_12 rfl (lv_at hl 3 rfl) ?_
      refine lv_aload_n hx hb dX0_coinOfDay_13 rfl (lv_at hl 0 rfl) ?_
      refine x_get E hK I 8 rfl q147 rfl dX0_coinOfDay_14 ?_
      refine g_size hC E hK hA hX I ⟨Nat.le_of_ble_eq_true rfl, Nat.le_of_ble_eq_true rfl⟩ ⟨Nat.le_refl 0, Nat.le_refl 0⟩ hl.1 (Nat.le_of_ble_eq_true rfl) dX0_coinOfDay_17 (fun H locs I => ?_)
      refine lv_icmp_ge (tgt := 39) hx hb dX0_coinOfDay_22 (by decide) (fun c22 => ?_) (fun c22 => absurd c22 (fun h => h (Int32.le_refl _)))
      refine lv_iload_n hx hb dX0_coinOfDay_39 rfl (lv_at hl 2 rfl) ?_
      subst hQ
      exact r_i E hlk hr I (Nat.le_refl 0) (Nat.le_refl 0) dX0_coinOfDay_40 (by rw [← hs1]; exact ⟨rfl, rfl⟩)
    · intro i hi ih12 H locs ls I hl
      refine lv_iload_n hx hb dX0_coinOfDay_12 rfl (lv_at hl 3 rfl) ?_
      refine lv_aload_n hx hb dX0_coinOfDay_13 rfl (lv_at hl 0 rfl) ?_
      refine x_get E hK I 8 rfl q147 rfl dX0_coinOfDay_14 ?_
      refine g_size hC E hK hA hX I ⟨Nat.le_of_ble_eq_true rfl, Nat.le_of_ble_eq_true rfl⟩ ⟨Nat.le_refl 0, Nat.le_refl 0⟩ hl.1 (Nat.le_of_ble_eq_true rfl) dX0_coinOfDay_17 (fun H locs I => ?_)
      refine lv_icmp_ge (tgt := 39) hx hb dX0_coinOfDay_22 (by decide) (fun c22 => absurd c22 (nI_ge hi (by omega))) (fun c22 => ?_)
      refine lv_iload_n hx hb dX0_coinOfDay_25 rfl (lv_at hl 2 rfl) ?_
      refine lv_aload_n hx hb dX0_coinOfDay_26 rfl (lv_at hl 0 rfl) ?_
      refine lv_iload_n hx hb dX0_coinOfDay_27 rfl (lv_at hl 3 rfl) ?_
      refine x_ci hC E hK hA hX I (x_coinOf l D ty o ad em g ex Cy hC hg s1 i hi) go_x_coinOf dc_x_coinOf ⟨Nat.le_of_ble_eq_true rfl, Nat.le_of_ble_eq_true rfl⟩ ⟨Nat.le_refl 0, Nat.le_refl 0⟩ hl.1 (Nat.le_of_ble_eq_true rfl) rfl dX0_coinOfDay_28 (fun r28 σ28 H locs hp I => ?_)
      refine top_i (y := xCo s1 g i) hp.1 ?_
      have I := x_as I hp.2
      refine lv_iadd hx hb dX0_coinOfDay_31 ?_
      refine lv_istore_n (lv' := [(2, .int ((xSum s1 g i) + (xCo s1 g i))), (0, .ref o), (1, .int v), (3, .int (nI i))]) hx hb dX0_coinOfDay_32 rfl hl (by decide) rfl (fun ls hl => ?_)
      refine lv_iinc (v := nI (i + 1)) (lv' := [(3, .int (nI (i + 1))), (2, .int ((xSum s1 g i) + (xCo s1 g i))), (0, .ref o), (1, .int v)]) hx hb dX0_coinOfDay_33 hl (k := 3) rfl (nI_1 _) (by decide) rfl (fun ls hl => ?_)
      refine lv_goto (tgt := 12) hx hb dX0_coinOfDay_36 (by decide) ?_
      exact ih12 _ _ ls (x_as I (rfl)) (lv_as (lv_sub (l' := [(0, .ref o), (1, .int v), (2, .int ((xSum s1 g i) + (xCo s1 g i))), (3, .int (nI (i + 1)))]) hl [2, 3, 1, 0] rfl) (rfl))
  exact L12 0 (Nat.zero_le _) _ _ ls (x_as I (rfl)) (lv_as (lv_sub (l' := [(0, .ref o), (1, .int v), (2, .int 0), (3, .int 0)]) hl [2, 3, 1, 0] rfl) (rfl))
theorem dc_x_coinOfDay : yX0_coinOfDay.cls = RX0 ∧ yX0_coinOfDay.cls ≠ "java/lang/invoke/MethodHandle" ∧ yX0_coinOfDay.cls ≠ "java/lang/invoke/VarHandle" ∧ (parseMethodDescriptor yX0_coinOfDay.desc).map (fun d => d.parameters.length) = some 1 := by decide +kernel
theorem go_x_coinOfDay : GoodIn lw_all (wsV RX0 240 RX0 yX0_coinOfDay (ws_ yX0_coinOfDay cX0_coinOfDay 4 (some .int))) := lw_V q560 q562 qs22 q71 q563
theorem x_day (l : Launch) (D : va_G) (ty : Nat → ClassId) (o : Nat) (ad : Nat → Nat) (em : Nat) (g : GS) (ex : va_W) (Cy : (Nat → Prop) → State → Prop) (hC : CxOk (CxX em Cy)) (hg : gOk g) (σ : Sg) (v : Int32) (w : Int32) (T : Nat) (hT : T ≤ 6) (h0 : σ 0 0 = nI T) : xKi l yX0_day cX0_day 3 .int 11 D ty (CxX em Cy) o ad (gE ty o (ad 8) em g ex) σ [.int v, .int w] (fun r τ => r = (if wi v 0 (nI g.1 - 1) then xDayR (xTo σ g T 399 (-9)) g (v).toNatClampNeg w else (-1)) ∧ τ = if wi v 0 (nI g.1 - 1) then xTo σ g T 399 (-9) else σ) := by
  refine Ki.of (by decide) (Nat.le_of_ble_eq_true rfl) ?_
  intro p e s m below meth c A ls args E hK hA hX hlk hr I hl
  have hx := E.1
  have hb := E.2.1
  have hl : lv_has ls 3 [(0, .ref o), (1, .int v), (2, .int w)] := hl
  have hg8 := hg.1
  refine lv_aload_n hx hb dX0_day_0 rfl (lv_at hl 0 rfl) ?_
  refine lv_iload_n hx hb dX0_day_1 rfl (lv_at hl 1 rfl) ?_
  refine x_ci hC E hK hA hX I (x_noGroup l D ty o ad em g ex Cy hC hg σ v) go_x_noGroup dc_x_noGroup ⟨Nat.le_of_ble_eq_true rfl, Nat.le_of_ble_eq_true rfl⟩ ⟨Nat.le_refl 0, Nat.le_refl 0⟩ hl.1 (Nat.le_of_ble_eq_true rfl) rfl dX0_day_2 (fun r2 σ2 H locs hp I => ?_)
  refine top_i (y := bI (!wi v 0 (nI g.1 - 1))) hp.1 ?_
  have I := x_as I hp.2
  refine b_eq (tgt := 10) hx hb dX0_day_5 (by decide) (fun c5 => ?_) (fun c5 => ?_)
  · obtain ⟨j, hj, ej⟩ := wi_idx (i := v) (n := g.1) (by omega) (by simpa using c5)
    subst ej
    refine lv_aload_n hx hb dX0_day_10 rfl (lv_at hl 0 rfl) ?_
    refine lv_sipush (v := 399) hx hb dX0_day_11 (by decide) ?_
    refine lv_bipush (v := (-9)) hx hb dX0_day_14 (by decide) ?_
    refine x_cv hC E hK hA hX I (x_goTo l D ty o ad em g ex Cy hC hg σ 399 (-9) (by omega) T hT h0) go_x_goTo dc_x_goTo ⟨Nat.le_of_ble_eq_true rfl, Nat.le_of_ble_eq_true rfl⟩ ⟨Nat.le_refl 0, Nat.le_refl 0⟩ hl.1 (Nat.le_of_ble_eq_true rfl) rfl dX0_day_16 (fun σ16 H locs hp I => ?_)
    have I := x_as I hp
    obtain ⟨s1, hs1⟩ : ∃ z, z = xTo σ g T 399 (-9) := ⟨_, rfl⟩
    have I := x_as I hs1.symm
    refine lv_iload_n hx hb dX0_day_19 rfl (lv_at hl 2 rfl) ?_
    by_cases c20_0 : w = 0
    · refine top_i (y := 0) c20_0 ?_
      refine lv_tableIn (tgt := 60) hx hb dX0_day_20 (by decide) (by decide) rfl (by decide) ?_
      refine lv_aload_n hx hb dX0_day_60 rfl (lv_at hl 0 rfl) ?_
      refine x_get E hK I 11 rfl q150 rfl dX0_day_61 ?_
      refine lv_iload_n hx hb dX0_day_64 rfl (lv_at hl 1 rfl) ?_
      refine x_ald (i := j) E hK I 3 rfl rfl rfl dX0_day_65 (by simp only [xLn]; omega) ?_
      exact r_i E hlk hr I (Nat.le_refl 0) (Nat.le_refl 0) dX0_day_66 (⟨by simp at c5; simp only [c5, if_true, nI_clamp (show j < 2 ^ 31 by omega)]; rw [← hs1]; simp [xDayR, c20_0], by simp at c5; simp only [c5, if_true]; exact hs1⟩)
    by_cases c20_1 : w = 1
    · refine top_i (y := 1) c20_1 ?_
      refine lv_tableIn (tgt := 67) hx hb dX0_day_20 (by decide) (by decide) rfl (by decide) ?_
      refine lv_aload_n hx hb dX0_day_67 rfl (lv_at hl 0 rfl) ?_
      refine x_get E hK I 12 rfl q151 rfl dX0_day_68 ?_
      refine lv_iload_n hx hb dX0_day_71 rfl (lv_at hl 1 rfl) ?_
      refine x_ald (i := j) E hK I 4 rfl rfl rfl dX0_day_72 (by simp only [xLn]; omega) ?_
      exact r_i E hlk hr I (Nat.le_refl 0) (Nat.le_refl 0) dX0_day_73 (⟨by simp at c5; simp only [c5, if_true, nI_clamp (show j < 2 ^ 31 by omega)]; rw [← hs1]; simp [xDayR, c20_1], by simp at c5; simp only [c5, if_true]; exact hs1⟩)
    by_cases c20_2 : w = 2
    · refine top_i (y := 2) c20_2 ?_
      refine lv_tableIn (tgt := 74) hx hb dX0_day_20 (by decide) (by decide) rfl (by decide) ?_
      refine lv_aload_n hx hb dX0_day_74 rfl (lv_at hl 0 rfl) ?_
      refine x_get E hK I 13 rfl q152 rfl dX0_day_75 ?_
      refine lv_iload_n hx hb dX0_day_78 rfl (lv_at hl 1 rfl) ?_
      refine x_ald (i := j) E hK I 5 rfl rfl rfl dX0_day_79 (by simp only [xLn]; omega) ?_
      exact r_i E hlk hr I (Nat.le_refl 0) (Nat.le_refl 0) dX0_day_80 (⟨by simp at c5; simp only [c5, if_true, nI_clamp (show j < 2 ^ 31 by omega)]; rw [← hs1]; simp [xDayR, c20_2], by simp at c5; simp only [c5, if_true]; exact hs1⟩)
    by_cases c20_3 : w = 3
    · refine top_i (y := 3) c20_3 ?_
      refine lv_tableIn (tgt := 81) hx hb dX0_day_20 (by decide) (by decide) rfl (by decide) ?_
      refine lv_aload_n hx hb dX0_day_81 rfl (lv_at hl 0 rfl) ?_
      refine x_get E hK I 14 rfl q153 rfl dX0_day_82 ?_
      refine lv_iload_n hx hb dX0_day_85 rfl (lv_at hl 1 rfl) ?_
      refine x_ald (i := j) E hK I 6 rfl rfl rfl dX0_day_86 (by simp only [xLn]; omega) ?_
      exact r_i E hlk hr I (Nat.le_refl 0) (Nat.le_refl 0) dX0_day_87 (⟨by simp at c5; simp only [c5, if_true, nI_clamp (show j < 2 ^ 31 by omega)]; rw [← hs1]; simp [xDayR, c20_3], by simp at c5; simp only [c5, if_true]; exact hs1⟩)
    by_cases c20_4 : w = 4
    · refine top_i (y := 4) c20_4 ?_
      refine lv_tableIn (tgt := 88) hx hb dX0_day_20 (by decide) (by decide) rfl (by decide) ?_
      refine lv_aload_n hx hb dX0_day_88 rfl (lv_at hl 0 rfl) ?_
      refine lv_iload_n hx hb dX0_day_89 rfl (lv_at hl 1 rfl) ?_
      refine x_ci hC E hK hA hX I (x_coinOf l D ty o ad em g ex Cy hC hg s1 j hj) go_x_coinOf dc_x_coinOf ⟨Nat.le_of_ble_eq_true rfl, Nat.le_of_ble_eq_true rfl⟩ ⟨Nat.le_refl 0, Nat.le_refl 0⟩ hl.1 (Nat.le_of_ble_eq_true rfl) rfl dX0_day_90 (fun r90 σ90 H locs hp I => ?_)
      refine top_i (y := xCo s1 g j) hp.1 ?_
      have I := x_as I hp.2
      exact r_i E hlk hr I (Nat.le_refl 0) (Nat.le_refl 0) dX0_day_93 (⟨by simp at c5; simp only [c5, if_true, nI_clamp (show j < 2 ^ 31 by omega)]; rw [← hs1]; simp [xDayR, c20_4], by simp at c5; simp only [c5, if_true]; exact hs1⟩)
    by_cases c20_5 : w = 5
    · refine top_i (y := 5) c20_5 ?_
      refine lv_tableIn (tgt := 94) hx hb dX0_day_20 (by decide) (by decide) rfl (by decide) ?_
      refine lv_aload_n hx hb dX0_day_94 rfl (lv_at hl 0 rfl) ?_
      refine x_get E hK I 11 rfl q150 rfl dX0_day_95 ?_
      refine lv_iload_n hx hb dX0_day_98 rfl (lv_at hl 1 rfl) ?_
      refine x_ald (i := j) E hK I 3 rfl rfl rfl dX0_day_99 (by simp only [xLn]; omega) ?_
      refine lv_if_ne (tgt := 112) hx hb dX0_day_100 (by decide) (fun c100 => ?_) (fun c100 => ?_)
      · refine lv_aload_n hx hb dX0_day_112 rfl (lv_at hl 0 rfl) ?_
        refine x_get E hK I 15 rfl q154 rfl dX0_day_113 ?_
        refine lv_iload_n hx hb dX0_day_116 rfl (lv_at hl 1 rfl) ?_
        refine x_ald (i := j) E hK I 7 rfl rfl rfl dX0_day_117 (by simp only [xLn]; omega) ?_
        refine lv_aload_n hx hb dX0_day_118 rfl (lv_at hl 0 rfl) ?_
        refine x_get E hK I 8 rfl q147 rfl dX0_day_119 ?_
        refine lv_iload_n hx hb dX0_day_122 rfl (lv_at hl 1 rfl) ?_
        refine g_lget (i := j) hC hg E hK hA hX I hj ⟨Nat.le_of_ble_eq_true rfl, Nat.le_of_ble_eq_true rfl⟩ ⟨Nat.le_refl 0, Nat.le_refl 0⟩ hl.1 (Nat.le_of_ble_eq_true rfl) dX0_day_123 (fun H locs I => ?_)
        refine g_cast (i := j) E hK hX I hg hj q260 dX0_day_128 ?_
        refine gf_get (i := j) E hK I hg hj 2 (by decide) q276 rfl dX0_day_131 ?_
        refine lv_isub hx hb dX0_day_134 ?_
        exact r_i E hlk hr I (Nat.le_refl 0) (Nat.le_refl 0) dX0_day_135 (⟨by simp at c5; simp only [c5, if_true, nI_clamp (show j < 2 ^ 31 by omega)]; rw [← hs1]; simp [xDayR, c20_5, c100], by simp at c5; simp only [c5, if_true]; exact hs1⟩)
      · refine lv_aload_n hx hb dX0_day_103 rfl (lv_at hl 0 rfl) ?_
        refine x_get E hK I 13 rfl q152 rfl dX0_day_104 ?_
        refine lv_iload_n hx hb dX0_day_107 rfl (lv_at hl 1 rfl) ?_
        refine x_ald (i := j) E hK I 5 rfl rfl rfl dX0_day_108 (by simp only [xLn]; omega) ?_
        refine lv_goto (tgt := 118) hx hb dX0_day_109 (by decide) ?_
        refine lv_aload_n hx hb dX0_day_118 rfl (lv_at hl 0 rfl) ?_
        refine x_get E hK I 8 rfl q147 rfl dX0_day_119 ?_
        refine lv_iload_n hx hb dX0_day_122 rfl (lv_at hl 1 rfl) ?_
        refine g_lget (i := j) hC hg E hK hA hX I hj ⟨Nat.le_of_ble_eq_true rfl, Nat.le_of_ble_eq_true rfl⟩ ⟨Nat.le_refl 0, Nat.le_refl 0⟩ hl.1 (Nat.le_of_ble_eq_true rfl) dX0_day_123 (fun H locs I => ?_)
        refine g_cast (i := j) E hK hX I hg hj q260 dX0_day_128 ?_
        refine gf_get (i := j) E hK I hg hj 2 (by decide) q276 rfl dX0_day_131 ?_
        refine lv_isub hx hb dX0_day_134 ?_
        exact r_i E hlk hr I (Nat.le_refl 0) (Nat.le_refl 0) dX0_day_135 (⟨by simp at c5; simp only [c5, if_true, nI_clamp (show j < 2 ^ 31 by omega)]; rw [← hs1]; simp [xDayR, c20_5, c100], by simp at c5; simp only [c5, if_true]; exact hs1⟩)
    refine lv_tableOut (tgt := 136) hx hb dX0_day_20 (by have := lv_neT c20_0 (a := 0) rfl; have := lv_neT c20_1 (a := 1) rfl; have := lv_neT c20_2 (a := 2) rfl; have := lv_neT c20_3 (a := 3) rfl; have := lv_neT c20_4 (a := 4) rfl; have := lv_neT c20_5 (a := 5) rfl; omega) (by decide) ?_
    refine lv_bipush (v := (-2)) hx hb dX0_day_136 (by decide) ?_
    exact r_i E hlk hr I (Nat.le_refl 0) (Nat.le_refl 0) dX0_day_138 (⟨by simp at c5; simp only [c5, if_true, nI_clamp (show j < 2 ^ 31 by omega)]; rw [← hs1]; simp [xDayR, c20_0, c20_1, c20_2, c20_3, c20_4, c20_5], by simp at c5; simp only [c5, if_true]; exact hs1⟩)
  · refine lv_iconst (v := (-1)) hx hb dX0_day_8 (by decide) ?_
    exact r_i E hlk hr I (Nat.le_refl 0) (Nat.le_refl 0) dX0_day_9 (⟨by simp at c5; simp [c5], by simp at c5; simp [c5]⟩)
theorem dc_x_day : yX0_day.cls = RX0 ∧ yX0_day.cls ≠ "java/lang/invoke/MethodHandle" ∧ yX0_day.cls ≠ "java/lang/invoke/VarHandle" ∧ (parseMethodDescriptor yX0_day.desc).map (fun d => d.parameters.length) = some 2 := by decide +kernel
theorem x_taken (l : Launch) (D : va_G) (ty : Nat → ClassId) (o : Nat) (ad : Nat → Nat) (em : Nat) (g : GS) (ex : va_W) (Cy : (Nat → Prop) → State → Prop) (hC : CxOk (CxX em Cy)) (hg : gOk g) (σ : Sg) (v : Int32) (w : Int32) (T : Nat) (hT : T ≤ 6) (h0 : σ 0 0 = nI T) : xKi l yX0_taken cX0_taken 3 .int 11 D ty (CxX em Cy) o ad (gE ty o (ad 8) em g ex) σ [.int v, .int w] (fun r τ => r = (if wi v 0 399 = true ∧ wi w 0 1 = true then (if σ 0 0 = 0 then (-3) else if w = 0 then nI (cnt (xTak (xTo σ g T (v).toNatClampNeg (-9))) T) else nI (cnt (xWt (xTo σ g T (v).toNatClampNeg (-9))) g.1)) else (-2)) ∧ τ = if (wi v 0 399 = true ∧ wi w 0 1 = true) ∧ ¬ σ 0 0 = 0 then xTo σ g T (v).toNatClampNeg (-9) else σ) := by
  refine Ki.of (by decide) (Nat.le_of_ble_eq_true rfl) ?_
  intro p e s m below meth c A ls args E hK hA hX hlk hr I hl
  have hx := E.1
  have hb := E.2.1
  have hl : lv_has ls 3 [(0, .ref o), (1, .int v), (2, .int w)] := hl
  have hg8 := hg.1
  refine lv_iload_n hx hb dX0_taken_0 rfl (lv_at hl 1 rfl) ?_
  refine lv_i2l hx hb dX0_taken_1 rfl ?_
  refine lv_lconst (v := 0) hx hb dX0_taken_2 (by decide) ?_
  refine top_l (y := (0 : Int32).toInt64) (by decide) ?_
  refine lv_ldc2 (v := 399) hx hb E.2.2.2.1 (E.2.2.2.2 _ q242) dX0_taken_3 ?_
  refine top_l (y := (399 : Int32).toInt64) (by decide) ?_
  refine c_Si E (x_in l v 0 399) go_x_in ⟨rfl, rfl⟩ dc_x_in ⟨Nat.le_of_ble_eq_true rfl, Nat.le_of_ble_eq_true rfl⟩ ⟨Nat.le_refl 0, Nat.le_refl 0⟩ hl.1 (Nat.le_of_ble_eq_true rfl) rfl dX0_taken_6 (fun r6 hp => ?_)
  refine top_i (y := bI (wi v 0 399)) hp ?_
  refine b_eq (tgt := 22) hx hb dX0_taken_9 (by decide) (fun c9 => ?_) (fun c9 => ?_)
  · refine lv_bipush (v := (-2)) hx hb dX0_taken_22 (by decide) ?_
    exact r_i E hlk hr I (Nat.le_refl 0) (Nat.le_refl 0) dX0_taken_24 (⟨by simp [c9], by simp [c9]⟩)
  · refine lv_iload_n hx hb dX0_taken_12 rfl (lv_at hl 2 rfl) ?_
    refine lv_i2l hx hb dX0_taken_13 rfl ?_
    refine lv_lconst (v := 0) hx hb dX0_taken_14 (by decide) ?_
    refine top_l (y := (0 : Int32).toInt64) (by decide) ?_
    refine lv_lconst (v := 1) hx hb dX0_taken_15 (by decide) ?_
    refine top_l (y := (1 : Int32).toInt64) (by decide) ?_
    refine c_Si E (x_in l w 0 1) go_x_in ⟨rfl, rfl⟩ dc_x_in ⟨Nat.le_of_ble_eq_true rfl, Nat.le_of_ble_eq_true rfl⟩ ⟨Nat.le_refl 0, Nat.le_refl 0⟩ hl.1 (Nat.le_of_ble_eq_true rfl) rfl dX0_taken_16 (fun r16 hp => ?_)
    refine top_i (y := bI (wi w 0 1)) hp ?_
    refine b_ne (tgt := 25) hx hb dX0_taken_19 (by decide) (fun c19 => ?_) (fun c19 => ?_)
    · refine lv_aload_n hx hb dX0_taken_25 rfl (lv_at hl 0 rfl) ?_
      refine x_get E hK I 0 rfl q138 rfl dX0_taken_26 ?_
      refine lv_if_ne (tgt := 35) hx hb dX0_taken_29 (by decide) (fun c29 => ?_) (fun c29 => ?_)
      · obtain ⟨j, hj, ej⟩ := wi_nat (n := 399) (by decide) c9
        subst ej
        refine lv_aload_n hx hb dX0_taken_35 rfl (lv_at hl 0 rfl) ?_
        refine lv_iload_n hx hb dX0_taken_36 rfl (lv_at hl 1 rfl) ?_
        refine lv_bipush (v := (-9)) hx hb dX0_taken_37 (by decide) ?_
        refine x_cv hC E hK hA hX I (x_goTo l D ty o ad em g ex Cy hC hg σ j (-9) (by omega) T hT h0) go_x_goTo dc_x_goTo ⟨Nat.le_of_ble_eq_true rfl, Nat.le_of_ble_eq_true rfl⟩ ⟨Nat.le_refl 0, Nat.le_refl 0⟩ hl.1 (Nat.le_of_ble_eq_true rfl) rfl dX0_taken_39 (fun σ39 H locs hp I => ?_)
        have I := x_as I hp
        obtain ⟨s1, hs1⟩ : ∃ z, z = xTo σ g T j (-9) := ⟨_, rfl⟩
        have I := x_as I hs1.symm
        refine lv_iload_n hx hb dX0_taken_42 rfl (lv_at hl 2 rfl) ?_
        refine lv_if_ne (tgt := 53) hx hb dX0_taken_43 (by decide) (fun c43 => ?_) (fun c43 => ?_)
        · refine lv_aload_n hx hb dX0_taken_53 rfl (lv_at hl 0 rfl) ?_
          refine x_ci hC E hK hA hX I (x_waitingNow l D ty o ad em g ex Cy hC hg s1) go_x_waitingNow dc_x_waitingNow ⟨Nat.le_of_ble_eq_true rfl, Nat.le_of_ble_eq_true rfl⟩ ⟨Nat.le_refl 0, Nat.le_refl 0⟩ hl.1 (Nat.le_of_ble_eq_true rfl) rfl dX0_taken_54 (fun r54 σ54 H locs hp I => ?_)
          refine top_i (y := nI (cnt (xWt s1) g.1)) hp.1 ?_
          have I := x_as I hp.2
          exact r_i E hlk hr I (Nat.le_refl 0) (Nat.le_refl 0) dX0_taken_57 (⟨by simp only [c9, c19, nI_clamp (show j < 2 ^ 31 by omega)]; rw [← hs1]; simp [c29, c43], by simp only [c9, c19, nI_clamp (show j < 2 ^ 31 by omega)]; rw [← hs1]; simp [c29]⟩)
        · refine lv_aload_n hx hb dX0_taken_46 rfl (lv_at hl 0 rfl) ?_
          refine x_ci hC E hK hA hX I (x_takenNow l D ty o ad (gE ty o (ad 8) em g ex) (CxX em Cy) hC s1 T hT (by rw [hs1, xTo_k (by decide)]; exact h0)) go_x_takenNow dc_x_takenNow ⟨Nat.le_of_ble_eq_true rfl, Nat.le_of_ble_eq_true rfl⟩ ⟨Nat.le_refl 0, Nat.le_refl 0⟩ hl.1 (Nat.le_of_ble_eq_true rfl) rfl dX0_taken_47 (fun r47 σ47 H locs hp I => ?_)
          refine top_i (y := nI (cnt (xTak s1) T)) hp.1 ?_
          have I := x_as I hp.2
          refine lv_goto (tgt := 57) hx hb dX0_taken_50 (by decide) ?_
          exact r_i E hlk hr I (Nat.le_refl 0) (Nat.le_refl 0) dX0_taken_57 (⟨by simp only [c9, c19, nI_clamp (show j < 2 ^ 31 by omega)]; rw [← hs1]; simp [c29, c43], by simp only [c9, c19, nI_clamp (show j < 2 ^ 31 by omega)]; rw [← hs1]; simp [c29]⟩)
      · refine lv_bipush (v := (-3)) hx hb dX0_taken_32 (by decide) ?_
        exact r_i E hlk hr I (Nat.le_refl 0) (Nat.le_refl 0) dX0_taken_34 (⟨by simp [c9, c19, c29], by simp [c9, c19, c29]⟩)
    · refine lv_bipush (v := (-2)) hx hb dX0_taken_22 (by decide) ?_
      exact r_i E hlk hr I (Nat.le_refl 0) (Nat.le_refl 0) dX0_taken_24 (⟨by simp [c9, c19], by simp [c9, c19]⟩)
theorem dc_x_taken : yX0_taken.cls = RX0 ∧ yX0_taken.cls ≠ "java/lang/invoke/MethodHandle" ∧ yX0_taken.cls ≠ "java/lang/invoke/VarHandle" ∧ (parseMethodDescriptor yX0_taken.desc).map (fun d => d.parameters.length) = some 2 := by decide +kernel
theorem x_coin (l : Launch) (D : va_G) (ty : Nat → ClassId) (o : Nat) (ad : Nat → Nat) (em : Nat) (g : GS) (ex : va_W) (Cy : (Nat → Prop) → State → Prop) (hC : CxOk (CxX em Cy)) (hg : gOk g) (σ : Sg) (T : Nat) (hT : T ≤ 6) (h0 : σ 0 0 = nI T) : xKi l yX0_coin cX0_coin 1 .int 12 D ty (CxX em Cy) o ad (gE ty o (ad 8) em g ex) σ [] (fun r τ => r = (if σ 0 0 = 0 then (-3) else xSum (xTo σ g T 399 (-9)) g g.1) ∧ τ = if σ 0 0 = 0 then σ else xTo σ g T 399 (-9)) := by
  refine Ki.of (by decide) (Nat.le_of_ble_eq_true rfl) ?_
  intro p e s m below meth c A ls args E hK hA hX hlk hr I hl
  have hx := E.1
  have hb := E.2.1
  have hl : lv_has ls 1 [(0, .ref o)] := hl
  have hg8 := hg.1
  refine lv_aload_n hx hb dX0_coin_0 rfl (lv_at hl 0 rfl) ?_
  refine x_get E hK I 0 rfl q138 rfl dX0_coin_1 ?_
  refine lv_if_ne (tgt := 12) hx hb dX0_coin_4 (by decide) (fun c4 => ?_) (fun c4 => ?_)
  · refine lv_aload_n hx hb dX0_coin_12 rfl (lv_at hl 0 rfl) ?_
    refine lv_bipush (v := (-9)) hx hb dX0_coin_13 (by decide) ?_
    refine x_ci hC E hK hA hX I (x_coinOfDay l D ty o ad em g ex Cy hC hg σ (-9) T hT h0) go_x_coinOfDay dc_x_coinOfDay ⟨Nat.le_of_ble_eq_true rfl, Nat.le_of_ble_eq_true rfl⟩ ⟨Nat.le_refl 0, Nat.le_refl 0⟩ hl.1 (Nat.le_of_ble_eq_true rfl) rfl dX0_coin_15 (fun r15 σ15 H locs hp I => ?_)
    refine top_i (y := xSum (xTo σ g T 399 (-9)) g g.1) hp.1 ?_
    have I := x_as I hp.2
    exact r_i E hlk hr I (Nat.le_refl 0) (Nat.le_refl 0) dX0_coin_18 (⟨by simp only [c4, if_true, if_false], by simp only [c4, if_true, if_false]⟩)
  · refine lv_bipush (v := (-3)) hx hb dX0_coin_7 (by decide) ?_
    refine lv_goto (tgt := 18) hx hb dX0_coin_9 (by decide) ?_
    exact r_i E hlk hr I (Nat.le_refl 0) (Nat.le_refl 0) dX0_coin_18 (⟨by simp only [c4, if_true, if_false], by simp only [c4, if_true, if_false]⟩)
theorem dc_x_coin : yX0_coin.cls = RX0 ∧ yX0_coin.cls ≠ "java/lang/invoke/MethodHandle" ∧ yX0_coin.cls ≠ "java/lang/invoke/VarHandle" ∧ (parseMethodDescriptor yX0_coin.desc).map (fun d => d.parameters.length) = some 0 := by decide +kernel
theorem x_worth (l : Launch) (D : va_G) (ty : Nat → ClassId) (o : Nat) (ad : Nat → Nat) (em : Nat) (g : GS) (ex : va_W) (Cy : (Nat → Prop) → State → Prop) (hC : CxOk (CxX em Cy)) (hg : gOk g) (σ : Sg) (v : Int32) (T : Nat) (hT : T ≤ 6) (h0 : σ 0 0 = nI T) : xKl l yX0_worth cX0_worth 2 12 D ty (CxX em Cy) o ad (gE ty o (ad 8) em g ex) σ [.int v] (fun r τ => r = (if wi v 0 (nI g.1 - 1) then (xSum (xTo σ g T 399 (-9)) g g.1).toInt64 - (xSum (xTo (xTo σ g T 399 (-9)) g T 399 v) g g.1).toInt64 else (-9223372036854775808)) ∧ τ = if wi v 0 (nI g.1 - 1) then xTo (xTo σ g T 399 (-9)) g T 399 v else σ) := by
  refine Kl.of (by decide) (Nat.le_of_ble_eq_true rfl) ?_
  intro p e s m below meth c A ls args E hK hA hX hlk hr I hl
  have hx := E.1
  have hb := E.2.1
  have hl : lv_has ls 2 [(0, .ref o), (1, .int v)] := hl
  have hg8 := hg.1
  refine lv_aload_n hx hb dX0_worth_0 rfl (lv_at hl 0 rfl) ?_
  refine lv_iload_n hx hb dX0_worth_1 rfl (lv_at hl 1 rfl) ?_
  refine x_ci hC E hK hA hX I (x_noGroup l D ty o ad em g ex Cy hC hg σ v) go_x_noGroup dc_x_noGroup ⟨Nat.le_of_ble_eq_true rfl, Nat.le_of_ble_eq_true rfl⟩ ⟨Nat.le_refl 0, Nat.le_refl 0⟩ hl.1 (Nat.le_of_ble_eq_true rfl) rfl dX0_worth_2 (fun r2 σ2 H locs hp I => ?_)
  refine top_i (y := bI (!wi v 0 (nI g.1 - 1))) hp.1 ?_
  have I := x_as I hp.2
  refine b_eq (tgt := 14) hx hb dX0_worth_5 (by decide) (fun c5 => ?_) (fun c5 => ?_)
  · refine lv_aload_n hx hb dX0_worth_14 rfl (lv_at hl 0 rfl) ?_
    refine lv_bipush (v := (-9)) hx hb dX0_worth_15 (by decide) ?_
    refine x_ci hC E hK hA hX I (x_coinOfDay l D ty o ad em g ex Cy hC hg σ (-9) T hT h0) go_x_coinOfDay dc_x_coinOfDay ⟨Nat.le_of_ble_eq_true rfl, Nat.le_of_ble_eq_true rfl⟩ ⟨Nat.le_refl 0, Nat.le_refl 0⟩ hl.1 (Nat.le_of_ble_eq_true rfl) rfl dX0_worth_17 (fun r17 σ17 H locs hp I => ?_)
    refine top_i (y := xSum (xTo σ g T 399 (-9)) g g.1) hp.1 ?_
    have I := x_as I hp.2
    obtain ⟨s1, hs1⟩ : ∃ z, z = xTo σ g T 399 (-9) := ⟨_, rfl⟩
    have I := x_as I hs1.symm
    refine lv_i2l hx hb dX0_worth_20 rfl ?_
    refine lv_aload_n hx hb dX0_worth_21 rfl (lv_at hl 0 rfl) ?_
    refine lv_iload_n hx hb dX0_worth_22 rfl (lv_at hl 1 rfl) ?_
    refine x_ci hC E hK hA hX I (x_coinOfDay l D ty o ad em g ex Cy hC hg s1 v T hT (by rw [hs1, xTo_k (by decide)]; exact h0)) go_x_coinOfDay dc_x_coinOfDay ⟨Nat.le_of_ble_eq_true rfl, Nat.le_of_ble_eq_true rfl⟩ ⟨Nat.le_refl 0, Nat.le_refl 0⟩ hl.1 (Nat.le_of_ble_eq_true rfl) rfl dX0_worth_23 (fun r23 σ23 H locs hp I => ?_)
    refine top_i (y := xSum (xTo s1 g T 399 v) g g.1) hp.1 ?_
    have I := x_as I hp.2
    refine lv_i2l hx hb dX0_worth_26 rfl ?_
    refine lv_lsub hx hb dX0_worth_27 ?_
    exact r_l E hlk hr I (Nat.le_refl 0) (Nat.le_refl 0) dX0_worth_28 (by simp at c5; simp only [c5, if_true]; rw [← hs1]; exact ⟨rfl, rfl⟩)
  · refine lv_ldc2 (v := (-9223372036854775808)) hx hb E.2.2.2.1 (E.2.2.2.2 _ q568) dX0_worth_8 ?_
    refine lv_goto (tgt := 28) hx hb dX0_worth_11 (by decide) ?_
    exact r_l E hlk hr I (Nat.le_refl 0) (Nat.le_refl 0) dX0_worth_28 (by simp at c5; simp only [c5, if_true]; exact ⟨rfl, rfl⟩)
theorem dc_x_worth : yX0_worth.cls = RX0 ∧ yX0_worth.cls ≠ "java/lang/invoke/MethodHandle" ∧ yX0_worth.cls ≠ "java/lang/invoke/VarHandle" ∧ (parseMethodDescriptor yX0_worth.desc).map (fun d => d.parameters.length) = some 1 := by decide +kernel
