set_option maxRecDepth 100000
set_option maxHeartbeats 4000000
/-- the trace goes on -/
def gTr (σ : Sg) (n : Int32) : Sg := up σ 7 0 (31 * σ 7 0 + n)
def gSaid0 (g : GS) (i : Nat) : Int32 := 0 + g.2.2.2.2.2 1 i
def gSaid1 (g : GS) (i : Nat) : Int32 := 0 + gSaid0 g i + 100
def gSaid2 (g : GS) (i : Nat) : Int32 := 0 + gSaid1 g i + gSaid0 g i
theorem k4_tracedBy (l : Launch) (D : va_G) (ty : Nat → ClassId) (o : Nat) (ad : Nat → Nat) (em : Nat) (g : GS) (ex : va_W) (Cy : (Nat → Prop) → State → Prop) (hC : CxOk (CxX em Cy)) (hg : gOk g) (σ : Sg) (i : Nat) (hi : i < g.1) (n : Int32) : Ki l yX4_tracedBy cX4_tracedBy 2 .int (rmL 1) D ty (CxX em Cy) [.ref (g.2.2.2.1 i), .int n] (gW ty o ad em g ex) σ (fun r τ => r = 0 ∧ τ = gTr σ n) := by
  refine Ki.of (by decide) (Nat.le_of_ble_eq_true rfl) ?_
  intro p e s m below meth c A ls args E hK hA hX hlk hr I hl
  have hx := E.1
  have hb := E.2.1
  have hl : lv_has ls 2 [(0, .ref (g.2.2.2.1 i)), (1, .int n)] := hl
  refine lv_aload_n hx hb dX4_tracedBy_0 rfl (lv_at hl 0 rfl) ?_
  refine gf_get E hK I hg hi 6 (by decide) q282 rfl dX4_tracedBy_1 ?_
  refine lv_bipush (v := 31) hx hb dX4_tracedBy_4 (by decide) ?_
  refine lv_aload_n hx hb dX4_tracedBy_6 rfl (lv_at hl 0 rfl) ?_
  refine gf_get E hK I hg hi 6 (by decide) q282 rfl dX4_tracedBy_7 ?_
  refine x_tget E hK hX I dX4_tracedBy_10 ?_
  refine lv_imul hx hb dX4_tracedBy_13 ?_
  refine lv_iload_n hx hb dX4_tracedBy_14 rfl (lv_at hl 1 rfl) ?_
  refine lv_iadd hx hb dX4_tracedBy_15 ?_
  refine x_tput E hK hX I dX4_tracedBy_16 (fun H locs I => ?_)
  refine lv_iconst (v := 0) hx hb dX4_tracedBy_19 (by decide) ?_
  exact r_i E hlk hr I (Nat.le_refl 0) (Nat.le_refl 0) dX4_tracedBy_20 (⟨rfl, rfl⟩)
theorem k4_said (l : Launch) (D : va_G) (ty : Nat → ClassId) (o : Nat) (ad : Nat → Nat) (em : Nat) (g : GS) (ex : va_W) (Cy : (Nat → Prop) → State → Prop) (hC : CxOk (CxX em Cy)) (hg : gOk g) (σ : Sg) (i : Nat) (hi : i < g.1) : Ki l yX4_said cX4_said 1 .int (rmL 2) D ty (CxX em Cy) [.ref (g.2.2.2.1 i)] (gW ty o ad em g ex) σ (fun r τ => r = gSaid0 g i ∧ τ = gTr σ 1) := by
  refine Ki.of (by decide) (Nat.le_of_ble_eq_true rfl) ?_
  intro p e s m below meth c A ls args E hK hA hX hlk hr I hl
  have hx := E.1
  have hb := E.2.1
  have hl : lv_has ls 1 [(0, .ref (g.2.2.2.1 i))] := hl
  refine lv_aload_n hx hb dX4_said_0 rfl (lv_at hl 0 rfl) ?_
  refine lv_iconst (v := 1) hx hb dX4_said_1 (by decide) ?_
  have he := gW_g (ty := ty) (o := o) (ad := ad) (em := em) (ex := ex) (σ := σ) hi
  rcases (show g.2.2.2.2.1 i = 0 ∨ g.2.2.2.2.1 i = 1 ∨ g.2.2.2.2.1 i = 2 by have := hg.2.1 i hi; omega) with hk1 | hk1 | hk1
  · rw [hk1] at he
    refine c_Ui (owner := "CafeTables$Guest") (x := ⟨"CafeTables$Guest", "tracedBy", "(I)I"⟩) (ci := 2) (As := [.int 1]) hC E hK hA hX I (k4_tracedBy l D ty o ad em g ex Cy hC hg σ i hi 1) (va_cwU 1 E.2.2.2.2 (lw_U q1026 q1539 q1540 q1008 q90 q1009) rfl rfl rfl rfl (by decide +kernel) ⟨Nat.le_of_ble_eq_true rfl, Nat.le_of_ble_eq_true rfl⟩) ⟨Nat.le_refl 0, Nat.le_refl 0⟩ he rfl hl.1 (Nat.le_of_ble_eq_true rfl) rfl dX4_said_2 (fun r2 σ2 H locs hp I => ?_)
    refine top_i (y := 0) hp.1 ?_
    have I := g_as I hp.2
    refine lv_aload_n hx hb dX4_said_5 rfl (lv_at hl 0 rfl) ?_
    refine gf_get E hK I hg hi 1 (by decide) q273 rfl dX4_said_6 ?_
    refine lv_iadd hx hb dX4_said_9 ?_
    exact r_i E hlk hr I (Nat.le_refl 0) (Nat.le_refl 0) dX4_said_10 (⟨rfl, rfl⟩)
  · rw [hk1] at he
    refine c_Ui (owner := "CafeTables$Guest") (x := ⟨"CafeTables$Guest", "tracedBy", "(I)I"⟩) (ci := 3) (As := [.int 1]) hC E hK hA hX I (k4_tracedBy l D ty o ad em g ex Cy hC hg σ i hi 1) (va_cwU 1 E.2.2.2.2 (lw_U q1026 q1539 q1542 q1008 q90 q1009) rfl rfl rfl rfl (by decide +kernel) ⟨Nat.le_of_ble_eq_true rfl, Nat.le_of_ble_eq_true rfl⟩) ⟨Nat.le_refl 0, Nat.le_refl 0⟩ he rfl hl.1 (Nat.le_of_ble_eq_true rfl) rfl dX4_said_2 (fun r2 σ2 H locs hp I => ?_)
    refine top_i (y := 0) hp.1 ?_
    have I := g_as I hp.2
    refine lv_aload_n hx hb dX4_said_5 rfl (lv_at hl 0 rfl) ?_
    refine gf_get E hK I hg hi 1 (by decide) q273 rfl dX4_said_6 ?_
    refine lv_iadd hx hb dX4_said_9 ?_
    exact r_i E hlk hr I (Nat.le_refl 0) (Nat.le_refl 0) dX4_said_10 (⟨rfl, rfl⟩)
  · rw [hk1] at he
    refine c_Ui (owner := "CafeTables$Guest") (x := ⟨"CafeTables$Guest", "tracedBy", "(I)I"⟩) (ci := 4) (As := [.int 1]) hC E hK hA hX I (k4_tracedBy l D ty o ad em g ex Cy hC hg σ i hi 1) (va_cwU 1 E.2.2.2.2 (lw_U q1026 q1539 q1541 q1008 q90 q1009) rfl rfl rfl rfl (by decide +kernel) ⟨Nat.le_of_ble_eq_true rfl, Nat.le_of_ble_eq_true rfl⟩) ⟨Nat.le_refl 0, Nat.le_refl 0⟩ he rfl hl.1 (Nat.le_of_ble_eq_true rfl) rfl dX4_said_2 (fun r2 σ2 H locs hp I => ?_)
    refine top_i (y := 0) hp.1 ?_
    have I := g_as I hp.2
    refine lv_aload_n hx hb dX4_said_5 rfl (lv_at hl 0 rfl) ?_
    refine gf_get E hK I hg hi 1 (by decide) q273 rfl dX4_said_6 ?_
    refine lv_iadd hx hb dX4_said_9 ?_
    exact r_i E hlk hr I (Nat.le_refl 0) (Nat.le_refl 0) dX4_said_10 (⟨rfl, rfl⟩)
theorem k5_plainly (l : Launch) (D : va_G) (ty : Nat → ClassId) (o : Nat) (ad : Nat → Nat) (em : Nat) (g : GS) (ex : va_W) (Cy : (Nat → Prop) → State → Prop) (hC : CxOk (CxX em Cy)) (hg : gOk g) (σ : Sg) (i : Nat) (hi : i < g.1) (hk : 1 ≤ g.2.2.2.2.1 i) : Ki l yX5_plainly cX5_plainly 1 .int (rmL 3) D ty (CxX em Cy) [.ref (g.2.2.2.1 i)] (gW ty o ad em g ex) σ (fun r τ => r = gSaid0 g i ∧ τ = gTr σ 1) := by
  refine Ki.of (by decide) (Nat.le_of_ble_eq_true rfl) ?_
  intro p e s m below meth c A ls args E hK hA hX hlk hr I hl
  have hx := E.1
  have hb := E.2.1
  have hl : lv_has ls 1 [(0, .ref (g.2.2.2.1 i))] := hl
  refine lv_aload_n hx hb dX5_plainly_0 rfl (lv_at hl 0 rfl) ?_
  have he := gW_g (ty := ty) (o := o) (ad := ad) (em := em) (ex := ex) (σ := σ) hi
  rcases (show g.2.2.2.2.1 i = 1 ∨ g.2.2.2.2.1 i = 2 by have := hg.2.1 i hi; omega) with hk1 | hk1
  · rw [hk1] at he
    refine c_SUi (ci := 3) hC E hK hA hX I (k4_said l D ty o ad em g ex Cy hC hg σ i hi) (va_cwSU 0 E.2.2.2.2 (lw_SU q1017 q1000 q314 q998 q90 q1025) rfl rfl rfl (by decide +kernel) ⟨Nat.le_of_ble_eq_true rfl, Nat.le_of_ble_eq_true rfl⟩) ⟨Nat.le_refl 0, Nat.le_refl 0⟩ he rfl hl.1 (Nat.le_of_ble_eq_true rfl) rfl dX5_plainly_1 (fun r1 σ1 H locs hp I => ?_)
    refine top_i (y := gSaid0 g i) hp.1 ?_
    have I := g_as I hp.2
    exact r_i E hlk hr I (Nat.le_refl 0) (Nat.le_refl 0) dX5_plainly_4 (⟨rfl, rfl⟩)
  · rw [hk1] at he
    refine c_SUi (ci := 4) hC E hK hA hX I (k4_said l D ty o ad em g ex Cy hC hg σ i hi) (va_cwSU 0 E.2.2.2.2 (lw_SU q1017 q1000 q314 q998 q90 q1025) rfl rfl rfl (by decide +kernel) ⟨Nat.le_of_ble_eq_true rfl, Nat.le_of_ble_eq_true rfl⟩) ⟨Nat.le_refl 0, Nat.le_refl 0⟩ he rfl hl.1 (Nat.le_of_ble_eq_true rfl) rfl dX5_plainly_1 (fun r1 σ1 H locs hp I => ?_)
    refine top_i (y := gSaid0 g i) hp.1 ?_
    have I := g_as I hp.2
    exact r_i E hlk hr I (Nat.le_refl 0) (Nat.le_refl 0) dX5_plainly_4 (⟨rfl, rfl⟩)
theorem k5_said (l : Launch) (D : va_G) (ty : Nat → ClassId) (o : Nat) (ad : Nat → Nat) (em : Nat) (g : GS) (ex : va_W) (Cy : (Nat → Prop) → State → Prop) (hC : CxOk (CxX em Cy)) (hg : gOk g) (σ : Sg) (i : Nat) (hi : i < g.1) (hk : 1 ≤ g.2.2.2.2.1 i) : Ki l yX5_said cX5_said 1 .int (rmL 3) D ty (CxX em Cy) [.ref (g.2.2.2.1 i)] (gW ty o ad em g ex) σ (fun r τ => r = gSaid1 g i ∧ τ = gTr (gTr σ 2) 1) := by
  refine Ki.of (by decide) (Nat.le_of_ble_eq_true rfl) ?_
  intro p e s m below meth c A ls args E hK hA hX hlk hr I hl
  have hx := E.1
  have hb := E.2.1
  have hl : lv_has ls 1 [(0, .ref (g.2.2.2.1 i))] := hl
  refine lv_aload_n hx hb dX5_said_0 rfl (lv_at hl 0 rfl) ?_
  refine lv_iconst (v := 2) hx hb dX5_said_1 (by decide) ?_
  have he := gW_g (ty := ty) (o := o) (ad := ad) (em := em) (ex := ex) (σ := σ) hi
  rcases (show g.2.2.2.2.1 i = 1 ∨ g.2.2.2.2.1 i = 2 by have := hg.2.1 i hi; omega) with hk1 | hk1
  · rw [hk1] at he
    refine c_Ui (owner := "CafeTables$Guest") (x := ⟨"CafeTables$Staying", "tracedBy", "(I)I"⟩) (ci := 3) (As := [.int 2]) hC E hK hA hX I (k4_tracedBy l D ty o ad em g ex Cy hC hg σ i hi 2) (va_cwU 1 E.2.2.2.2 (lw_U q1013 q1014 q1016 q1008 q90 q1009) rfl rfl rfl rfl (by decide +kernel) ⟨Nat.le_of_ble_eq_true rfl, Nat.le_of_ble_eq_true rfl⟩) ⟨Nat.le_refl 0, Nat.le_refl 0⟩ he rfl hl.1 (Nat.le_of_ble_eq_true rfl) rfl dX5_said_2 (fun r2 σ2 H locs hp I => ?_)
    refine top_i (y := 0) hp.1 ?_
    have I := g_as I hp.2
    refine lv_aload_n hx hb dX5_said_5 rfl (lv_at hl 0 rfl) ?_
    have he := gW_g (ty := ty) (o := o) (ad := ad) (em := em) (ex := ex) (σ := (gTr σ 2)) hi
    rw [hk1] at he
    refine c_SUi (ci := 3) hC E hK hA hX I (k4_said l D ty o ad em g ex Cy hC hg (gTr σ 2) i hi) (va_cwSU 0 E.2.2.2.2 (lw_SU q1017 q1000 q314 q998 q90 q1025) rfl rfl rfl (by decide +kernel) ⟨Nat.le_of_ble_eq_true rfl, Nat.le_of_ble_eq_true rfl⟩) ⟨Nat.le_refl 0, Nat.le_refl 0⟩ he rfl hl.1 (Nat.le_of_ble_eq_true rfl) rfl dX5_said_6 (fun r6 σ6 H locs hp I => ?_)
    refine top_i (y := gSaid0 g i) hp.1 ?_
    have I := g_as I hp.2
    refine lv_iadd hx hb dX5_said_9 ?_
    refine lv_bipush (v := 100) hx hb dX5_said_10 (by decide) ?_
    refine lv_iadd hx hb dX5_said_12 ?_
    exact r_i E hlk hr I (Nat.le_refl 0) (Nat.le_refl 0) dX5_said_13 (⟨rfl, rfl⟩)
  · rw [hk1] at he
    refine c_Ui (owner := "CafeTables$Guest") (x := ⟨"CafeTables$Staying", "tracedBy", "(I)I"⟩) (ci := 4) (As := [.int 2]) hC E hK hA hX I (k4_tracedBy l D ty o ad em g ex Cy hC hg σ i hi 2) (va_cwU 1 E.2.2.2.2 (lw_U q1013 q1014 q1015 q1008 q90 q1009) rfl rfl rfl rfl (by decide +kernel) ⟨Nat.le_of_ble_eq_true rfl, Nat.le_of_ble_eq_true rfl⟩) ⟨Nat.le_refl 0, Nat.le_refl 0⟩ he rfl hl.1 (Nat.le_of_ble_eq_true rfl) rfl dX5_said_2 (fun r2 σ2 H locs hp I => ?_)
    refine top_i (y := 0) hp.1 ?_
    have I := g_as I hp.2
    refine lv_aload_n hx hb dX5_said_5 rfl (lv_at hl 0 rfl) ?_
    have he := gW_g (ty := ty) (o := o) (ad := ad) (em := em) (ex := ex) (σ := (gTr σ 2)) hi
    rw [hk1] at he
    refine c_SUi (ci := 4) hC E hK hA hX I (k4_said l D ty o ad em g ex Cy hC hg (gTr σ 2) i hi) (va_cwSU 0 E.2.2.2.2 (lw_SU q1017 q1000 q314 q998 q90 q1025) rfl rfl rfl (by decide +kernel) ⟨Nat.le_of_ble_eq_true rfl, Nat.le_of_ble_eq_true rfl⟩) ⟨Nat.le_refl 0, Nat.le_refl 0⟩ he rfl hl.1 (Nat.le_of_ble_eq_true rfl) rfl dX5_said_6 (fun r6 σ6 H locs hp I => ?_)
    refine top_i (y := gSaid0 g i) hp.1 ?_
    have I := g_as I hp.2
    refine lv_iadd hx hb dX5_said_9 ?_
    refine lv_bipush (v := 100) hx hb dX5_said_10 (by decide) ?_
    refine lv_iadd hx hb dX5_said_12 ?_
    exact r_i E hlk hr I (Nat.le_refl 0) (Nat.le_refl 0) dX5_said_13 (⟨rfl, rfl⟩)
theorem k6_said (l : Launch) (D : va_G) (ty : Nat → ClassId) (o : Nat) (ad : Nat → Nat) (em : Nat) (g : GS) (ex : va_W) (Cy : (Nat → Prop) → State → Prop) (hC : CxOk (CxX em Cy)) (hg : gOk g) (σ : Sg) (i : Nat) (hi : i < g.1) (hk : g.2.2.2.2.1 i = 2) : Ki l yX6_said cX6_said 1 .int (rmL 4) D ty (CxX em Cy) [.ref (g.2.2.2.1 i)] (gW ty o ad em g ex) σ (fun r τ => r = gSaid2 g i ∧ τ = gTr (gTr (gTr (gTr σ 3) 2) 1) 1) := by
  refine Ki.of (by decide) (Nat.le_of_ble_eq_true rfl) ?_
  intro p e s m below meth c A ls args E hK hA hX hlk hr I hl
  have hx := E.1
  have hb := E.2.1
  have hl : lv_has ls 1 [(0, .ref (g.2.2.2.1 i))] := hl
  refine lv_aload_n hx hb dX6_said_0 rfl (lv_at hl 0 rfl) ?_
  refine lv_iconst (v := 3) hx hb dX6_said_1 (by decide) ?_
  have he := gW_g (ty := ty) (o := o) (ad := ad) (em := em) (ex := ex) (σ := σ) hi
  rw [hk] at he
  refine c_Ui (owner := "CafeTables$Guest") (x := ⟨"CafeTables$Looked", "tracedBy", "(I)I"⟩) (ci := 4) (As := [.int 3]) hC E hK hA hX I (k4_tracedBy l D ty o ad em g ex Cy hC hg σ i hi 3) (va_cwU 1 E.2.2.2.2 (lw_U q1004 q1005 q1007 q1008 q90 q1009) rfl rfl rfl rfl (by decide +kernel) ⟨Nat.le_of_ble_eq_true rfl, Nat.le_of_ble_eq_true rfl⟩) ⟨Nat.le_refl 0, Nat.le_refl 0⟩ he rfl hl.1 (Nat.le_of_ble_eq_true rfl) rfl dX6_said_2 (fun r2 σ2 H locs hp I => ?_)
  refine top_i (y := 0) hp.1 ?_
  have I := g_as I hp.2
  refine lv_aload_n hx hb dX6_said_5 rfl (lv_at hl 0 rfl) ?_
  have he := gW_g (ty := ty) (o := o) (ad := ad) (em := em) (ex := ex) (σ := (gTr σ 3)) hi
  rw [hk] at he
  refine c_SUi (ci := 4) hC E hK hA hX I (k5_said l D ty o ad em g ex Cy hC hg (gTr σ 3) i hi (by omega)) (va_cwSU 0 E.2.2.2.2 (lw_SU q1010 q1538 q332 q1011 q91 q1012) rfl rfl rfl (by decide +kernel) ⟨Nat.le_of_ble_eq_true rfl, Nat.le_of_ble_eq_true rfl⟩) ⟨Nat.le_refl 0, Nat.le_refl 0⟩ he rfl hl.1 (Nat.le_of_ble_eq_true rfl) rfl dX6_said_6 (fun r6 σ6 H locs hp I => ?_)
  refine top_i (y := gSaid1 g i) hp.1 ?_
  have I := g_as I hp.2
  refine lv_iadd hx hb dX6_said_9 ?_
  refine lv_aload_n hx hb dX6_said_10 rfl (lv_at hl 0 rfl) ?_
  have he := gW_g (ty := ty) (o := o) (ad := ad) (em := em) (ex := ex) (σ := (gTr (gTr (gTr σ 3) 2) 1)) hi
  rw [hk] at he
  refine c_Ui (owner := "CafeTables$Staying") (x := ⟨"CafeTables$Looked", "plainly", "()I"⟩) (ci := 4) (As := []) hC E hK hA hX I (k5_plainly l D ty o ad em g ex Cy hC hg (gTr (gTr (gTr σ 3) 2) 1) i hi (by omega)) (va_cwU 0 E.2.2.2.2 (lw_U q1018 q1019 q1021 q1022 q91 q1023) rfl rfl rfl rfl (by decide +kernel) ⟨Nat.le_of_ble_eq_true rfl, Nat.le_of_ble_eq_true rfl⟩) ⟨Nat.le_refl 0, Nat.le_refl 0⟩ he rfl hl.1 (Nat.le_of_ble_eq_true rfl) rfl dX6_said_11 (fun r11 σ11 H locs hp I => ?_)
  refine top_i (y := gSaid0 g i) hp.1 ?_
  have I := g_as I hp.2
  refine lv_iadd hx hb dX6_said_14 ?_
  exact r_i E hlk hr I (Nat.le_refl 0) (Nat.le_refl 0) dX6_said_15 (⟨rfl, rfl⟩)
theorem k6_served (l : Launch) (D : va_G) (ty : Nat → ClassId) (o : Nat) (ad : Nat → Nat) (em : Nat) (g : GS) (ex : va_W) (Cy : (Nat → Prop) → State → Prop) (hC : CxOk (CxX em Cy)) (hg : gOk g) (σ : Sg) (i : Nat) (hi : i < g.1) (hk : g.2.2.2.2.1 i = 2) : Ki l yX6_served cX6_served 1 .int (rmL 2) D ty (CxX em Cy) [.ref (g.2.2.2.1 i)] (gW ty o ad em g ex) σ (fun r τ => r = 0 + 50 ∧ τ = gTr σ 5) := by
  refine Ki.of (by decide) (Nat.le_of_ble_eq_true rfl) ?_
  intro p e s m below meth c A ls args E hK hA hX hlk hr I hl
  have hx := E.1
  have hb := E.2.1
  have hl : lv_has ls 1 [(0, .ref (g.2.2.2.1 i))] := hl
  refine lv_aload_n hx hb dX6_served_0 rfl (lv_at hl 0 rfl) ?_
  refine lv_iconst (v := 5) hx hb dX6_served_1 (by decide) ?_
  have he := gW_g (ty := ty) (o := o) (ad := ad) (em := em) (ex := ex) (σ := σ) hi
  rw [hk] at he
  refine c_Ui (owner := "CafeTables$Guest") (x := ⟨"CafeTables$Looked", "tracedBy", "(I)I"⟩) (ci := 4) (As := [.int 5]) hC E hK hA hX I (k4_tracedBy l D ty o ad em g ex Cy hC hg σ i hi 5) (va_cwU 1 E.2.2.2.2 (lw_U q1004 q1005 q1007 q1008 q90 q1009) rfl rfl rfl rfl (by decide +kernel) ⟨Nat.le_of_ble_eq_true rfl, Nat.le_of_ble_eq_true rfl⟩) ⟨Nat.le_refl 0, Nat.le_refl 0⟩ he rfl hl.1 (Nat.le_of_ble_eq_true rfl) rfl dX6_served_2 (fun r2 σ2 H locs hp I => ?_)
  refine top_i (y := 0) hp.1 ?_
  have I := g_as I hp.2
  refine lv_bipush (v := 50) hx hb dX6_served_5 (by decide) ?_
  refine lv_iadd hx hb dX6_served_7 ?_
  exact r_i E hlk hr I (Nat.le_refl 0) (Nat.le_refl 0) dX6_served_8 (⟨rfl, rfl⟩)
