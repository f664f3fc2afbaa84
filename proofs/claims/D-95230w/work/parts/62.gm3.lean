set_option maxRecDepth 100000
set_option maxHeartbeats 4000000
def gSaidR (g : GS) (i : Nat) : Int32 := if g.2.2.2.2.1 i = 0 then gSaid0 g i else if g.2.2.2.2.1 i = 1 then gSaid1 g i else gSaid2 g i
def gSaidS (σ : Sg) (g : GS) (i : Nat) : Sg := if g.2.2.2.2.1 i = 0 then gTr σ 1 else if g.2.2.2.2.1 i = 1 then gTr (gTr σ 2) 1 else gTr (gTr (gTr (gTr σ 3) 2) 1) 1
theorem dc_g_said : "CafeTables$Guest" ≠ "java/lang/invoke/MethodHandle" ∧ "CafeTables$Guest" ≠ "java/lang/invoke/VarHandle" ∧ (parseMethodDescriptor yX4_said.desc).map (fun d => d.parameters.length) = some 0 := by decide +kernel
section GV3
variable {p : Program} {l : Launch} {e : Env} {R : Room} {s : State} {m : MethodId} {args : Array Value} {below : List Frame} {meth : Method} {c : Code} {H : Heap} {locs : List Loc} {cells slots : Nat} {Q : State → Prop}
variable {cc : ByteArray} {pc nL : Nat} {ls : Array Slot} {rest : List Value} {D : va_G} {A : Nat → Prop} {ty : Nat → ClassId} {o : Nat} {ad : Nat → Nat} {em : Nat} {g : GS} {ex : va_W} {σ : Sg} {Cy : (Nat → Prop) → State → Prop}
theorem g_said {own : String} {idx : Nat} (hq : Cond.methodLink own idx yX4_said ∈ lw_all) (hC : CxOk (CxX em Cy)) (hg : gOk g) (E : En p s m args c cc nL own) (hK : va_K D vwCl (tysG ty) s) (hA : ∀ q, s.heap.size ≤ q → A q) (hX : CxX em Cy A s) (I : gI s D A (gW ty o ad em g ex σ) H locs) {i : Nat} (hi : i < g.1) (hR : 5 ≤ R.frames ∧ 213 ≤ R.locals) (hf : cells ≤ R.cells ∧ slots ≤ R.slots) (hl : ls.size = nL) (hW : (rest.map fun v => v.category).sum ≤ 8) (hd : decode cc pc = .ok (.invokevirtual idx, 3))
    (kk : ∀ (H1 : Heap) (locs1 : List Loc), gI s D A (gW ty o ad em g ex (gSaidS σ g i)) H1 locs1 → W p l e R s m args below meth c H1 locs1 cells slots Q (F0 m (pc + 3) ls (.int (gSaidR g i) :: rest))) : W p l e R s m args below meth c H locs cells slots Q (F0 m pc ls (.ref (g.2.2.2.1 i) :: rest)) := by
  have he := gW_g (ty := ty) (o := o) (ad := ad) (em := em) (ex := ex) (σ := σ) hi
  rcases gkd hg hi with hk | hk | hk
  · rw [hk] at he
    refine c_Ui (owner := "CafeTables$Guest") (x := yX4_said) (ci := 2) (As := []) hC E hK hA hX I (k4_said l D ty o ad em g ex Cy hC hg σ i hi) (va_cwU 0 E.2.2.2.2 (lw_U hq q1000 q999 q998 q90 q1025) rfl rfl rfl rfl dc_g_said ⟨Nat.le_trans (Nat.le_of_ble_eq_true rfl) hR.1, Nat.le_trans (Nat.le_of_ble_eq_true rfl) hR.2⟩) hf he rfl hl hW rfl hd (fun r σ1 H1 locs1 hp I1 => ?_)
    obtain ⟨h1, h2⟩ := hp
    refine top_i (y := gSaidR g i) (h1.trans (by simp [gSaidR, hk])) ?_
    exact kk H1 locs1 (g_as I1 (h2.trans (by simp [gSaidS, hk])))
  · rw [hk] at he
    refine c_Ui (owner := "CafeTables$Guest") (x := yX4_said) (ci := 3) (As := []) hC E hK hA hX I (k5_said l D ty o ad em g ex Cy hC hg σ i hi (by omega)) (va_cwO 0 E.2.2.2.2 (lw_O hq q1000 q998 q1024 q1011 q91 q1012) rfl rfl rfl q1025 dc_g_said ⟨Nat.le_trans (Nat.le_of_ble_eq_true rfl) hR.1, Nat.le_trans (Nat.le_of_ble_eq_true rfl) hR.2⟩) hf he rfl hl hW rfl hd (fun r σ1 H1 locs1 hp I1 => ?_)
    obtain ⟨h1, h2⟩ := hp
    refine top_i (y := gSaidR g i) (h1.trans (by simp [gSaidR, hk])) ?_
    exact kk H1 locs1 (g_as I1 (h2.trans (by simp [gSaidS, hk])))
  · rw [hk] at he
    refine c_Ui (owner := "CafeTables$Guest") (x := yX4_said) (ci := 4) (As := []) hC E hK hA hX I (k6_said l D ty o ad em g ex Cy hC hg σ i hi hk) (va_cwO 0 E.2.2.2.2 (lw_O hq q1000 q998 q1001 q1002 q92 q1003) rfl rfl rfl q1025 dc_g_said ⟨Nat.le_trans (Nat.le_of_ble_eq_true rfl) hR.1, Nat.le_trans (Nat.le_of_ble_eq_true rfl) hR.2⟩) hf he rfl hl hW rfl hd (fun r σ1 H1 locs1 hp I1 => ?_)
    obtain ⟨h1, h2⟩ := hp
    refine top_i (y := gSaidR g i) (h1.trans (by simp [gSaidR, hk])) ?_
    exact kk H1 locs1 (g_as I1 (h2.trans (by simp [gSaidS, hk])))
end GV3
theorem k10_served (l : Launch) (D : va_G) (ty : Nat → ClassId) (o : Nat) (ad : Nat → Nat) (em : Nat) (g : GS) (ex : va_W) (Cy : (Nat → Prop) → State → Prop) (hC : CxOk (CxX em Cy)) (hg : gOk g) (σ : Sg) (i : Nat) (hi : i < g.1) : Ki l yX10_served cX10_served 1 .int (rmL 2) D ty (CxX em Cy) [.ref (g.2.2.2.1 i)] (gW ty o ad em g ex) σ (fun r τ => r = 0 + nI i ∧ τ = gTr σ 4) := by
  refine Ki.of (by decide) (Nat.le_of_ble_eq_true rfl) ?_
  intro p e s m below meth c A ls args E hK hA hX hlk hr I hl
  have hx := E.1
  have hb := E.2.1
  have hl : lv_has ls 1 [(0, .ref (g.2.2.2.1 i))] := hl
  refine lv_aload_n hx hb dX10_served_0 rfl (lv_at hl 0 rfl) ?_
  refine lv_iconst (v := 4) hx hb dX10_served_1 (by decide) ?_
  have he := gW_g (ty := ty) (o := o) (ad := ad) (em := em) (ex := ex) (σ := σ) hi
  rcases (show g.2.2.2.2.1 i = 0 ∨ g.2.2.2.2.1 i = 1 ∨ g.2.2.2.2.1 i = 2 by have := hg.2.1 i hi; omega) with hk1 | hk1 | hk1
  · rw [hk1] at he
    refine c_Fi (C := RX4) (x := yS_tracedBy) (y := yX4_tracedBy) (ci := 2) (As := [.int 4]) hC E hK hA hX I (k4_tracedBy l D ty o ad em g ex Cy hC hg σ i hi 4) (lw_F q1042 q1045 q1008 q90 q1009) (hX.2.1 _ (List.mem_of_getElem? (i := 4) rfl)) (by decide +kernel) ⟨Nat.le_of_ble_eq_true rfl, Nat.le_of_ble_eq_true rfl⟩ ⟨Nat.le_refl 0, Nat.le_refl 0⟩ he rfl hl.1 (Nat.le_of_ble_eq_true rfl) rfl dX10_served_2 (fun r2 σ2 H locs hp I => ?_)
    refine top_i (y := 0) hp.1 ?_
    have I := g_as I hp.2
    refine lv_aload_n hx hb dX10_served_7 rfl (lv_at hl 0 rfl) ?_
    have he := gW_g (ty := ty) (o := o) (ad := ad) (em := em) (ex := ex) (σ := (gTr σ 4)) hi
    rw [hk1] at he
    refine c_Fi (C := RX4) (x := yS_number) (y := yX4_number) (ci := 2) (As := []) hC E hK hA hX I (k4_number l D ty o ad em g ex Cy hC hg (gTr σ 4) i hi) (lw_F q1055 q1058 q1060 q90 q1062) (hX.2.1 _ (List.mem_of_getElem? (i := 7) rfl)) (by decide +kernel) ⟨Nat.le_of_ble_eq_true rfl, Nat.le_of_ble_eq_true rfl⟩ ⟨Nat.le_refl 0, Nat.le_refl 0⟩ he rfl hl.1 (Nat.le_of_ble_eq_true rfl) rfl dX10_served_8 (fun r8 σ8 H locs hp I => ?_)
    refine top_i (y := nI i) hp.1 ?_
    have I := g_as I hp.2
    refine lv_iadd hx hb dX10_served_13 ?_
    exact r_i E hlk hr I (Nat.le_refl 0) (Nat.le_refl 0) dX10_served_14 (⟨rfl, rfl⟩)
  · rw [hk1] at he
    refine c_Fi (C := RX5) (x := yS_tracedBy) (y := yX4_tracedBy) (ci := 3) (As := [.int 4]) hC E hK hA hX I (k4_tracedBy l D ty o ad em g ex Cy hC hg σ i hi 4) (lw_F q1042 q1052 q1008 q90 q1009) (hX.2.1 _ (List.mem_of_getElem? (i := 5) rfl)) (by decide +kernel) ⟨Nat.le_of_ble_eq_true rfl, Nat.le_of_ble_eq_true rfl⟩ ⟨Nat.le_refl 0, Nat.le_refl 0⟩ he rfl hl.1 (Nat.le_of_ble_eq_true rfl) rfl dX10_served_2 (fun r2 σ2 H locs hp I => ?_)
    refine top_i (y := 0) hp.1 ?_
    have I := g_as I hp.2
    refine lv_aload_n hx hb dX10_served_7 rfl (lv_at hl 0 rfl) ?_
    have he := gW_g (ty := ty) (o := o) (ad := ad) (em := em) (ex := ex) (σ := (gTr σ 4)) hi
    rw [hk1] at he
    refine c_Fi (C := RX5) (x := yS_number) (y := yX4_number) (ci := 3) (As := []) hC E hK hA hX I (k4_number l D ty o ad em g ex Cy hC hg (gTr σ 4) i hi) (lw_F q1055 q1065 q1060 q90 q1062) (hX.2.1 _ (List.mem_of_getElem? (i := 8) rfl)) (by decide +kernel) ⟨Nat.le_of_ble_eq_true rfl, Nat.le_of_ble_eq_true rfl⟩ ⟨Nat.le_refl 0, Nat.le_refl 0⟩ he rfl hl.1 (Nat.le_of_ble_eq_true rfl) rfl dX10_served_8 (fun r8 σ8 H locs hp I => ?_)
    refine top_i (y := nI i) hp.1 ?_
    have I := g_as I hp.2
    refine lv_iadd hx hb dX10_served_13 ?_
    exact r_i E hlk hr I (Nat.le_refl 0) (Nat.le_refl 0) dX10_served_14 (⟨rfl, rfl⟩)
  · rw [hk1] at he
    refine c_Fi (C := RX6) (x := yS_tracedBy) (y := yX4_tracedBy) (ci := 4) (As := [.int 4]) hC E hK hA hX I (k4_tracedBy l D ty o ad em g ex Cy hC hg σ i hi 4) (lw_F q1042 q1049 q1008 q90 q1009) (hX.2.1 _ (List.mem_of_getElem? (i := 6) rfl)) (by decide +kernel) ⟨Nat.le_of_ble_eq_true rfl, Nat.le_of_ble_eq_true rfl⟩ ⟨Nat.le_refl 0, Nat.le_refl 0⟩ he rfl hl.1 (Nat.le_of_ble_eq_true rfl) rfl dX10_served_2 (fun r2 σ2 H locs hp I => ?_)
    refine top_i (y := 0) hp.1 ?_
    have I := g_as I hp.2
    refine lv_aload_n hx hb dX10_served_7 rfl (lv_at hl 0 rfl) ?_
    have he := gW_g (ty := ty) (o := o) (ad := ad) (em := em) (ex := ex) (σ := (gTr σ 4)) hi
    rw [hk1] at he
    refine c_Fi (C := RX6) (x := yS_number) (y := yX4_number) (ci := 4) (As := []) hC E hK hA hX I (k4_number l D ty o ad em g ex Cy hC hg (gTr σ 4) i hi) (lw_F q1055 q1063 q1060 q90 q1062) (hX.2.1 _ (List.mem_of_getElem? (i := 9) rfl)) (by decide +kernel) ⟨Nat.le_of_ble_eq_true rfl, Nat.le_of_ble_eq_true rfl⟩ ⟨Nat.le_refl 0, Nat.le_refl 0⟩ he rfl hl.1 (Nat.le_of_ble_eq_true rfl) rfl dX10_served_8 (fun r8 σ8 H locs hp I => ?_)
    refine top_i (y := nI i) hp.1 ?_
    have I := g_as I hp.2
    refine lv_iadd hx hb dX10_served_13 ?_
    exact r_i E hlk hr I (Nat.le_refl 0) (Nat.le_refl 0) dX10_served_14 (⟨rfl, rfl⟩)
