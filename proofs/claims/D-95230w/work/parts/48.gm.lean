set_option maxRecDepth 100000
set_option maxHeartbeats 4000000
theorem k4_staysFor (l : Launch) (D : va_G) (ty : Nat → ClassId) (o : Nat) (ad : Nat → Nat) (em : Nat) (g : GS) (ex : va_W) (Cy : (Nat → Prop) → State → Prop) (hC : CxOk (CxX em Cy)) (hg : gOk g) (σ : Sg) (i : Nat) (hi : i < g.1) (b : Bool) : Ki l yX4_staysFor cX4_staysFor 2 .int (rmL 1) D ty (CxX em Cy) [.ref (g.2.2.2.1 i), .int (bI b)] (gW ty o ad em g ex) σ (fun r τ => r = g.2.2.2.2.2 3 i ∧ τ = σ) := by
  refine Ki.of (by decide) (Nat.le_of_ble_eq_true rfl) ?_
  intro p e s m below meth c A ls args E hK hA hX hlk hr I hl
  have hx := E.1
  have hb := E.2.1
  have hl : lv_has ls 2 [(0, .ref (g.2.2.2.1 i)), (1, .int (bI b))] := hl
  refine lv_aload_n hx hb dX4_staysFor_0 rfl (lv_at hl 0 rfl) ?_
  refine gf_get E hK I hg hi 3 (by decide) q277 rfl dX4_staysFor_1 ?_
  exact r_i E hlk hr I (Nat.le_refl 0) (Nat.le_refl 0) dX4_staysFor_4 (⟨rfl, rfl⟩)
theorem k5_staysFor (l : Launch) (D : va_G) (ty : Nat → ClassId) (o : Nat) (ad : Nat → Nat) (em : Nat) (g : GS) (ex : va_W) (Cy : (Nat → Prop) → State → Prop) (hC : CxOk (CxX em Cy)) (hg : gOk g) (σ : Sg) (i : Nat) (hi : i < g.1) (b : Bool) (hk : 1 ≤ g.2.2.2.2.1 i) : Ki l yX5_staysFor cX5_staysFor 2 .int (rmL 2) D ty (CxX em Cy) [.ref (g.2.2.2.1 i), .int (bI b)] (gW ty o ad em g ex) σ (fun r τ => r = 2 * g.2.2.2.2.2 3 i ∧ τ = σ) := by
  refine Ki.of (by decide) (Nat.le_of_ble_eq_true rfl) ?_
  intro p e s m below meth c A ls args E hK hA hX hlk hr I hl
  have hx := E.1
  have hb := E.2.1
  have hl : lv_has ls 2 [(0, .ref (g.2.2.2.1 i)), (1, .int (bI b))] := hl
  refine lv_iconst (v := 2) hx hb dX5_staysFor_0 (by decide) ?_
  refine lv_aload_n hx hb dX5_staysFor_1 rfl (lv_at hl 0 rfl) ?_
  refine lv_iload_n hx hb dX5_staysFor_2 rfl (lv_at hl 1 rfl) ?_
  have he := gW_g (ty := ty) (o := o) (ad := ad) (em := em) (ex := ex) (σ := σ) hi
  rcases (show g.2.2.2.2.1 i = 1 ∨ g.2.2.2.2.1 i = 2 by have := hg.2.1 i hi; omega) with hk1 | hk1
  · rw [hk1] at he
    refine c_SUi (ci := 3) hC E hK hA hX I (k4_staysFor l D ty o ad em g ex Cy hC hg σ i hi b) (va_cwSU 1 E.2.2.2.2 (lw_SU q456 q449 q314 q447 q90 q458) rfl rfl rfl (by decide +kernel) ⟨Nat.le_of_ble_eq_true rfl, Nat.le_of_ble_eq_true rfl⟩) ⟨Nat.le_refl 0, Nat.le_refl 0⟩ he rfl hl.1 (Nat.le_of_ble_eq_true rfl) rfl dX5_staysFor_3 (fun r3 σ3 H locs hp I => ?_)
    refine top_i (y := g.2.2.2.2.2 3 i) hp.1 ?_
    have I := g_as I hp.2
    refine lv_imul hx hb dX5_staysFor_6 ?_
    exact r_i E hlk hr I (Nat.le_refl 0) (Nat.le_refl 0) dX5_staysFor_7 (⟨rfl, rfl⟩)
  · rw [hk1] at he
    refine c_SUi (ci := 4) hC E hK hA hX I (k4_staysFor l D ty o ad em g ex Cy hC hg σ i hi b) (va_cwSU 1 E.2.2.2.2 (lw_SU q456 q449 q314 q447 q90 q458) rfl rfl rfl (by decide +kernel) ⟨Nat.le_of_ble_eq_true rfl, Nat.le_of_ble_eq_true rfl⟩) ⟨Nat.le_refl 0, Nat.le_refl 0⟩ he rfl hl.1 (Nat.le_of_ble_eq_true rfl) rfl dX5_staysFor_3 (fun r3 σ3 H locs hp I => ?_)
    refine top_i (y := g.2.2.2.2.2 3 i) hp.1 ?_
    have I := g_as I hp.2
    refine lv_imul hx hb dX5_staysFor_6 ?_
    exact r_i E hlk hr I (Nat.le_refl 0) (Nat.le_refl 0) dX5_staysFor_7 (⟨rfl, rfl⟩)
theorem k6_staysFor (l : Launch) (D : va_G) (ty : Nat → ClassId) (o : Nat) (ad : Nat → Nat) (em : Nat) (g : GS) (ex : va_W) (Cy : (Nat → Prop) → State → Prop) (hC : CxOk (CxX em Cy)) (hg : gOk g) (σ : Sg) (i : Nat) (hi : i < g.1) (b : Bool) (hk : g.2.2.2.2.1 i = 2) : Ki l yX6_staysFor cX6_staysFor 3 .int (rmL 3) D ty (CxX em Cy) [.ref (g.2.2.2.1 i), .int (bI b)] (gW ty o ad em g ex) σ (fun r τ => r = (if b then 2 * g.2.2.2.2.2 3 i + 2 * g.2.2.2.2.2 3 i / 9 else 2 * g.2.2.2.2.2 3 i) ∧ τ = σ) := by
  refine Ki.of (by decide) (Nat.le_of_ble_eq_true rfl) ?_
  intro p e s m below meth c A ls args E hK hA hX hlk hr I hl
  have hx := E.1
  have hb := E.2.1
  have hl : lv_has ls 3 [(0, .ref (g.2.2.2.1 i)), (1, .int (bI b))] := hl
  refine lv_aload_n hx hb dX6_staysFor_0 rfl (lv_at hl 0 rfl) ?_
  refine lv_iload_n hx hb dX6_staysFor_1 rfl (lv_at hl 1 rfl) ?_
  have he := gW_g (ty := ty) (o := o) (ad := ad) (em := em) (ex := ex) (σ := σ) hi
  rw [hk] at he
  refine c_SUi (ci := 4) hC E hK hA hX I (k5_staysFor l D ty o ad em g ex Cy hC hg σ i hi b (by omega)) (va_cwSU 1 E.2.2.2.2 (lw_SU q453 q1536 q332 q454 q91 q455) rfl rfl rfl (by decide +kernel) ⟨Nat.le_of_ble_eq_true rfl, Nat.le_of_ble_eq_true rfl⟩) ⟨Nat.le_refl 0, Nat.le_refl 0⟩ he rfl hl.1 (Nat.le_of_ble_eq_true rfl) rfl dX6_staysFor_2 (fun r2 σ2 H locs hp I => ?_)
  refine top_i (y := 2 * g.2.2.2.2.2 3 i) hp.1 ?_
  have I := g_as I hp.2
  refine lv_istore_n (lv' := [(2, .int (2 * g.2.2.2.2.2 3 i)), (0, .ref (g.2.2.2.1 i)), (1, .int (bI b))]) hx hb dX6_staysFor_5 rfl hl (by decide) rfl (fun ls hl => ?_)
  refine lv_iload_n hx hb dX6_staysFor_6 rfl (lv_at hl 2 rfl) ?_
  refine b_eq (tgt := 19) hx hb dX6_staysFor_7 (by decide) (fun c7 => ?_) (fun c7 => ?_)
  · refine lv_iload_n hx hb dX6_staysFor_19 rfl (lv_at hl 0 rfl) ?_
    exact r_i E hlk hr I (Nat.le_refl 0) (Nat.le_refl 0) dX6_staysFor_20 (⟨by simp [c7], rfl⟩)
  · refine lv_iload_n hx hb dX6_staysFor_10 rfl (lv_at hl 0 rfl) ?_
    refine lv_iload_n hx hb dX6_staysFor_11 rfl (lv_at hl 0 rfl) ?_
    refine lv_bipush (v := 9) hx hb dX6_staysFor_12 (by decide) ?_
    refine lv_idiv hx hb dX6_staysFor_14 (by decide) ?_
    refine lv_iadd hx hb dX6_staysFor_15 ?_
    refine lv_goto (tgt := 20) hx hb dX6_staysFor_16 (by decide) ?_
    exact r_i E hlk hr I (Nat.le_refl 0) (Nat.le_refl 0) dX6_staysFor_20 (⟨by simp [c7], rfl⟩)
theorem k4_spendsEach (l : Launch) (D : va_G) (ty : Nat → ClassId) (o : Nat) (ad : Nat → Nat) (em : Nat) (g : GS) (ex : va_W) (Cy : (Nat → Prop) → State → Prop) (hC : CxOk (CxX em Cy)) (hg : gOk g) (σ : Sg) (i : Nat) (hi : i < g.1) : Ki l yX4_spendsEach cX4_spendsEach 1 .int (rmL 1) D ty (CxX em Cy) [.ref (g.2.2.2.1 i)] (gW ty o ad em g ex) σ (fun r τ => r = 10 ∧ τ = σ) := by
  refine Ki.of (by decide) (Nat.le_of_ble_eq_true rfl) ?_
  intro p e s m below meth c A ls args E hK hA hX hlk hr I hl
  have hx := E.1
  have hb := E.2.1
  have hl : lv_has ls 1 [(0, .ref (g.2.2.2.1 i))] := hl
  refine lv_bipush (v := 10) hx hb dX4_spendsEach_0 (by decide) ?_
  exact r_i E hlk hr I (Nat.le_refl 0) (Nat.le_refl 0) dX4_spendsEach_2 (⟨rfl, rfl⟩)
theorem k5_spendsEach (l : Launch) (D : va_G) (ty : Nat → ClassId) (o : Nat) (ad : Nat → Nat) (em : Nat) (g : GS) (ex : va_W) (Cy : (Nat → Prop) → State → Prop) (hC : CxOk (CxX em Cy)) (hg : gOk g) (σ : Sg) (i : Nat) (hi : i < g.1) (hk : 1 ≤ g.2.2.2.2.1 i) : Ki l yX5_spendsEach cX5_spendsEach 1 .int (rmL 2) D ty (CxX em Cy) [.ref (g.2.2.2.1 i)] (gW ty o ad em g ex) σ (fun r τ => r = 2 * 10 ∧ τ = σ) := by
  refine Ki.of (by decide) (Nat.le_of_ble_eq_true rfl) ?_
  intro p e s m below meth c A ls args E hK hA hX hlk hr I hl
  have hx := E.1
  have hb := E.2.1
  have hl : lv_has ls 1 [(0, .ref (g.2.2.2.1 i))] := hl
  refine lv_iconst (v := 2) hx hb dX5_spendsEach_0 (by decide) ?_
  refine lv_aload_n hx hb dX5_spendsEach_1 rfl (lv_at hl 0 rfl) ?_
  have he := gW_g (ty := ty) (o := o) (ad := ad) (em := em) (ex := ex) (σ := σ) hi
  rcases (show g.2.2.2.2.1 i = 1 ∨ g.2.2.2.2.1 i = 2 by have := hg.2.1 i hi; omega) with hk1 | hk1
  · rw [hk1] at he
    refine c_SUi (ci := 3) hC E hK hA hX I (k4_spendsEach l D ty o ad em g ex Cy hC hg σ i hi) (va_cwSU 0 E.2.2.2.2 (lw_SU q549 q545 q314 q543 q90 q551) rfl rfl rfl (by decide +kernel) ⟨Nat.le_of_ble_eq_true rfl, Nat.le_of_ble_eq_true rfl⟩) ⟨Nat.le_refl 0, Nat.le_refl 0⟩ he rfl hl.1 (Nat.le_of_ble_eq_true rfl) rfl dX5_spendsEach_2 (fun r2 σ2 H locs hp I => ?_)
    refine top_i (y := 10) hp.1 ?_
    have I := g_as I hp.2
    refine lv_imul hx hb dX5_spendsEach_5 ?_
    exact r_i E hlk hr I (Nat.le_refl 0) (Nat.le_refl 0) dX5_spendsEach_6 (⟨rfl, rfl⟩)
  · rw [hk1] at he
    refine c_SUi (ci := 4) hC E hK hA hX I (k4_spendsEach l D ty o ad em g ex Cy hC hg σ i hi) (va_cwSU 0 E.2.2.2.2 (lw_SU q549 q545 q314 q543 q90 q551) rfl rfl rfl (by decide +kernel) ⟨Nat.le_of_ble_eq_true rfl, Nat.le_of_ble_eq_true rfl⟩) ⟨Nat.le_refl 0, Nat.le_refl 0⟩ he rfl hl.1 (Nat.le_of_ble_eq_true rfl) rfl dX5_spendsEach_2 (fun r2 σ2 H locs hp I => ?_)
    refine top_i (y := 10) hp.1 ?_
    have I := g_as I hp.2
    refine lv_imul hx hb dX5_spendsEach_5 ?_
    exact r_i E hlk hr I (Nat.le_refl 0) (Nat.le_refl 0) dX5_spendsEach_6 (⟨rfl, rfl⟩)
theorem k4_kind (l : Launch) (D : va_G) (ty : Nat → ClassId) (o : Nat) (ad : Nat → Nat) (em : Nat) (g : GS) (ex : va_W) (Cy : (Nat → Prop) → State → Prop) (hC : CxOk (CxX em Cy)) (hg : gOk g) (σ : Sg) (i : Nat) (hi : i < g.1) : Ki l yX4_kind cX4_kind 1 .int (rmL 1) D ty (CxX em Cy) [.ref (g.2.2.2.1 i)] (gW ty o ad em g ex) σ (fun r τ => r = 0 ∧ τ = σ) := by
  refine Ki.of (by decide) (Nat.le_of_ble_eq_true rfl) ?_
  intro p e s m below meth c A ls args E hK hA hX hlk hr I hl
  have hx := E.1
  have hb := E.2.1
  have hl : lv_has ls 1 [(0, .ref (g.2.2.2.1 i))] := hl
  refine lv_iconst (v := 0) hx hb dX4_kind_0 (by decide) ?_
  exact r_i E hlk hr I (Nat.le_refl 0) (Nat.le_refl 0) dX4_kind_1 (⟨rfl, rfl⟩)
theorem k5_kind (l : Launch) (D : va_G) (ty : Nat → ClassId) (o : Nat) (ad : Nat → Nat) (em : Nat) (g : GS) (ex : va_W) (Cy : (Nat → Prop) → State → Prop) (hC : CxOk (CxX em Cy)) (hg : gOk g) (σ : Sg) (i : Nat) (hi : i < g.1) : Ki l yX5_kind cX5_kind 1 .int (rmL 1) D ty (CxX em Cy) [.ref (g.2.2.2.1 i)] (gW ty o ad em g ex) σ (fun r τ => r = 1 ∧ τ = σ) := by
  refine Ki.of (by decide) (Nat.le_of_ble_eq_true rfl) ?_
  intro p e s m below meth c A ls args E hK hA hX hlk hr I hl
  have hx := E.1
  have hb := E.2.1
  have hl : lv_has ls 1 [(0, .ref (g.2.2.2.1 i))] := hl
  refine lv_iconst (v := 1) hx hb dX5_kind_0 (by decide) ?_
  exact r_i E hlk hr I (Nat.le_refl 0) (Nat.le_refl 0) dX5_kind_1 (⟨rfl, rfl⟩)
theorem k6_kind (l : Launch) (D : va_G) (ty : Nat → ClassId) (o : Nat) (ad : Nat → Nat) (em : Nat) (g : GS) (ex : va_W) (Cy : (Nat → Prop) → State → Prop) (hC : CxOk (CxX em Cy)) (hg : gOk g) (σ : Sg) (i : Nat) (hi : i < g.1) : Ki l yX6_kind cX6_kind 1 .int (rmL 1) D ty (CxX em Cy) [.ref (g.2.2.2.1 i)] (gW ty o ad em g ex) σ (fun r τ => r = 2 ∧ τ = σ) := by
  refine Ki.of (by decide) (Nat.le_of_ble_eq_true rfl) ?_
  intro p e s m below meth c A ls args E hK hA hX hlk hr I hl
  have hx := E.1
  have hb := E.2.1
  have hl : lv_has ls 1 [(0, .ref (g.2.2.2.1 i))] := hl
  refine lv_iconst (v := 2) hx hb dX6_kind_0 (by decide) ?_
  exact r_i E hlk hr I (Nat.le_refl 0) (Nat.le_refl 0) dX6_kind_1 (⟨rfl, rfl⟩)
theorem k4_number (l : Launch) (D : va_G) (ty : Nat → ClassId) (o : Nat) (ad : Nat → Nat) (em : Nat) (g : GS) (ex : va_W) (Cy : (Nat → Prop) → State → Prop) (hC : CxOk (CxX em Cy)) (hg : gOk g) (σ : Sg) (i : Nat) (hi : i < g.1) : Ki l yX4_number cX4_number 1 .int (rmL 1) D ty (CxX em Cy) [.ref (g.2.2.2.1 i)] (gW ty o ad em g ex) σ (fun r τ => r = nI i ∧ τ = σ) := by
  refine Ki.of (by decide) (Nat.le_of_ble_eq_true rfl) ?_
  intro p e s m below meth c A ls args E hK hA hX hlk hr I hl
  have hx := E.1
  have hb := E.2.1
  have hl : lv_has ls 1 [(0, .ref (g.2.2.2.1 i))] := hl
  refine lv_aload_n hx hb dX4_number_0 rfl (lv_at hl 0 rfl) ?_
  refine gf_get E hK I hg hi 0 (by decide) q266 rfl dX4_number_1 ?_
  exact r_i E hlk hr I (Nat.le_refl 0) (Nat.le_refl 0) dX4_number_4 (⟨rfl, rfl⟩)
def gSt (g : GS) (i : Nat) (b : Bool) : Int32 := if g.2.2.2.2.1 i = 0 then g.2.2.2.2.2 3 i else if g.2.2.2.2.1 i = 1 then 2 * g.2.2.2.2.2 3 i else if b then 2 * g.2.2.2.2.2 3 i + 2 * g.2.2.2.2.2 3 i / 9 else 2 * g.2.2.2.2.2 3 i
def gSp (g : GS) (i : Nat) : Int32 := if g.2.2.2.2.1 i = 0 then 10 else 2 * 10
def gKi (g : GS) (i : Nat) : Int32 := nI (g.2.2.2.2.1 i)
section GV
variable {p : Program} {l : Launch} {e : Env} {R : Room} {s : State} {m : MethodId} {args : Array Value} {below : List Frame} {meth : Method} {c : Code} {H : Heap} {locs : List Loc} {cells slots : Nat} {Q : State → Prop}
variable {cc : ByteArray} {pc nL : Nat} {ls : Array Slot} {rest : List Value} {D : va_G} {A : Nat → Prop} {ty : Nat → ClassId} {o : Nat} {ad : Nat → Nat} {em : Nat} {g : GS} {ex : va_W} {σ : Sg} {Cy : (Nat → Prop) → State → Prop}
theorem dc_g_stays : "CafeTables$Guest" ≠ "java/lang/invoke/MethodHandle" ∧ "CafeTables$Guest" ≠ "java/lang/invoke/VarHandle" ∧ (parseMethodDescriptor yX4_staysFor.desc).map (fun d => d.parameters.length) = some 1 := by decide +kernel
theorem g_stays {own : String} {idx : Nat} (hq : Cond.methodLink own idx yX4_staysFor ∈ lw_all) (hC : CxOk (CxX em Cy)) (hg : gOk g) (E : En p s m args c cc nL own) (hK : va_K D vwCl (tysG ty) s) (hA : ∀ q, s.heap.size ≤ q → A q) (hX : CxX em Cy A s) (I : gI s D A (gW ty o ad em g ex σ) H locs) {i : Nat} (hi : i < g.1) (b : Bool) (hR : 4 ≤ R.frames ∧ 166 ≤ R.locals) (hf : cells ≤ R.cells ∧ slots ≤ R.slots) (hl : ls.size = nL) (hW : (rest.map fun v => v.category).sum ≤ 8) (hd : decode cc pc = .ok (.invokevirtual idx, 3))
    (kk : ∀ (H1 : Heap) (locs1 : List Loc), gI s D A (gW ty o ad em g ex σ) H1 locs1 → W p l e R s m args below meth c H1 locs1 cells slots Q (F0 m (pc + 3) ls (.int (gSt g i b) :: rest))) : W p l e R s m args below meth c H locs cells slots Q (F0 m pc ls (.int (bI b) :: .ref (g.2.2.2.1 i) :: rest)) := by
  have he := gW_g (ty := ty) (o := o) (ad := ad) (em := em) (ex := ex) (σ := σ) hi
  rcases gkd hg hi with hk | hk | hk
  · rw [hk] at he
    refine c_Ui (owner := "CafeTables$Guest") (x := yX4_staysFor) (ci := 2) (As := [.int (bI b)]) hC E hK hA hX I (k4_staysFor l D ty o ad em g ex Cy hC hg σ i hi b) (va_cwU 1 E.2.2.2.2 (lw_U hq q449 q448 q447 q90 q458) rfl rfl rfl rfl dc_g_stays ⟨Nat.le_trans (Nat.le_of_ble_eq_true rfl) hR.1, Nat.le_trans (Nat.le_of_ble_eq_true rfl) hR.2⟩) hf he rfl hl hW rfl hd (fun r σ1 H1 locs1 hp I1 => ?_)
    obtain ⟨h1, h2⟩ := hp
    refine top_i (y := gSt g i b) (h1.trans (by simp [gSt, hk])) ?_
    exact kk H1 locs1 (g_as I1 h2)
  · rw [hk] at he
    refine c_Ui (owner := "CafeTables$Guest") (x := yX4_staysFor) (ci := 3) (As := [.int (bI b)]) hC E hK hA hX I (k5_staysFor l D ty o ad em g ex Cy hC hg σ i hi b (by omega)) (va_cwO 1 E.2.2.2.2 (lw_O hq q449 q447 q457 q454 q91 q455) rfl rfl rfl q458 dc_g_stays ⟨Nat.le_trans (Nat.le_of_ble_eq_true rfl) hR.1, Nat.le_trans (Nat.le_of_ble_eq_true rfl) hR.2⟩) hf he rfl hl hW rfl hd (fun r σ1 H1 locs1 hp I1 => ?_)
    obtain ⟨h1, h2⟩ := hp
    refine top_i (y := gSt g i b) (h1.trans (by simp [gSt, hk])) ?_
    exact kk H1 locs1 (g_as I1 h2)
  · rw [hk] at he
    refine c_Ui (owner := "CafeTables$Guest") (x := yX4_staysFor) (ci := 4) (As := [.int (bI b)]) hC E hK hA hX I (k6_staysFor l D ty o ad em g ex Cy hC hg σ i hi b hk) (va_cwO 1 E.2.2.2.2 (lw_O hq q449 q447 q450 q451 q92 q452) rfl rfl rfl q458 dc_g_stays ⟨Nat.le_trans (Nat.le_of_ble_eq_true rfl) hR.1, Nat.le_trans (Nat.le_of_ble_eq_true rfl) hR.2⟩) hf he rfl hl hW rfl hd (fun r σ1 H1 locs1 hp I1 => ?_)
    obtain ⟨h1, h2⟩ := hp
    refine top_i (y := gSt g i b) (h1.trans (by simp [gSt, hk])) ?_
    exact kk H1 locs1 (g_as I1 h2)
theorem dc_g_spends : "CafeTables$Guest" ≠ "java/lang/invoke/MethodHandle" ∧ "CafeTables$Guest" ≠ "java/lang/invoke/VarHandle" ∧ (parseMethodDescriptor yX4_spendsEach.desc).map (fun d => d.parameters.length) = some 0 := by decide +kernel
theorem g_spends {own : String} {idx : Nat} (hq : Cond.methodLink own idx yX4_spendsEach ∈ lw_all) (hC : CxOk (CxX em Cy)) (hg : gOk g) (E : En p s m args c cc nL own) (hK : va_K D vwCl (tysG ty) s) (hA : ∀ q, s.heap.size ≤ q → A q) (hX : CxX em Cy A s) (I : gI s D A (gW ty o ad em g ex σ) H locs) {i : Nat} (hi : i < g.1) (hR : 3 ≤ R.frames ∧ 116 ≤ R.locals) (hf : cells ≤ R.cells ∧ slots ≤ R.slots) (hl : ls.size = nL) (hW : (rest.map fun v => v.category).sum ≤ 8) (hd : decode cc pc = .ok (.invokevirtual idx, 3))
    (kk : ∀ (H1 : Heap) (locs1 : List Loc), gI s D A (gW ty o ad em g ex σ) H1 locs1 → W p l e R s m args below meth c H1 locs1 cells slots Q (F0 m (pc + 3) ls (.int (gSp g i) :: rest))) : W p l e R s m args below meth c H locs cells slots Q (F0 m pc ls (.ref (g.2.2.2.1 i) :: rest)) := by
  have he := gW_g (ty := ty) (o := o) (ad := ad) (em := em) (ex := ex) (σ := σ) hi
  rcases gkd hg hi with hk | hk | hk
  · rw [hk] at he
    refine c_Ui (owner := "CafeTables$Guest") (x := yX4_spendsEach) (ci := 2) (As := []) hC E hK hA hX I (k4_spendsEach l D ty o ad em g ex Cy hC hg σ i hi) (va_cwU 0 E.2.2.2.2 (lw_U hq q545 q544 q543 q90 q551) rfl rfl rfl rfl dc_g_spends ⟨Nat.le_trans (Nat.le_of_ble_eq_true rfl) hR.1, Nat.le_trans (Nat.le_of_ble_eq_true rfl) hR.2⟩) hf he rfl hl hW rfl hd (fun r σ1 H1 locs1 hp I1 => ?_)
    obtain ⟨h1, h2⟩ := hp
    refine top_i (y := gSp g i) (h1.trans (by simp [gSp, hk])) ?_
    exact kk H1 locs1 (g_as I1 h2)
  · rw [hk] at he
    refine c_Ui (owner := "CafeTables$Guest") (x := yX4_spendsEach) (ci := 3) (As := []) hC E hK hA hX I (k5_spendsEach l D ty o ad em g ex Cy hC hg σ i hi (by omega)) (va_cwO 0 E.2.2.2.2 (lw_O hq q545 q543 q550 q547 q91 q548) rfl rfl rfl q551 dc_g_spends ⟨Nat.le_trans (Nat.le_of_ble_eq_true rfl) hR.1, Nat.le_trans (Nat.le_of_ble_eq_true rfl) hR.2⟩) hf he rfl hl hW rfl hd (fun r σ1 H1 locs1 hp I1 => ?_)
    obtain ⟨h1, h2⟩ := hp
    refine top_i (y := gSp g i) (h1.trans (by simp [gSp, hk])) ?_
    exact kk H1 locs1 (g_as I1 h2)
  · rw [hk] at he
    refine c_Ui (owner := "CafeTables$Guest") (x := yX4_spendsEach) (ci := 4) (As := []) hC E hK hA hX I (k5_spendsEach l D ty o ad em g ex Cy hC hg σ i hi (by omega)) (va_cwO 0 E.2.2.2.2 (lw_O hq q545 q543 q546 q547 q91 q548) rfl rfl rfl q551 dc_g_spends ⟨Nat.le_trans (Nat.le_of_ble_eq_true rfl) hR.1, Nat.le_trans (Nat.le_of_ble_eq_true rfl) hR.2⟩) hf he rfl hl hW rfl hd (fun r σ1 H1 locs1 hp I1 => ?_)
    obtain ⟨h1, h2⟩ := hp
    refine top_i (y := gSp g i) (h1.trans (by simp [gSp, hk])) ?_
    exact kk H1 locs1 (g_as I1 h2)
theorem dc_g_kind : "CafeTables$Guest" ≠ "java/lang/invoke/MethodHandle" ∧ "CafeTables$Guest" ≠ "java/lang/invoke/VarHandle" ∧ (parseMethodDescriptor yX4_kind.desc).map (fun d => d.parameters.length) = some 0 := by decide +kernel
theorem g_kind {own : String} {idx : Nat} (hq : Cond.methodLink own idx yX4_kind ∈ lw_all) (hC : CxOk (CxX em Cy)) (hg : gOk g) (E : En p s m args c cc nL own) (hK : va_K D vwCl (tysG ty) s) (hA : ∀ q, s.heap.size ≤ q → A q) (hX : CxX em Cy A s) (I : gI s D A (gW ty o ad em g ex σ) H locs) {i : Nat} (hi : i < g.1) (hR : 2 ≤ R.frames ∧ 68 ≤ R.locals) (hf : cells ≤ R.cells ∧ slots ≤ R.slots) (hl : ls.size = nL) (hW : (rest.map fun v => v.category).sum ≤ 8) (hd : decode cc pc = .ok (.invokevirtual idx, 3))
    (kk : ∀ (H1 : Heap) (locs1 : List Loc), gI s D A (gW ty o ad em g ex σ) H1 locs1 → W p l e R s m args below meth c H1 locs1 cells slots Q (F0 m (pc + 3) ls (.int (gKi g i) :: rest))) : W p l e R s m args below meth c H locs cells slots Q (F0 m pc ls (.ref (g.2.2.2.1 i) :: rest)) := by
  have he := gW_g (ty := ty) (o := o) (ad := ad) (em := em) (ex := ex) (σ := σ) hi
  rcases gkd hg hi with hk | hk | hk
  · rw [hk] at he
    refine c_Ui (owner := "CafeTables$Guest") (x := yX4_kind) (ci := 2) (As := []) hC E hK hA hX I (k4_kind l D ty o ad em g ex Cy hC hg σ i hi) (va_cwU 0 E.2.2.2.2 (lw_U hq q438 q437 q436 q90 q445) rfl rfl rfl rfl dc_g_kind ⟨Nat.le_trans (Nat.le_of_ble_eq_true rfl) hR.1, Nat.le_trans (Nat.le_of_ble_eq_true rfl) hR.2⟩) hf he rfl hl hW rfl hd (fun r σ1 H1 locs1 hp I1 => ?_)
    obtain ⟨h1, h2⟩ := hp
    refine top_i (y := gKi g i) (h1.trans (by simp [gKi, hk]; rfl)) ?_
    exact kk H1 locs1 (g_as I1 h2)
  · rw [hk] at he
    refine c_Ui (owner := "CafeTables$Guest") (x := yX4_kind) (ci := 3) (As := []) hC E hK hA hX I (k5_kind l D ty o ad em g ex Cy hC hg σ i hi) (va_cwO 0 E.2.2.2.2 (lw_O hq q438 q436 q442 q443 q91 q444) rfl rfl rfl q445 dc_g_kind ⟨Nat.le_trans (Nat.le_of_ble_eq_true rfl) hR.1, Nat.le_trans (Nat.le_of_ble_eq_true rfl) hR.2⟩) hf he rfl hl hW rfl hd (fun r σ1 H1 locs1 hp I1 => ?_)
    obtain ⟨h1, h2⟩ := hp
    refine top_i (y := gKi g i) (h1.trans (by simp [gKi, hk]; rfl)) ?_
    exact kk H1 locs1 (g_as I1 h2)
  · rw [hk] at he
    refine c_Ui (owner := "CafeTables$Guest") (x := yX4_kind) (ci := 4) (As := []) hC E hK hA hX I (k6_kind l D ty o ad em g ex Cy hC hg σ i hi) (va_cwO 0 E.2.2.2.2 (lw_O hq q438 q436 q439 q440 q92 q441) rfl rfl rfl q445 dc_g_kind ⟨Nat.le_trans (Nat.le_of_ble_eq_true rfl) hR.1, Nat.le_trans (Nat.le_of_ble_eq_true rfl) hR.2⟩) hf he rfl hl hW rfl hd (fun r σ1 H1 locs1 hp I1 => ?_)
    obtain ⟨h1, h2⟩ := hp
    refine top_i (y := gKi g i) (h1.trans (by simp [gKi, hk]; rfl)) ?_
    exact kk H1 locs1 (g_as I1 h2)
end GV
theorem gSp_ne (g : GS) (i : Nat) : ¬ gSp g i = 0 := by
  unfold gSp
  split <;> decide
def gCo (g : GS) (i : Nat) (x : Int32) : Int32 := g.2.2.2.2.2 1 i * (5 + x / gSp g i)
theorem k4_coinFor (l : Launch) (D : va_G) (ty : Nat → ClassId) (o : Nat) (ad : Nat → Nat) (em : Nat) (g : GS) (ex : va_W) (Cy : (Nat → Prop) → State → Prop) (hC : CxOk (CxX em Cy)) (hg : gOk g) (σ : Sg) (i : Nat) (hi : i < g.1) (x : Int32) : Ki l yX4_coinFor cX4_coinFor 2 .int (rmL 4) D ty (CxX em Cy) [.ref (g.2.2.2.1 i), .int x] (gW ty o ad em g ex) σ (fun r τ => r = gCo g i x ∧ τ = σ) := by
  refine Ki.of (by decide) (Nat.le_of_ble_eq_true rfl) ?_
  intro p e s m below meth c A ls args E hK hA hX hlk hr I hl
  have hx := E.1
  have hb := E.2.1
  have hl : lv_has ls 2 [(0, .ref (g.2.2.2.1 i)), (1, .int x)] := hl
  refine lv_aload_n hx hb dX4_coinFor_0 rfl (lv_at hl 0 rfl) ?_
  refine gf_get E hK I hg hi 1 (by decide) q273 rfl dX4_coinFor_1 ?_
  refine lv_iconst (v := 5) hx hb dX4_coinFor_4 (by decide) ?_
  refine lv_iload_n hx hb dX4_coinFor_5 rfl (lv_at hl 1 rfl) ?_
  refine lv_aload_n hx hb dX4_coinFor_6 rfl (lv_at hl 0 rfl) ?_
  refine g_spends q542 hC hg E hK hA hX I hi ⟨Nat.le_of_ble_eq_true rfl, Nat.le_of_ble_eq_true rfl⟩ ⟨Nat.le_refl 0, Nat.le_refl 0⟩ hl.1 (Nat.le_of_ble_eq_true rfl) dX4_coinFor_7 (fun H locs I => ?_)
  refine lv_idiv hx hb dX4_coinFor_10 (gSp_ne g i) ?_
  refine lv_iadd hx hb dX4_coinFor_11 ?_
  refine lv_imul hx hb dX4_coinFor_12 ?_
  exact r_i E hlk hr I (Nat.le_refl 0) (Nat.le_refl 0) dX4_coinFor_13 (⟨rfl, rfl⟩)
def gAsk (g : GS) (i : Nat) (w : Int32) : Int32 := if w = 0 then gKi g i else if w = 1 then g.2.2.2.2.2 1 i else if w = 2 then g.2.2.2.2.2 2 i else if w = 3 then g.2.2.2.2.2 3 i else if w = 4 then g.2.2.2.2.2 4 i else if w = 5 then g.2.2.2.2.2 5 i else if w = 6 then gSt g i false else (-2)
theorem k4_asked (l : Launch) (D : va_G) (ty : Nat → ClassId) (o : Nat) (ad : Nat → Nat) (em : Nat) (g : GS) (ex : va_W) (Cy : (Nat → Prop) → State → Prop) (hC : CxOk (CxX em Cy)) (hg : gOk g) (σ : Sg) (i : Nat) (hi : i < g.1) (w : Int32) : Ki l yX4_asked cX4_asked 2 .int (rmL 5) D ty (CxX em Cy) [.ref (g.2.2.2.1 i), .int w] (gW ty o ad em g ex) σ (fun r τ => r = gAsk g i w ∧ τ = σ) := by
  refine Ki.of (by decide) (Nat.le_of_ble_eq_true rfl) ?_
  intro p e s m below meth c A ls args E hK hA hX hlk hr I hl
  have hx := E.1
  have hb := E.2.1
  have hl : lv_has ls 2 [(0, .ref (g.2.2.2.1 i)), (1, .int w)] := hl
  refine lv_iload_n hx hb dX4_asked_0 rfl (lv_at hl 1 rfl) ?_
  by_cases c1_0 : w = 0
  · refine top_i (y := 0) c1_0 ?_
    refine lv_tableIn (tgt := 44) hx hb dX4_asked_1 (by decide) (by decide) rfl (by decide) ?_
    refine lv_aload_n hx hb dX4_asked_44 rfl (lv_at hl 0 rfl) ?_
    refine g_kind q435 hC hg E hK hA hX I hi ⟨Nat.le_of_ble_eq_true rfl, Nat.le_of_ble_eq_true rfl⟩ ⟨Nat.le_refl 0, Nat.le_refl 0⟩ hl.1 (Nat.le_of_ble_eq_true rfl) dX4_asked_45 (fun H locs I => ?_)
    exact r_i E hlk hr I (Nat.le_refl 0) (Nat.le_refl 0) dX4_asked_48 (⟨by simp [gAsk, c1_0], rfl⟩)
  by_cases c1_1 : w = 1
  · refine top_i (y := 1) c1_1 ?_
    refine lv_tableIn (tgt := 49) hx hb dX4_asked_1 (by decide) (by decide) rfl (by decide) ?_
    refine lv_aload_n hx hb dX4_asked_49 rfl (lv_at hl 0 rfl) ?_
    refine gf_get E hK I hg hi 1 (by decide) q273 rfl dX4_asked_50 ?_
    exact r_i E hlk hr I (Nat.le_refl 0) (Nat.le_refl 0) dX4_asked_53 (⟨by simp [gAsk, c1_1], rfl⟩)
  by_cases c1_2 : w = 2
  · refine top_i (y := 2) c1_2 ?_
    refine lv_tableIn (tgt := 54) hx hb dX4_asked_1 (by decide) (by decide) rfl (by decide) ?_
    refine lv_aload_n hx hb dX4_asked_54 rfl (lv_at hl 0 rfl) ?_
    refine gf_get E hK I hg hi 2 (by decide) q275 rfl dX4_asked_55 ?_
    exact r_i E hlk hr I (Nat.le_refl 0) (Nat.le_refl 0) dX4_asked_58 (⟨by simp [gAsk, c1_2], rfl⟩)
  by_cases c1_3 : w = 3
  · refine top_i (y := 3) c1_3 ?_
    refine lv_tableIn (tgt := 59) hx hb dX4_asked_1 (by decide) (by decide) rfl (by decide) ?_
    refine lv_aload_n hx hb dX4_asked_59 rfl (lv_at hl 0 rfl) ?_
    refine gf_get E hK I hg hi 3 (by decide) q277 rfl dX4_asked_60 ?_
    exact r_i E hlk hr I (Nat.le_refl 0) (Nat.le_refl 0) dX4_asked_63 (⟨by simp [gAsk, c1_3], rfl⟩)
  by_cases c1_4 : w = 4
  · refine top_i (y := 4) c1_4 ?_
    refine lv_tableIn (tgt := 64) hx hb dX4_asked_1 (by decide) (by decide) rfl (by decide) ?_
    refine lv_aload_n hx hb dX4_asked_64 rfl (lv_at hl 0 rfl) ?_
    refine gf_get E hK I hg hi 4 (by decide) q278 rfl dX4_asked_65 ?_
    exact r_i E hlk hr I (Nat.le_refl 0) (Nat.le_refl 0) dX4_asked_68 (⟨by simp [gAsk, c1_4], rfl⟩)
  by_cases c1_5 : w = 5
  · refine top_i (y := 5) c1_5 ?_
    refine lv_tableIn (tgt := 69) hx hb dX4_asked_1 (by decide) (by decide) rfl (by decide) ?_
    refine lv_aload_n hx hb dX4_asked_69 rfl (lv_at hl 0 rfl) ?_
    refine gf_get E hK I hg hi 5 (by decide) q280 rfl dX4_asked_70 ?_
    exact r_i E hlk hr I (Nat.le_refl 0) (Nat.le_refl 0) dX4_asked_73 (⟨by simp [gAsk, c1_5], rfl⟩)
  by_cases c1_6 : w = 6
  · refine top_i (y := 6) c1_6 ?_
    refine lv_tableIn (tgt := 74) hx hb dX4_asked_1 (by decide) (by decide) rfl (by decide) ?_
    refine lv_aload_n hx hb dX4_asked_74 rfl (lv_at hl 0 rfl) ?_
    refine lv_iconst (v := 0) hx hb dX4_asked_75 (by decide) ?_
    refine g_stays (b := false) q446 hC hg E hK hA hX I hi ⟨Nat.le_of_ble_eq_true rfl, Nat.le_of_ble_eq_true rfl⟩ ⟨Nat.le_refl 0, Nat.le_refl 0⟩ hl.1 (Nat.le_of_ble_eq_true rfl) dX4_asked_76 (fun H locs I => ?_)
    exact r_i E hlk hr I (Nat.le_refl 0) (Nat.le_refl 0) dX4_asked_79 (⟨by simp [gAsk, c1_6], rfl⟩)
  refine lv_tableOut (tgt := 80) hx hb dX4_asked_1 (by have := lv_neT c1_0 (a := 0) rfl; have := lv_neT c1_1 (a := 1) rfl; have := lv_neT c1_2 (a := 2) rfl; have := lv_neT c1_3 (a := 3) rfl; have := lv_neT c1_4 (a := 4) rfl; have := lv_neT c1_5 (a := 5) rfl; have := lv_neT c1_6 (a := 6) rfl; omega) (by decide) ?_
  refine lv_bipush (v := (-2)) hx hb dX4_asked_80 (by decide) ?_
  exact r_i E hlk hr I (Nat.le_refl 0) (Nat.le_refl 0) dX4_asked_82 (⟨by simp [gAsk, c1_0, c1_1, c1_2, c1_3, c1_4, c1_5, c1_6], rfl⟩)
section GV2
variable {p : Program} {l : Launch} {e : Env} {R : Room} {s : State} {m : MethodId} {args : Array Value} {below : List Frame} {meth : Method} {c : Code} {H : Heap} {locs : List Loc} {cells slots : Nat} {Q : State → Prop}
variable {cc : ByteArray} {pc nL : Nat} {ls : Array Slot} {rest : List Value} {D : va_G} {A : Nat → Prop} {ty : Nat → ClassId} {o : Nat} {ad : Nat → Nat} {em : Nat} {g : GS} {ex : va_W} {σ : Sg} {Cy : (Nat → Prop) → State → Prop}
theorem dc_g_coin : "CafeTables$Guest" ≠ "java/lang/invoke/MethodHandle" ∧ "CafeTables$Guest" ≠ "java/lang/invoke/VarHandle" ∧ (parseMethodDescriptor yX4_coinFor.desc).map (fun d => d.parameters.length) = some 1 := by decide +kernel
theorem g_coin {own : String} {idx : Nat} (hq : Cond.methodLink own idx yX4_coinFor ∈ lw_all) (hC : CxOk (CxX em Cy)) (hg : gOk g) (E : En p s m args c cc nL own) (hK : va_K D vwCl (tysG ty) s) (hA : ∀ q, s.heap.size ≤ q → A q) (hX : CxX em Cy A s) (I : gI s D A (gW ty o ad em g ex σ) H locs) {i : Nat} (hi : i < g.1) (x : Int32) (hR : 5 ≤ R.frames ∧ 213 ≤ R.locals) (hf : cells ≤ R.cells ∧ slots ≤ R.slots) (hl : ls.size = nL) (hW : (rest.map fun v => v.category).sum ≤ 8) (hd : decode cc pc = .ok (.invokevirtual idx, 3))
    (kk : ∀ (H1 : Heap) (locs1 : List Loc), gI s D A (gW ty o ad em g ex σ) H1 locs1 → W p l e R s m args below meth c H1 locs1 cells slots Q (F0 m (pc + 3) ls (.int (gCo g i x) :: rest))) : W p l e R s m args below meth c H locs cells slots Q (F0 m pc ls (.int x :: .ref (g.2.2.2.1 i) :: rest)) := by
  have he := gW_g (ty := ty) (o := o) (ad := ad) (em := em) (ex := ex) (σ := σ) hi
  rcases gkd hg hi with hk | hk | hk
  · rw [hk] at he
    refine c_Ui (owner := "CafeTables$Guest") (x := yX4_coinFor) (ci := 2) (As := [.int x]) hC E hK hA hX I (k4_coinFor l D ty o ad em g ex Cy hC hg σ i hi x) (va_cwU 1 E.2.2.2.2 (lw_U hq q538 q537 q536 q90 q541) rfl rfl rfl rfl dc_g_coin ⟨Nat.le_trans (Nat.le_of_ble_eq_true rfl) hR.1, Nat.le_trans (Nat.le_of_ble_eq_true rfl) hR.2⟩) hf he rfl hl hW rfl hd (fun r σ1 H1 locs1 hp I1 => ?_)
    obtain ⟨h1, h2⟩ := hp
    refine top_i (y := gCo g i x) (h1.trans (rfl)) ?_
    exact kk H1 locs1 (g_as I1 h2)
  · rw [hk] at he
    refine c_Ui (owner := "CafeTables$Guest") (x := yX4_coinFor) (ci := 3) (As := [.int x]) hC E hK hA hX I (k4_coinFor l D ty o ad em g ex Cy hC hg σ i hi x) (va_cwU 1 E.2.2.2.2 (lw_U hq q538 q540 q536 q90 q541) rfl rfl rfl rfl dc_g_coin ⟨Nat.le_trans (Nat.le_of_ble_eq_true rfl) hR.1, Nat.le_trans (Nat.le_of_ble_eq_true rfl) hR.2⟩) hf he rfl hl hW rfl hd (fun r σ1 H1 locs1 hp I1 => ?_)
    obtain ⟨h1, h2⟩ := hp
    refine top_i (y := gCo g i x) (h1.trans (rfl)) ?_
    exact kk H1 locs1 (g_as I1 h2)
  · rw [hk] at he
    refine c_Ui (owner := "CafeTables$Guest") (x := yX4_coinFor) (ci := 4) (As := [.int x]) hC E hK hA hX I (k4_coinFor l D ty o ad em g ex Cy hC hg σ i hi x) (va_cwU 1 E.2.2.2.2 (lw_U hq q538 q539 q536 q90 q541) rfl rfl rfl rfl dc_g_coin ⟨Nat.le_trans (Nat.le_of_ble_eq_true rfl) hR.1, Nat.le_trans (Nat.le_of_ble_eq_true rfl) hR.2⟩) hf he rfl hl hW rfl hd (fun r σ1 H1 locs1 hp I1 => ?_)
    obtain ⟨h1, h2⟩ := hp
    refine top_i (y := gCo g i x) (h1.trans (rfl)) ?_
    exact kk H1 locs1 (g_as I1 h2)
theorem dc_g_asked : "CafeTables$Guest" ≠ "java/lang/invoke/MethodHandle" ∧ "CafeTables$Guest" ≠ "java/lang/invoke/VarHandle" ∧ (parseMethodDescriptor yX4_asked.desc).map (fun d => d.parameters.length) = some 1 := by decide +kernel
theorem g_asked {own : String} {idx : Nat} (hq : Cond.methodLink own idx yX4_asked ∈ lw_all) (hC : CxOk (CxX em Cy)) (hg : gOk g) (E : En p s m args c cc nL own) (hK : va_K D vwCl (tysG ty) s) (hA : ∀ q, s.heap.size ≤ q → A q) (hX : CxX em Cy A s) (I : gI s D A (gW ty o ad em g ex σ) H locs) {i : Nat} (hi : i < g.1) (w : Int32) (hR : 6 ≤ R.frames ∧ 261 ≤ R.locals) (hf : cells ≤ R.cells ∧ slots ≤ R.slots) (hl : ls.size = nL) (hW : (rest.map fun v => v.category).sum ≤ 8) (hd : decode cc pc = .ok (.invokevirtual idx, 3))
    (kk : ∀ (H1 : Heap) (locs1 : List Loc), gI s D A (gW ty o ad em g ex σ) H1 locs1 → W p l e R s m args below meth c H1 locs1 cells slots Q (F0 m (pc + 3) ls (.int (gAsk g i w) :: rest))) : W p l e R s m args below meth c H locs cells slots Q (F0 m pc ls (.int w :: .ref (g.2.2.2.1 i) :: rest)) := by
  have he := gW_g (ty := ty) (o := o) (ad := ad) (em := em) (ex := ex) (σ := σ) hi
  rcases gkd hg hi with hk | hk | hk
  · rw [hk] at he
    refine c_Ui (owner := "CafeTables$Guest") (x := yX4_asked) (ci := 2) (As := [.int w]) hC E hK hA hX I (k4_asked l D ty o ad em g ex Cy hC hg σ i hi w) (va_cwU 1 E.2.2.2.2 (lw_U hq q431 q430 q429 q90 q434) rfl rfl rfl rfl dc_g_asked ⟨Nat.le_trans (Nat.le_of_ble_eq_true rfl) hR.1, Nat.le_trans (Nat.le_of_ble_eq_true rfl) hR.2⟩) hf he rfl hl hW rfl hd (fun r σ1 H1 locs1 hp I1 => ?_)
    obtain ⟨h1, h2⟩ := hp
    refine top_i (y := gAsk g i w) (h1.trans (rfl)) ?_
    exact kk H1 locs1 (g_as I1 h2)
  · rw [hk] at he
    refine c_Ui (owner := "CafeTables$Guest") (x := yX4_asked) (ci := 3) (As := [.int w]) hC E hK hA hX I (k4_asked l D ty o ad em g ex Cy hC hg σ i hi w) (va_cwU 1 E.2.2.2.2 (lw_U hq q431 q433 q429 q90 q434) rfl rfl rfl rfl dc_g_asked ⟨Nat.le_trans (Nat.le_of_ble_eq_true rfl) hR.1, Nat.le_trans (Nat.le_of_ble_eq_true rfl) hR.2⟩) hf he rfl hl hW rfl hd (fun r σ1 H1 locs1 hp I1 => ?_)
    obtain ⟨h1, h2⟩ := hp
    refine top_i (y := gAsk g i w) (h1.trans (rfl)) ?_
    exact kk H1 locs1 (g_as I1 h2)
  · rw [hk] at he
    refine c_Ui (owner := "CafeTables$Guest") (x := yX4_asked) (ci := 4) (As := [.int w]) hC E hK hA hX I (k4_asked l D ty o ad em g ex Cy hC hg σ i hi w) (va_cwU 1 E.2.2.2.2 (lw_U hq q431 q432 q429 q90 q434) rfl rfl rfl rfl dc_g_asked ⟨Nat.le_trans (Nat.le_of_ble_eq_true rfl) hR.1, Nat.le_trans (Nat.le_of_ble_eq_true rfl) hR.2⟩) hf he rfl hl hW rfl hd (fun r σ1 H1 locs1 hp I1 => ?_)
    obtain ⟨h1, h2⟩ := hp
    refine top_i (y := gAsk g i w) (h1.trans (rfl)) ?_
    exact kk H1 locs1 (g_as I1 h2)
end GV2
