set_option maxRecDepth 100000
set_option maxHeartbeats 4000000
theorem go_check17 : GoodIn lw_all (va_wsS RJ16 105 yJ17_checkIndex (ws_ yJ17_checkIndex cJ17_checkIndex 3 (some .int))) := lw_S q421 q422 q96 q423
theorem go_check16 : GoodIn lw_all (va_wsS RJ2 118 yJ16_checkIndex (ws_ yJ16_checkIndex cJ16_checkIndex 2 (some .int))) := lw_S q418 q419 q95 q420
theorem go_elementData : GoodIn lw_all (wsV RJ2 123 RJ2 yJ2_elementData (ws_ yJ2_elementData cJ2_elementData 2 (some (.object "java/lang/Object")))) := lw_V q424 q425 q426 q74 q427
theorem go_size : GoodIn lw_all (va_wsF RX0 118 RJ2 yL_size yJ2_size (ws_ yJ2_size cJ2_size 1 (some .int))) := lw_F q251 q255 q257 q74 q259
theorem go_get : GoodIn lw_all (va_wsF RX0 144 RJ2 yL_get yJ2_get (ws_ yJ2_get cJ2_get 2 (some (.object "java/lang/Object")))) := lw_F q410 q413 q415 q74 q417
theorem dc_c17 : yJ17_checkIndex.cls ≠ "java/lang/invoke/MethodHandle" ∧ yJ17_checkIndex.cls ≠ "java/lang/invoke/VarHandle" ∧ (parseMethodDescriptor yJ17_checkIndex.desc).map (fun d => d.parameters.length) = some 3 := by decide +kernel
theorem dc_c16 : yJ16_checkIndex.cls ≠ "java/lang/invoke/MethodHandle" ∧ yJ16_checkIndex.cls ≠ "java/lang/invoke/VarHandle" ∧ (parseMethodDescriptor yJ16_checkIndex.desc).map (fun d => d.parameters.length) = some 2 := by decide +kernel
theorem dc_ed : yJ2_elementData.cls = RJ2 ∧ yJ2_elementData.cls ≠ "java/lang/invoke/MethodHandle" ∧ yJ2_elementData.cls ≠ "java/lang/invoke/VarHandle" ∧ (parseMethodDescriptor yJ2_elementData.desc).map (fun d => d.parameters.length) = some 1 := by decide +kernel
theorem dc_Lget : yL_get.cls ≠ "java/lang/invoke/MethodHandle" ∧ yL_get.cls ≠ "java/lang/invoke/VarHandle" ∧ (parseMethodDescriptor yL_get.desc).map (fun d => d.parameters.length) = some 1 := by decide +kernel
theorem dc_Lsize : yL_size.cls ≠ "java/lang/invoke/MethodHandle" ∧ yL_size.cls ≠ "java/lang/invoke/VarHandle" ∧ (parseMethodDescriptor yL_size.desc).map (fun d => d.parameters.length) = some 0 := by decide +kernel
theorem j_check16 (l : Launch) (i n : Nat) (hi : i < n) (hn : n ≤ 8) : Pi l yJ16_checkIndex cJ16_checkIndex 2 .int (rmL 2) [.int (nI i), .int (nI n)] (fun r => r = nI i) := by
  refine Pi.of (by decide) (Nat.le_of_ble_eq_true rfl) ?_
  intro p e s m below meth c ls args E hlk hr hl
  have hx := E.1
  have hb := E.2.1
  have hl : lv_has ls 2 [(0, .int (nI i)), (1, .int (nI n))] := hl
  refine lv_iload_n hx hb dJ16_checkIndex_0 rfl (lv_at hl 0 rfl) ?_
  refine lv_iload_n hx hb dJ16_checkIndex_1 rfl (lv_at hl 1 rfl) ?_
  refine lv_null hx hb dJ16_checkIndex_2 ?_
  refine c_Si (As := [.int (nI i), .int (nI n), .null]) E (j_check17 l i n hi hn) go_check17 ⟨rfl, rfl⟩ dc_c17 ⟨Nat.le_of_ble_eq_true rfl, Nat.le_of_ble_eq_true rfl⟩ ⟨Nat.le_refl 0, Nat.le_refl 0⟩ hl.1 (Nat.le_of_ble_eq_true rfl) rfl dJ16_checkIndex_3 (fun r hp => ?_)
  exact s_i E hlk hr dJ16_checkIndex_6 hp
theorem j_elementData (l : Launch) (D : va_G) (ty : Nat → ClassId) (o : Nat) (ad : Nat → Nat) (em : Nat) (g : GS) (ex : va_W) (Cx : (Nat → Prop) → State → Prop) (σ : Sg) (hg : gOk g) (i : Nat) (hi : i < g.1) : Kq l yJ2_elementData cJ2_elementData 2 (.object "java/lang/Object") (rmL 1) D ty Cx [.ref (ad 8), .int (nI i)] (gW ty o ad em g ex) σ (fun r τ => r = some (g.2.2.2.1 i) ∧ τ = σ) := by
  refine Kq.of (by decide) (Nat.le_of_ble_eq_true rfl) ?_
  intro p e s m below meth c A ls args E hK hA hX hlk hr I hl
  have hx := E.1
  have hb := E.2.1
  have hl : lv_has ls 2 [(0, .ref (ad 8)), (1, .int (nI i))] := hl
  obtain ⟨a, ha⟩ : ∃ a, g.2.2.1 = some a := by
    cases h : g.2.2.1 with
    | none => have := hg.2.2 h; omega
    | some a => exact ⟨a, rfl⟩
  have h8 := hg.1
  refine lv_aload_n hx hb dJ2_elementData_0 rfl (lv_at hl 0 rfl) ?_
  refine l_get (v := .ref a) E hK I (gW_l ty o ad em g ex σ) 1 (by decide) q123 (by rw [ha]; rfl) dJ2_elementData_1 ?_
  refine lv_iload_n hx hb dJ2_elementData_4 rfl (lv_at hl 1 rfl) ?_
  refine va_aldq (D := D) hx hb hK I.1 (14 + (1 + g.1)) 4 (gW_a ha) rfl (vp_in_nI (by omega) (by omega)) dJ2_elementData_5 ?_
  exact r_q (v := some (g.2.2.2.1 i)) E hlk hr (Or.inl ⟨_, rfl⟩) I (Nat.le_refl 0) (Nat.le_refl 0) dJ2_elementData_6 (by rw [nI_clamp (by omega)]; simp [gRow, hi]) ⟨rfl, rfl⟩
/-- List.get -/
theorem j_get (l : Launch) (D : va_G) (ty : Nat → ClassId) (o : Nat) (ad : Nat → Nat) (em : Nat) (g : GS) (ex : va_W) (Cx : (Nat → Prop) → State → Prop) (hC : CxOk Cx) (σ : Sg) (hg : gOk g) (i : Nat) (hi : i < g.1) : Kq l yJ2_get cJ2_get 2 (.object "java/lang/Object") (rmL 3) D ty Cx [.ref (ad 8), .int (nI i)] (gW ty o ad em g ex) σ (fun r τ => r = some (g.2.2.2.1 i) ∧ τ = σ) := by
  refine Kq.of (by decide) (Nat.le_of_ble_eq_true rfl) ?_
  intro p e s m below meth c A ls args E hK hA hX hlk hr I hl
  have hx := E.1
  have hb := E.2.1
  have hl : lv_has ls 2 [(0, .ref (ad 8)), (1, .int (nI i))] := hl
  refine lv_iload_n hx hb dJ2_get_0 rfl (lv_at hl 1 rfl) ?_
  refine lv_aload_n hx hb dJ2_get_1 rfl (lv_at hl 0 rfl) ?_
  refine l_get E hK I (gW_l ty o ad em g ex σ) 2 (by decide) q124 rfl dJ2_get_2 ?_
  refine c_Si (As := [.int (nI i), .int (nI g.1)]) E (j_check16 l i g.1 hi hg.1) go_check16 ⟨rfl, rfl⟩ dc_c16 ⟨Nat.le_of_ble_eq_true rfl, Nat.le_of_ble_eq_true rfl⟩ ⟨Nat.le_refl 0, Nat.le_refl 0⟩ hl.1 (Nat.le_of_ble_eq_true rfl) rfl dJ2_get_5 (fun r hp => ?_)
  refine lv_pop hx hb dJ2_get_8 rfl ?_
  refine lv_aload_n hx hb dJ2_get_9 rfl (lv_at hl 0 rfl) ?_
  refine lv_iload_n hx hb dJ2_get_10 rfl (lv_at hl 1 rfl) ?_
  refine c_Vq (As := [.int (nI i)]) hC E hK hA hX I (j_elementData l D ty o ad em g ex Cx σ hg i hi) go_elementData dc_ed ⟨Nat.le_of_ble_eq_true rfl, Nat.le_of_ble_eq_true rfl⟩ ⟨Nat.le_refl 0, Nat.le_refl 0⟩ (gW_l ty o ad em g ex σ) rfl hl.1 (Nat.le_of_ble_eq_true rfl) rfl dJ2_get_11 (fun r σ1 H locs hp I => ?_)
  exact r_q (v := r) E hlk hr (Or.inl ⟨_, rfl⟩) I (Nat.le_refl 0) (Nat.le_refl 0) dJ2_get_14 rfl hp
section XG
variable {p : Program} {l : Launch} {e : Env} {R : Room} {s : State} {m : MethodId} {args : Array Value} {below : List Frame} {meth : Method} {c : Code} {H : Heap} {locs : List Loc} {cells slots : Nat} {Q : State → Prop}
variable {cc : ByteArray} {pc nL : Nat} {ls : Array Slot} {rest : List Value} {D : va_G} {A : Nat → Prop} {ty : Nat → ClassId} {o : Nat} {ad : Nat → Nat} {em : Nat} {g : GS} {ex : va_W} {σ : Sg} {Cy : (Nat → Prop) → State → Prop}
theorem g_as {a b : Sg} (I : gI s D A (gW ty o ad em g ex a) H locs) (h : a = b) : gI s D A (gW ty o ad em g ex b) H locs := h ▸ I
/-- groups.size() -/
theorem g_size (hC : CxOk (CxX em Cy)) (E : En p s m args c cc nL RX0) (hK : va_K D vwCl (tysG ty) s) (hA : ∀ q, s.heap.size ≤ q → A q) (hX : CxX em Cy A s) (I : gI s D A (gW ty o ad em g ex σ) H locs) (hR : 2 ≤ R.frames ∧ 68 ≤ R.locals) (hf : cells ≤ R.cells ∧ slots ≤ R.slots) (hl : ls.size = nL) (hW : (rest.map fun v => v.category).sum ≤ 8) {count : Nat} (hd : decode cc pc = .ok (.invokeinterface 118 count, 5))
    (kk : ∀ (H1 : Heap) (locs1 : List Loc), gI s D A (gW ty o ad em g ex σ) H1 locs1 → W p l e R s m args below meth c H1 locs1 cells slots Q (F0 m (pc + 5) ls (.int (nI g.1) :: rest))) : W p l e R s m args below meth c H locs cells slots Q (F0 m pc ls (.ref (ad 8) :: rest)) :=
  c_Fi (As := []) hC E hK hA hX I (j_size l D ty o ad em g ex (CxX em Cy) σ) go_size (hX.2.1 _ (List.mem_of_getElem? (i := 0) rfl)) dc_Lsize ⟨hR.1, Nat.le_trans (Nat.le_of_ble_eq_true rfl) hR.2⟩ hf (gW_l ty o ad em g ex σ) rfl hl hW rfl hd (fun r σ1 H1 locs1 hp I1 => by
    obtain ⟨h1, h2⟩ := hp
    subst h1
    exact kk H1 locs1 (g_as I1 h2))
/-- groups.get(i) -/
theorem g_lget (hC : CxOk (CxX em Cy)) (hg : gOk g) (E : En p s m args c cc nL RX0) (hK : va_K D vwCl (tysG ty) s) (hA : ∀ q, s.heap.size ≤ q → A q) (hX : CxX em Cy A s) (I : gI s D A (gW ty o ad em g ex σ) H locs) {i : Nat} (hi : i < g.1) (hR : 4 ≤ R.frames ∧ 165 ≤ R.locals) (hf : cells ≤ R.cells ∧ slots ≤ R.slots) (hl : ls.size = nL) (hW : (rest.map fun v => v.category).sum ≤ 8) {count : Nat} (hd : decode cc pc = .ok (.invokeinterface 144 count, 5))
    (kk : ∀ (H1 : Heap) (locs1 : List Loc), gI s D A (gW ty o ad em g ex σ) H1 locs1 → W p l e R s m args below meth c H1 locs1 cells slots Q (F0 m (pc + 5) ls (.ref (g.2.2.2.1 i) :: rest))) : W p l e R s m args below meth c H locs cells slots Q (F0 m pc ls (.int (nI i) :: .ref (ad 8) :: rest)) :=
  c_Fq (As := [.int (nI i)]) hC E hK hA hX I (j_get l D ty o ad em g ex (CxX em Cy) hC σ hg i hi) go_get (hX.2.1 _ (List.mem_of_getElem? (i := 1) rfl)) dc_Lget ⟨hR.1, Nat.le_trans (Nat.le_of_ble_eq_true rfl) hR.2⟩ hf (gW_l ty o ad em g ex σ) rfl hl hW rfl hd (fun r σ1 H1 locs1 hp I1 => by
    obtain ⟨h1, h2⟩ := hp
    subst h1
    exact kk H1 locs1 (g_as I1 h2))
end XG
