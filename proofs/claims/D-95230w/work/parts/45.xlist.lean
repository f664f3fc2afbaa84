/-! The list of guests: its own methods; rows for the class -/
set_option maxRecDepth 100000
set_option maxHeartbeats 4000000
theorem lw_F {own : String} {idx : Nat} {C : String} {x y : MethodName} {b : ByteArray} {L : Nat} {r : Option FieldType} (h1 : Cond.methodLink own idx x ∈ lw_all) (h2 : Cond.selects C x y ∈ lw_all) (h3 : Cond.instanceMethod y ∈ lw_all) (h4 : Cond.initialized y.cls ∈ lw_all) (h5 : Cond.code y b L r ∈ lw_all) : GoodIn lw_all (va_wsF own idx C x y (ws_ y b L r)) := by
  refine lw_app ?_ (lw_meth h5)
  intro w hw
  simp only [List.mem_cons, List.not_mem_nil, or_false] at hw
  rcases hw with e | e | e | e
  · rw [e]; exact h1
  · rw [e]; exact h2
  · rw [e]; exact h3
  · rw [e]; exact h4
section XL
variable {p : Program} {l : Launch} {e : Env} {R : Room} {s : State} {m : MethodId} {args : Array Value} {below : List Frame} {meth : Method} {c : Code} {H : Heap} {locs : List Loc} {cells slots : Nat} {Q : State → Prop}
variable {cc : ByteArray} {pc nL : Nat} {ls : Array Slot} {rest : List Value} {D : va_G} {A : Nat → Prop} {ty : Nat → ClassId} {own : String} {Cx : (Nat → Prop) → State → Prop}
theorem c_Fi {x y : MethodName} {b : ByteArray} {L : Nat} {rt : FieldType} {rm : Room} {As : List Value} {S : Type} {wl : S → va_W} {S0 : S} {post : Int32 → S → Prop} {idx count : Nat} {C : String} {o q0 ci : Nat} {fs : List Value} {q : u_T × Nat} (hC : CxOk Cx) (E : En p s m args c cc nL own) (hK : va_K D vwCl (tysG ty) s) (hA : ∀ q, s.heap.size ≤ q → A q) (hX : Cx A s) (I : gI s D A (wl S0) H locs) (hM : Ki l y b L rt rm D ty Cx (.ref o :: As) wl S0 post) (hw : GoodIn lw_all (va_wsF own idx C x y (ws_ y b L (some rt)))) (hF : va_Fw C x y s)
    (hdc : x.cls ≠ "java/lang/invoke/MethodHandle" ∧ x.cls ≠ "java/lang/invoke/VarHandle" ∧ (parseMethodDescriptor x.desc).map (fun d => d.parameters.length) = some As.length) (hR : rm.frames + 1 ≤ R.frames ∧ 8 + (L + 11) + rm.locals ≤ R.locals) (hf : cells + rm.cells ≤ R.cells ∧ slots + rm.slots ≤ R.slots) (hrec : (wl S0)[q0]? = some (o, .inr (ci, fs))) (hcl : vwCl[ci]? = some (C, q)) (hl : ls.size = nL) (hW : (rest.map fun v => v.category).sum ≤ 8) {st : List Value} (hst : st = As.reverse ++ .ref o :: rest) (hd : decode cc pc = .ok (.invokeinterface idx count, 5))
    (kk : ∀ (r : Int32) (S1 : S) (H1 : Heap) (locs1 : List Loc), post r S1 → gI s D A (wl S1) H1 locs1 → W p l e R s m args below meth c H1 locs1 (cells + rm.cells) (slots + rm.slots) Q (F0 m (pc + 5) ls (.int r :: rest))) : W p l e R s m args below meth c H locs cells slots Q (F0 m pc ls st) :=
  va_callFi (va_runF (As := As) (rest := rest) (b := o) (hK.1 ci _ hcl).2 E (hM H.size) (va_cwF As.length E.2.2.2.2 hw rfl rfl rfl hF hdc hR) ⟨KP.blind hC, va_recv hK I.1 hcl hrec, KP.pre hC hK hA hX I⟩ rfl rfl hl hst (lv_room hW) hd hf) I.2.2 (fun q _ h => I.sub hA q h) (I.sub hA) (fun r S1 t H1 locs1 ht hvm hp hB hz hk hS => kk r S1 H1 locs1 hp (I.back hA ht hB hS))
theorem c_Fq {x y : MethodName} {b : ByteArray} {L : Nat} {rt : FieldType} {rm : Room} {As : List Value} {S : Type} {wl : S → va_W} {S0 : S} {post : Option Nat → S → Prop} {idx count : Nat} {C : String} {o q0 ci : Nat} {fs : List Value} {q : u_T × Nat} (hC : CxOk Cx) (E : En p s m args c cc nL own) (hK : va_K D vwCl (tysG ty) s) (hA : ∀ q, s.heap.size ≤ q → A q) (hX : Cx A s) (I : gI s D A (wl S0) H locs) (hM : Kq l y b L rt rm D ty Cx (.ref o :: As) wl S0 post) (hw : GoodIn lw_all (va_wsF own idx C x y (ws_ y b L (some rt)))) (hF : va_Fw C x y s)
    (hdc : x.cls ≠ "java/lang/invoke/MethodHandle" ∧ x.cls ≠ "java/lang/invoke/VarHandle" ∧ (parseMethodDescriptor x.desc).map (fun d => d.parameters.length) = some As.length) (hR : rm.frames + 1 ≤ R.frames ∧ 8 + (L + 11) + rm.locals ≤ R.locals) (hf : cells + rm.cells ≤ R.cells ∧ slots + rm.slots ≤ R.slots) (hrec : (wl S0)[q0]? = some (o, .inr (ci, fs))) (hcl : vwCl[ci]? = some (C, q)) (hl : ls.size = nL) (hW : (rest.map fun v => v.category).sum ≤ 8) {st : List Value} (hst : st = As.reverse ++ .ref o :: rest) (hd : decode cc pc = .ok (.invokeinterface idx count, 5))
    (kk : ∀ (r : Option Nat) (S1 : S) (H1 : Heap) (locs1 : List Loc), post r S1 → gI s D A (wl S1) H1 locs1 → W p l e R s m args below meth c H1 locs1 (cells + rm.cells) (slots + rm.slots) Q (F0 m (pc + 5) ls (va_rf r :: rest))) : W p l e R s m args below meth c H locs cells slots Q (F0 m pc ls st) :=
  va_callFq (va_runF (As := As) (rest := rest) (b := o) (hK.1 ci _ hcl).2 E (hM H.size) (va_cwF As.length E.2.2.2.2 hw rfl rfl rfl hF hdc hR) ⟨KP.blind hC, va_recv hK I.1 hcl hrec, KP.pre hC hK hA hX I⟩ rfl rfl hl hst (lv_room hW) hd hf) I.2.2 (fun q _ h => I.sub hA q h) (I.sub hA) (fun r S1 t H1 locs1 ht hvm hp hB hz hk hS => kk r S1 H1 locs1 hp (I.back hA ht hB hS))
theorem c_Fv {x y : MethodName} {b : ByteArray} {L : Nat} {rm : Room} {As : List Value} {S : Type} {wl : S → va_W} {S0 : S} {post : S → Prop} {idx count : Nat} {C : String} {o q0 ci : Nat} {fs : List Value} {q : u_T × Nat} (hC : CxOk Cx) (E : En p s m args c cc nL own) (hK : va_K D vwCl (tysG ty) s) (hA : ∀ q, s.heap.size ≤ q → A q) (hX : Cx A s) (I : gI s D A (wl S0) H locs) (hM : Kv l y b L rm D ty Cx (.ref o :: As) wl S0 post) (hw : GoodIn lw_all (va_wsF own idx C x y (ws_ y b L none))) (hF : va_Fw C x y s)
    (hdc : x.cls ≠ "java/lang/invoke/MethodHandle" ∧ x.cls ≠ "java/lang/invoke/VarHandle" ∧ (parseMethodDescriptor x.desc).map (fun d => d.parameters.length) = some As.length) (hR : rm.frames + 1 ≤ R.frames ∧ 8 + (L + 11) + rm.locals ≤ R.locals) (hf : cells + rm.cells ≤ R.cells ∧ slots + rm.slots ≤ R.slots) (hrec : (wl S0)[q0]? = some (o, .inr (ci, fs))) (hcl : vwCl[ci]? = some (C, q)) (hl : ls.size = nL) (hW : (rest.map fun v => v.category).sum ≤ 8) {st : List Value} (hst : st = As.reverse ++ .ref o :: rest) (hd : decode cc pc = .ok (.invokeinterface idx count, 5))
    (kk : ∀ (S1 : S) (H1 : Heap) (locs1 : List Loc), post S1 → gI s D A (wl S1) H1 locs1 → W p l e R s m args below meth c H1 locs1 (cells + rm.cells) (slots + rm.slots) Q (F0 m (pc + 5) ls rest)) : W p l e R s m args below meth c H locs cells slots Q (F0 m pc ls st) :=
  va_callFv (va_runF (As := As) (rest := rest) (b := o) (hK.1 ci _ hcl).2 E (hM H.size) (va_cwF As.length E.2.2.2.2 hw rfl rfl rfl hF hdc hR) ⟨KP.blind hC, va_recv hK I.1 hcl hrec, KP.pre hC hK hA hX I⟩ rfl rfl hl hst (lv_room hW) hd hf) I.2.2 (fun q _ h => I.sub hA q h) (I.sub hA) (fun S1 t H1 locs1 ht hvm hp hB hz hk hS => kk S1 H1 locs1 hp (I.back hA ht hB hS))
/-! a field of the list -/
theorem l_get {ws : va_W} (E : En p s m args c cc nL RJ2) (hK : va_K D vwCl (tysG ty) s) (I : gI s D A ws H locs) {q0 lo : Nat} {fs : List Value} (he : ws[q0]? = some (lo, .inr (9, fs))) (k : Nat) (hk : k < 3) {index : Nat} (hq : Cond.fieldLink RJ2 index (TJ2 k).1 (TJ2 k).2.1 (TJ2 k).2.2.1 ∈ lw_all) {v : Value} (hv : fs[k]? = some v) (hd : decode cc pc = .ok (.getfield index, 3))
    (kk : W p l e R s m args below meth c H locs cells slots Q (F0 m (pc + 3) ls (v :: rest))) : W p l e R s m args below meth c H locs cells slots Q (F0 m pc ls (.ref lo :: rest)) :=
  va_get (D := D) (C := RJ2) (T := TJ2) (N := 3) E.1 E.2.1 E.2.2.2.2 in_J2 E.2.2.2.1 hK I.1 q0 he rfl k hk (E.2.2.2.2 _ hq) (fun _ h => h) hv hd kk
end XL
abbrev gW (ty : Nat → ClassId) (o : Nat) (ad : Nat → Nat) (em : Nat) (g : GS) (ex : va_W) (σ : Sg) : va_W := xW ty o ad (gE ty o (ad 8) em g ex) σ
theorem gW_l (ty : Nat → ClassId) (o : Nat) (ad : Nat → Nat) (em : Nat) (g : GS) (ex : va_W) (σ : Sg) : (gW ty o ad em g ex σ)[14]? = some (ad 8, .inr (9, [.int g.2.1, .ref (g.2.2.1.getD em), .int (nI g.1)])) := (xW_ex ty o ad σ _ 0).trans gE_0
theorem gW_g {ty : Nat → ClassId} {o : Nat} {ad : Nat → Nat} {em : Nat} {g : GS} {ex : va_W} {σ : Sg} {i : Nat} (hi : i < g.1) : (gW ty o ad em g ex σ)[14 + (1 + i)]? = some (g.2.2.2.1 i, .inr (2 + g.2.2.2.2.1 i, gfl o g.2.2.2.2.2 i (g.2.2.2.2.1 i))) := (xW_ex ty o ad σ _ (1 + i)).trans (gE_g hi)
theorem gW_a {ty : Nat → ClassId} {o : Nat} {ad : Nat → Nat} {em : Nat} {g : GS} {ex : va_W} {σ : Sg} {a : Nat} (ha : g.2.2.1 = some a) : (gW ty o ad em g ex σ)[14 + (1 + g.1)]? = some (a, .inl (ty 4, 10, .inr (.inr (.inr (.inr (gRow g)))))) := (xW_ex ty o ad σ _ (1 + g.1)).trans (gE_a ha)
/-- List.size -/
theorem j_size (l : Launch) (D : va_G) (ty : Nat → ClassId) (o : Nat) (ad : Nat → Nat) (em : Nat) (g : GS) (ex : va_W) (Cx : (Nat → Prop) → State → Prop) (σ : Sg) : Ki l yJ2_size cJ2_size 1 .int (rmL 1) D ty Cx [.ref (ad 8)] (gW ty o ad em g ex) σ (fun r τ => r = nI g.1 ∧ τ = σ) := by
  refine Ki.of (by decide) (Nat.le_of_ble_eq_true rfl) ?_
  intro p e s m below meth c A ls args E hK hA hX hlk hr I hl
  have hx := E.1
  have hb := E.2.1
  have hl : lv_has ls 1 [(0, .ref (ad 8))] := hl
  refine lv_aload_n hx hb dJ2_size_0 rfl (lv_at hl 0 rfl) ?_
  refine l_get E hK I (gW_l ty o ad em g ex σ) 2 (by decide) q124 rfl dJ2_size_1 ?_
  exact r_i E hlk hr I (Nat.le_refl 0) (Nat.le_refl 0) dJ2_size_4 ⟨rfl, rfl⟩
theorem j_check17 (l : Launch) (i n : Nat) (hi : i < n) (hn : n ≤ 8) : Pi l yJ17_checkIndex cJ17_checkIndex 3 .int (rmL 1) [.int (nI i), .int (nI n), .null] (fun r => r = nI i) := by
  refine Pi.of (by decide) (Nat.le_of_ble_eq_true rfl) ?_
  intro p e s m below meth c ls args E hlk hr hl
  have hx := E.1
  have hb := E.2.1
  have hl : lv_has ls 3 [(0, .int (nI i)), (1, .int (nI n)), (2, .null)] := hl
  refine lv_iload_n hx hb dJ17_checkIndex_0 rfl (lv_at hl 0 rfl) ?_
  refine lv_if_lt (tgt := 9) hx hb dJ17_checkIndex_1 (by decide) (fun h => absurd h (nI_pos (by omega))) (fun _ => ?_)
  refine lv_iload_n hx hb dJ17_checkIndex_4 rfl (lv_at hl 0 rfl) ?_
  refine lv_iload_n hx hb dJ17_checkIndex_5 rfl (lv_at hl 1 rfl) ?_
  refine lv_icmp_lt (tgt := 16) hx hb dJ17_checkIndex_6 (by decide) (fun _ => ?_) (fun h => absurd (nI_lt hi (by omega)) h)
  refine lv_iload_n hx hb dJ17_checkIndex_16 rfl (lv_at hl 0 rfl) ?_
  exact s_i E hlk hr dJ17_checkIndex_17 rfl
