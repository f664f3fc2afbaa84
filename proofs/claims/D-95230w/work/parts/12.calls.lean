/-! ROWS over the base: calls that take the whole world and give it back -/
set_option maxRecDepth 100000
section BR2
variable {p : Program} {l : Launch} {e : Env} {R : Room} {s : State} {m : MethodId} {args : Array Value} {below : List Frame} {meth : Method} {c : Code} {H : Heap} {locs : List Loc} {cells slots : Nat} {Q : State → Prop}
variable {cc : ByteArray} {pc nL : Nat} {ls : Array Slot} {rest : List Value} {D : va_G} {A : Nat → Prop} {ty : Nat → ClassId} {own : String} {Cx : (Nat → Prop) → State → Prop}
theorem KP.blind {S : Type} {wl : S → va_W} {S0 : S} {sz : Nat} {as : List Value} (hC : CxOk Cx) : FrameBlind (KP D ty Cx wl S0 sz as) := by
  intro a U g mk q
  obtain ⟨q0, q1, qP, qK, qD, qC⟩ := q
  exact ⟨q0, q1, qP, va_K.moved (u := U) (U := U.calling g mk a) (Vm.Alike.refl U.vm) qK, qD, hC.1 _ U (U.calling g mk a) rfl rfl qC⟩
theorem gI.sub {ws : va_W} (I : gI s D A ws H locs) (hA : ∀ q, s.heap.size ≤ q → A q) : ∀ q, va_A ws H.size q → A q := by
  intro q h
  rcases h with ⟨k, e, h⟩ | h
  · exact I.2.1.2 k _ h
  · exact hA q (Nat.le_trans I.2.2.1 h)
theorem KP.pre {S : Type} {wl : S → va_W} {S0 : S} {as : List Value} (hC : CxOk Cx) (hK : va_K D vwCl (tysG ty) s) (hA : ∀ q, s.heap.size ≤ q → A q) (hX : Cx A s) (I : gI s D A (wl S0) H locs) : ∀ U : State, U.heap = H → s.WarmedH U.vm → KP D ty Cx wl S0 H.size as as.toArray U := by
  intro U hU hW
  refine ⟨rfl, by rw [hU], by rw [hU]; exact I.1, va_K.moved hW.alike hK, I.2.1.weaken (fun _ _ _ _ => trivial), hC.2 A _ s U hX hW ?_ ?_ (I.sub hA)⟩
  · rw [hU]; exact I.2.2.1
  · intro q h1 h2
    rw [hU]; exact I.2.2.2.1 q h1 h2
theorem gI.back {S : Type} {wl : S → va_W} {S0 S1 : S} {t : State} {H1 : Heap} {locs1 : List Loc} (I : gI s D A (wl S0) H locs) (hA : ∀ q, s.heap.size ≤ q → A q) (ht : t.heap = H1) (hB : KB D (va_A (wl S0) H.size) wl S1 t) (hS : va_S A s.heap H1 locs1) : gI s D A (wl S1) H1 locs1 := by
  obtain ⟨h1, h2⟩ := hB
  rw [ht] at h1
  exact ⟨h1, h2.weaken (fun _ _ _ h => I.sub hA _ h), hS⟩
theorem gI_as {S : Type} {wl : S → va_W} {a b : S} (I : gI s D A (wl a) H locs) (h : a = b) : gI s D A (wl b) H locs := h ▸ I
/-! by an object: 'invokevirtual' of the very method -/
theorem c_Vi {y : MethodName} {b : ByteArray} {L : Nat} {rt : FieldType} {rm : Room} {As : List Value} {S : Type} {wl : S → va_W} {S0 : S} {post : Int32 → S → Prop} {idx : Nat} {C : String} {o q0 ci : Nat} {fs : List Value} {q : u_T × Nat} (hC : CxOk Cx) (E : En p s m args c cc nL own) (hK : va_K D vwCl (tysG ty) s) (hA : ∀ q, s.heap.size ≤ q → A q) (hX : Cx A s) (I : gI s D A (wl S0) H locs) (hM : Ki l y b L rt rm D ty Cx (.ref o :: As) wl S0 post) (hw : GoodIn lw_all (wsV own idx C y (ws_ y b L (some rt))))
    (hdc : y.cls = C ∧ y.cls ≠ "java/lang/invoke/MethodHandle" ∧ y.cls ≠ "java/lang/invoke/VarHandle" ∧ (parseMethodDescriptor y.desc).map (fun d => d.parameters.length) = some As.length) (hR : rm.frames + 1 ≤ R.frames ∧ 8 + (L + 11) + rm.locals ≤ R.locals) (hf : cells + rm.cells ≤ R.cells ∧ slots + rm.slots ≤ R.slots) (hrec : (wl S0)[q0]? = some (o, .inr (ci, fs))) (hcl : vwCl[ci]? = some (C, q)) (hl : ls.size = nL) (hW : (rest.map fun v => v.category).sum ≤ 8) {st : List Value} (hst : st = As.reverse ++ .ref o :: rest) (hd : decode cc pc = .ok (.invokevirtual idx, 3))
    (kk : ∀ (r : Int32) (S1 : S) (H1 : Heap) (locs1 : List Loc), post r S1 → gI s D A (wl S1) H1 locs1 → W p l e R s m args below meth c H1 locs1 (cells + rm.cells) (slots + rm.slots) Q (F0 m (pc + 3) ls (.int r :: rest))) : W p l e R s m args below meth c H locs cells slots Q (F0 m pc ls st) :=
  va_calli (va_runV (As := As) (rest := rest) (b := o) E (hM H.size) (cwV As.length E.2.2.2.2 hw rfl rfl rfl hdc hR) ⟨KP.blind hC, va_recv hK I.1 hcl hrec, KP.pre hC hK hA hX I⟩ rfl rfl hl hst (lv_room hW) hd hf) I.2.2 (fun q _ h => I.sub hA q h) (I.sub hA) (fun r S1 t H1 locs1 ht hvm hp hB hz hk hS => kk r S1 H1 locs1 hp (I.back hA ht hB hS))
theorem c_Vl {y : MethodName} {b : ByteArray} {L : Nat} {rm : Room} {As : List Value} {S : Type} {wl : S → va_W} {S0 : S} {post : Int64 → S → Prop} {idx : Nat} {C : String} {o q0 ci : Nat} {fs : List Value} {q : u_T × Nat} (hC : CxOk Cx) (E : En p s m args c cc nL own) (hK : va_K D vwCl (tysG ty) s) (hA : ∀ q, s.heap.size ≤ q → A q) (hX : Cx A s) (I : gI s D A (wl S0) H locs) (hM : Kl l y b L rm D ty Cx (.ref o :: As) wl S0 post) (hw : GoodIn lw_all (wsV own idx C y (ws_ y b L (some .long))))
    (hdc : y.cls = C ∧ y.cls ≠ "java/lang/invoke/MethodHandle" ∧ y.cls ≠ "java/lang/invoke/VarHandle" ∧ (parseMethodDescriptor y.desc).map (fun d => d.parameters.length) = some As.length) (hR : rm.frames + 1 ≤ R.frames ∧ 8 + (L + 11) + rm.locals ≤ R.locals) (hf : cells + rm.cells ≤ R.cells ∧ slots + rm.slots ≤ R.slots) (hrec : (wl S0)[q0]? = some (o, .inr (ci, fs))) (hcl : vwCl[ci]? = some (C, q)) (hl : ls.size = nL) (hW : (rest.map fun v => v.category).sum ≤ 8) {st : List Value} (hst : st = As.reverse ++ .ref o :: rest) (hd : decode cc pc = .ok (.invokevirtual idx, 3))
    (kk : ∀ (r : Int64) (S1 : S) (H1 : Heap) (locs1 : List Loc), post r S1 → gI s D A (wl S1) H1 locs1 → W p l e R s m args below meth c H1 locs1 (cells + rm.cells) (slots + rm.slots) Q (F0 m (pc + 3) ls (.long r :: rest))) : W p l e R s m args below meth c H locs cells slots Q (F0 m pc ls st) :=
  va_calll (va_runV (As := As) (rest := rest) (b := o) E (hM H.size) (cwV As.length E.2.2.2.2 hw rfl rfl rfl hdc hR) ⟨KP.blind hC, va_recv hK I.1 hcl hrec, KP.pre hC hK hA hX I⟩ rfl rfl hl hst (lv_room hW) hd hf) I.2.2 (fun q _ h => I.sub hA q h) (I.sub hA) (fun r S1 t H1 locs1 ht hvm hp hB hz hk hS => kk r S1 H1 locs1 hp (I.back hA ht hB hS))
theorem c_Vv {y : MethodName} {b : ByteArray} {L : Nat} {rm : Room} {As : List Value} {S : Type} {wl : S → va_W} {S0 : S} {post : S → Prop} {idx : Nat} {C : String} {o q0 ci : Nat} {fs : List Value} {q : u_T × Nat} (hC : CxOk Cx) (E : En p s m args c cc nL own) (hK : va_K D vwCl (tysG ty) s) (hA : ∀ q, s.heap.size ≤ q → A q) (hX : Cx A s) (I : gI s D A (wl S0) H locs) (hM : Kv l y b L rm D ty Cx (.ref o :: As) wl S0 post) (hw : GoodIn lw_all (wsV own idx C y (ws_ y b L none)))
    (hdc : y.cls = C ∧ y.cls ≠ "java/lang/invoke/MethodHandle" ∧ y.cls ≠ "java/lang/invoke/VarHandle" ∧ (parseMethodDescriptor y.desc).map (fun d => d.parameters.length) = some As.length) (hR : rm.frames + 1 ≤ R.frames ∧ 8 + (L + 11) + rm.locals ≤ R.locals) (hf : cells + rm.cells ≤ R.cells ∧ slots + rm.slots ≤ R.slots) (hrec : (wl S0)[q0]? = some (o, .inr (ci, fs))) (hcl : vwCl[ci]? = some (C, q)) (hl : ls.size = nL) (hW : (rest.map fun v => v.category).sum ≤ 8) {st : List Value} (hst : st = As.reverse ++ .ref o :: rest) (hd : decode cc pc = .ok (.invokevirtual idx, 3))
    (kk : ∀ (S1 : S) (H1 : Heap) (locs1 : List Loc), post S1 → gI s D A (wl S1) H1 locs1 → W p l e R s m args below meth c H1 locs1 (cells + rm.cells) (slots + rm.slots) Q (F0 m (pc + 3) ls rest)) : W p l e R s m args below meth c H locs cells slots Q (F0 m pc ls st) :=
  va_callv (va_runV (As := As) (rest := rest) (b := o) E (hM H.size) (cwV As.length E.2.2.2.2 hw rfl rfl rfl hdc hR) ⟨KP.blind hC, va_recv hK I.1 hcl hrec, KP.pre hC hK hA hX I⟩ rfl rfl hl hst (lv_room hW) hd hf) I.2.2 (fun q _ h => I.sub hA q h) (I.sub hA) (fun S1 t H1 locs1 ht hvm hp hB hz hk hS => kk S1 H1 locs1 hp (I.back hA ht hB hS))
/-! a static method that touches no cell -/
theorem c_Si {y : MethodName} {b : ByteArray} {L : Nat} {rt : FieldType} {rm : Room} {As : List Value} {post : Int32 → Prop} {idx : Nat} (E : En p s m args c cc nL own) (hM : Pi l y b L rt rm As post) (hw : GoodIn lw_all (va_wsS own idx y (ws_ y b L (some rt)))) (hrc : rm.cells = 0 ∧ rm.slots = 0)
    (hdc : y.cls ≠ "java/lang/invoke/MethodHandle" ∧ y.cls ≠ "java/lang/invoke/VarHandle" ∧ (parseMethodDescriptor y.desc).map (fun d => d.parameters.length) = some As.length) (hR : rm.frames + 1 ≤ R.frames ∧ 8 + (L + 11) + rm.locals ≤ R.locals) (hf : cells ≤ R.cells ∧ slots ≤ R.slots) (hl : ls.size = nL) (hW : (rest.map fun v => v.category).sum ≤ 8) {st : List Value} (hst : st = As.reverse ++ rest) (hd : decode cc pc = .ok (.invokestatic idx, 3))
    (kk : ∀ (r : Int32), post r → W p l e R s m args below meth c H locs cells slots Q (F0 m (pc + 3) ls (.int r :: rest))) : W p l e R s m args below meth c H locs cells slots Q (F0 m pc ls st) := by
  have hr := va_runS (H := H) (locs := locs) (cells := cells) (slots := slots) (e := e) (below := below) (meth := meth) (g := F0 m pc ls st) (As := As) (rest := rest) E hM (va_cwS As.length E.2.2.2.2 hw rfl hrc.1 hrc.2 hdc hR) ⟨fun a U g mk q => q, fun U _ _ => ⟨rfl, trivial⟩⟩ rfl rfl hl hst (lv_room hW) hd hf
  intro T hT X
  obtain ⟨v, st0, t, T', L', h0, X', hL, e1, e2, ⟨r, hv, hp, hh⟩, st⟩ := hr T hT X
  cases hv
  have hnil : L' = [] := by
    cases L' with
    | nil => rfl
    | cons q t => exact (hL q List.mem_cons_self).elim
  subst hnil
  rw [List.append_nil] at X'
  obtain ⟨t2, a1, b1⟩ := kk r hp T' (by rw [e1, hh, h0]) X'
  exact ⟨t2, st t2 a1, b1⟩
theorem c_Sl {y : MethodName} {b : ByteArray} {L : Nat} {rm : Room} {As : List Value} {post : Int64 → Prop} {idx : Nat} (E : En p s m args c cc nL own) (hM : Pl l y b L rm As post) (hw : GoodIn lw_all (va_wsS own idx y (ws_ y b L (some .long)))) (hrc : rm.cells = 0 ∧ rm.slots = 0)
    (hdc : y.cls ≠ "java/lang/invoke/MethodHandle" ∧ y.cls ≠ "java/lang/invoke/VarHandle" ∧ (parseMethodDescriptor y.desc).map (fun d => d.parameters.length) = some As.length) (hR : rm.frames + 1 ≤ R.frames ∧ 8 + (L + 11) + rm.locals ≤ R.locals) (hf : cells ≤ R.cells ∧ slots ≤ R.slots) (hl : ls.size = nL) (hW : (rest.map fun v => v.category).sum ≤ 8) {st : List Value} (hst : st = As.reverse ++ rest) (hd : decode cc pc = .ok (.invokestatic idx, 3))
    (kk : ∀ (r : Int64), post r → W p l e R s m args below meth c H locs cells slots Q (F0 m (pc + 3) ls (.long r :: rest))) : W p l e R s m args below meth c H locs cells slots Q (F0 m pc ls st) := by
  have hr := va_runS (H := H) (locs := locs) (cells := cells) (slots := slots) (e := e) (below := below) (meth := meth) (g := F0 m pc ls st) (As := As) (rest := rest) E hM (va_cwS As.length E.2.2.2.2 hw rfl hrc.1 hrc.2 hdc hR) ⟨fun a U g mk q => q, fun U _ _ => ⟨rfl, trivial⟩⟩ rfl rfl hl hst (lv_room hW) hd hf
  intro T hT X
  obtain ⟨v, st0, t, T', L', h0, X', hL, e1, e2, ⟨r, hv, hp, hh⟩, st⟩ := hr T hT X
  cases hv
  have hnil : L' = [] := by
    cases L' with
    | nil => rfl
    | cons q t => exact (hL q List.mem_cons_self).elim
  subst hnil
  rw [List.append_nil] at X'
  obtain ⟨t2, a1, b1⟩ := kk r hp T' (by rw [e1, hh, h0]) X'
  exact ⟨t2, st t2 a1, b1⟩
end BR2
