/-! Guests: rows for their fields and calls -/
set_option maxRecDepth 100000
set_option maxHeartbeats 4000000
section GU
variable {p : Program} {l : Launch} {e : Env} {R : Room} {s : State} {m : MethodId} {args : Array Value} {below : List Frame} {meth : Method} {c : Code} {H : Heap} {locs : List Loc} {cells slots : Nat} {Q : State → Prop}
variable {cc : ByteArray} {pc nL : Nat} {ls : Array Slot} {rest : List Value} {D : va_G} {A : Nat → Prop} {ty : Nat → ClassId} {own : String} {Cx : (Nat → Prop) → State → Prop}
/-! by an object: an inherited or overriding method -/
theorem c_Ui {x y : MethodName} {b : ByteArray} {L : Nat} {rt : FieldType} {rm : Room} {As : List Value} {S : Type} {wl : S → va_W} {S0 : S} {post : Int32 → S → Prop} {idx : Nat} {C owner : String} {o q0 ci : Nat} {fs : List Value} {q : u_T × Nat} (hC : CxOk Cx) (E : En p s m args c cc nL own) (hK : va_K D vwCl (tysG ty) s) (hA : ∀ q, s.heap.size ≤ q → A q) (hX : Cx A s) (I : gI s D A (wl S0) H locs) (hM : Ki l y b L rt rm D ty Cx (.ref o :: As) wl S0 post) (cw : va_CU R s args own C owner idx x y b L (some rt) (ws_ y b L (some rt)) rm rm.cells rm.slots As.length)
    (hf : cells + rm.cells ≤ R.cells ∧ slots + rm.slots ≤ R.slots) (hrec : (wl S0)[q0]? = some (o, .inr (ci, fs))) (hcl : vwCl[ci]? = some (C, q)) (hl : ls.size = nL) (hW : (rest.map fun v => v.category).sum ≤ 8) {st : List Value} (hst : st = As.reverse ++ .ref o :: rest) (hd : decode cc pc = .ok (.invokevirtual idx, 3))
    (kk : ∀ (r : Int32) (S1 : S) (H1 : Heap) (locs1 : List Loc), post r S1 → gI s D A (wl S1) H1 locs1 → W p l e R s m args below meth c H1 locs1 (cells + rm.cells) (slots + rm.slots) Q (F0 m (pc + 3) ls (.int r :: rest))) : W p l e R s m args below meth c H locs cells slots Q (F0 m pc ls st) :=
  va_calli (va_runU (As := As) (rest := rest) (b := o) E (hM H.size) cw ⟨KP.blind hC, va_recv hK I.1 hcl hrec, KP.pre hC hK hA hX I⟩ rfl rfl hl hst (lv_room hW) hd hf) I.2.2 (fun q _ h => I.sub hA q h) (I.sub hA) (fun r S1 t H1 locs1 ht hvm hp hB hz hk hS => kk r S1 H1 locs1 hp (I.back hA ht hB hS))
/-! super.y(..) -/
theorem c_SUi {y : MethodName} {b : ByteArray} {L : Nat} {rt : FieldType} {rm : Room} {As : List Value} {S : Type} {wl : S → va_W} {S0 : S} {post : Int32 → S → Prop} {idx : Nat} {C : String} {o q0 ci : Nat} {fs : List Value} {q : u_T × Nat} (hC : CxOk Cx) (E : En p s m args c cc nL own) (hK : va_K D vwCl (tysG ty) s) (hA : ∀ q, s.heap.size ≤ q → A q) (hX : Cx A s) (I : gI s D A (wl S0) H locs) (hM : Ki l y b L rt rm D ty Cx (.ref o :: As) wl S0 post) (cw : va_CS R s args own idx y b L (some rt) (ws_ y b L (some rt)) rm rm.cells rm.slots As.length)
    (hf : cells + rm.cells ≤ R.cells ∧ slots + rm.slots ≤ R.slots) (hrec : (wl S0)[q0]? = some (o, .inr (ci, fs))) (hcl : vwCl[ci]? = some (C, q)) (hl : ls.size = nL) (hW : (rest.map fun v => v.category).sum ≤ 8) {st : List Value} (hst : st = As.reverse ++ .ref o :: rest) (hd : decode cc pc = .ok (.invokespecial idx, 3))
    (kk : ∀ (r : Int32) (S1 : S) (H1 : Heap) (locs1 : List Loc), post r S1 → gI s D A (wl S1) H1 locs1 → W p l e R s m args below meth c H1 locs1 (cells + rm.cells) (slots + rm.slots) Q (F0 m (pc + 3) ls (.int r :: rest))) : W p l e R s m args below meth c H locs cells slots Q (F0 m pc ls st) :=
  va_calli (va_runSU (As := As) (rest := rest) (b := o) (hK.1 ci _ hcl).2 E (hM H.size) cw ⟨KP.blind hC, va_recv hK I.1 hcl hrec, KP.pre hC hK hA hX I⟩ rfl rfl hl hst (lv_room hW) hd hf) I.2.2 (fun q _ h => I.sub hA q h) (I.sub hA) (fun r S1 t H1 locs1 ht hvm hp hB hz hk hS => kk r S1 H1 locs1 hp (I.back hA ht hB hS))
theorem lw_U {idx : Nat} {C owner : String} {x y : MethodName} {b : ByteArray} {L : Nat} {r : Option FieldType} (h1 : Cond.methodLink own idx x ∈ lw_all) (h2 : Cond.sameMethod x.cls owner x.name x.desc ∈ lw_all) (h3 : Cond.selects C x y ∈ lw_all) (h4 : Cond.instanceMethod y ∈ lw_all) (h5 : Cond.initialized y.cls ∈ lw_all) (h6 : Cond.code y b L r ∈ lw_all) : GoodIn lw_all (va_wsU own idx C owner x y (ws_ y b L r)) := by
  refine lw_app ?_ (lw_meth h6)
  intro w hw
  simp only [List.mem_cons, List.not_mem_nil, or_false] at hw
  rcases hw with e | e | e | e | e
  · rw [e]; exact h1
  · rw [e]; exact h2
  · rw [e]; exact h3
  · rw [e]; exact h4
  · rw [e]; exact h5
theorem lw_O {idx : Nat} {C owner : String} {x y : MethodName} {b : ByteArray} {L : Nat} {r : Option FieldType} (h1 : Cond.methodLink own idx x ∈ lw_all) (h2 : Cond.sameMethod x.cls owner x.name x.desc ∈ lw_all) (h0 : Cond.instanceMethod ⟨owner, x.name, x.desc⟩ ∈ lw_all) (h3 : Cond.selects C x y ∈ lw_all) (h4 : Cond.instanceMethod y ∈ lw_all) (h5 : Cond.initialized y.cls ∈ lw_all) (h6 : Cond.code y b L r ∈ lw_all) : GoodIn lw_all (va_wsO own idx C owner x y (ws_ y b L r)) := by
  refine lw_app ?_ (lw_meth h6)
  intro w hw
  simp only [List.mem_cons, List.not_mem_nil, or_false] at hw
  rcases hw with e | e | e | e | e | e
  · rw [e]; exact h1
  · rw [e]; exact h2
  · rw [e]; exact h0
  · rw [e]; exact h3
  · rw [e]; exact h4
  · rw [e]; exact h5
theorem lw_SU {idx : Nat} {y : MethodName} {b : ByteArray} {L : Nat} {r : Option FieldType} (h1 : Cond.methodLink own idx y ∈ lw_all) (h2 : Cond.sameMethod y.cls y.cls y.name y.desc ∈ lw_all) (h3 : Cond.superclass own y.cls ∈ lw_all) (h4 : Cond.instanceMethod y ∈ lw_all) (h5 : Cond.initialized y.cls ∈ lw_all) (h6 : Cond.code y b L r ∈ lw_all) : GoodIn lw_all (va_wsSU own idx y (ws_ y b L r)) := by
  refine lw_app ?_ (lw_meth h6)
  intro w hw
  simp only [List.mem_cons, List.not_mem_nil, or_false] at hw
  rcases hw with e | e | e | e | e
  · rw [e]; exact h1
  · rw [e]; exact h2
  · rw [e]; exact h3
  · rw [e]; exact h4
  · rw [e]; exact h5
variable {o : Nat} {ad : Nat → Nat} {em : Nat} {g : GS} {ex : va_W} {σ : Sg} {i : Nat}
theorem gkd (hg : gOk g) (hi : i < g.1) : g.2.2.2.2.1 i = 0 ∨ g.2.2.2.2.1 i = 1 ∨ g.2.2.2.2.1 i = 2 := by
  have := hg.2.1 i hi
  omega
/-- a field of a guest -/
theorem gf_get (E : En p s m args c cc nL own) (hK : va_K D vwCl (tysG ty) s) (I : gI s D A (gW ty o ad em g ex σ) H locs) (hg : gOk g) (hi : i < g.1) (k : Nat) (hk : k < 7) {index : Nat} (hq : Cond.fieldLink own index "CafeTables$Guest" (TX4 k).2.1 (TX4 k).2.2.1 ∈ lw_all) {v : Value} (hv : (gfl o g.2.2.2.2.2 i 0)[k]? = some v) (hd : decode cc pc = .ok (.getfield index, 3))
    (kk : W p l e R s m args below meth c H locs cells slots Q (F0 m (pc + 3) ls (v :: rest))) : W p l e R s m args below meth c H locs cells slots Q (F0 m pc ls (.ref (g.2.2.2.1 i) :: rest)) := by
  have he := gW_g (ty := ty) (o := o) (ad := ad) (em := em) (ex := ex) (σ := σ) hi
  rcases gkd hg hi with h | h | h
  · rw [h] at he
    match k, hk with
    | 0, _ => exact va_get (D := D) (C := RX4) (T := TX4) (N := 7) E.1 E.2.1 E.2.2.2.2 in_X4 E.2.2.2.1 hK I.1 (14 + (1 + i)) he rfl 0 (by decide) (E.2.2.2.2 _ hq) (fun _ h => h) hv hd kk
    | 1, _ => exact va_get (D := D) (C := RX4) (T := TX4) (N := 7) E.1 E.2.1 E.2.2.2.2 in_X4 E.2.2.2.1 hK I.1 (14 + (1 + i)) he rfl 1 (by decide) (E.2.2.2.2 _ hq) (fun _ h => h) hv hd kk
    | 2, _ => exact va_get (D := D) (C := RX4) (T := TX4) (N := 7) E.1 E.2.1 E.2.2.2.2 in_X4 E.2.2.2.1 hK I.1 (14 + (1 + i)) he rfl 2 (by decide) (E.2.2.2.2 _ hq) (fun _ h => h) hv hd kk
    | 3, _ => exact va_get (D := D) (C := RX4) (T := TX4) (N := 7) E.1 E.2.1 E.2.2.2.2 in_X4 E.2.2.2.1 hK I.1 (14 + (1 + i)) he rfl 3 (by decide) (E.2.2.2.2 _ hq) (fun _ h => h) hv hd kk
    | 4, _ => exact va_get (D := D) (C := RX4) (T := TX4) (N := 7) E.1 E.2.1 E.2.2.2.2 in_X4 E.2.2.2.1 hK I.1 (14 + (1 + i)) he rfl 4 (by decide) (E.2.2.2.2 _ hq) (fun _ h => h) hv hd kk
    | 5, _ => exact va_get (D := D) (C := RX4) (T := TX4) (N := 7) E.1 E.2.1 E.2.2.2.2 in_X4 E.2.2.2.1 hK I.1 (14 + (1 + i)) he rfl 5 (by decide) (E.2.2.2.2 _ hq) (fun _ h => h) hv hd kk
    | 6, _ => exact va_get (D := D) (C := RX4) (T := TX4) (N := 7) E.1 E.2.1 E.2.2.2.2 in_X4 E.2.2.2.1 hK I.1 (14 + (1 + i)) he rfl 6 (by decide) (E.2.2.2.2 _ hq) (fun _ h => h) hv hd kk
  · rw [h] at he
    match k, hk with
    | 0, _ => exact va_get (D := D) (C := RX5) (T := TX5) (N := 8) E.1 E.2.1 E.2.2.2.2 in_X5 E.2.2.2.1 hK I.1 (14 + (1 + i)) he rfl 0 (by decide) (E.2.2.2.2 _ hq) (fun _ h => h) hv hd kk
    | 1, _ => exact va_get (D := D) (C := RX5) (T := TX5) (N := 8) E.1 E.2.1 E.2.2.2.2 in_X5 E.2.2.2.1 hK I.1 (14 + (1 + i)) he rfl 1 (by decide) (E.2.2.2.2 _ hq) (fun _ h => h) hv hd kk
    | 2, _ => exact va_get (D := D) (C := RX5) (T := TX5) (N := 8) E.1 E.2.1 E.2.2.2.2 in_X5 E.2.2.2.1 hK I.1 (14 + (1 + i)) he rfl 2 (by decide) (E.2.2.2.2 _ hq) (fun _ h => h) hv hd kk
    | 3, _ => exact va_get (D := D) (C := RX5) (T := TX5) (N := 8) E.1 E.2.1 E.2.2.2.2 in_X5 E.2.2.2.1 hK I.1 (14 + (1 + i)) he rfl 3 (by decide) (E.2.2.2.2 _ hq) (fun _ h => h) hv hd kk
    | 4, _ => exact va_get (D := D) (C := RX5) (T := TX5) (N := 8) E.1 E.2.1 E.2.2.2.2 in_X5 E.2.2.2.1 hK I.1 (14 + (1 + i)) he rfl 4 (by decide) (E.2.2.2.2 _ hq) (fun _ h => h) hv hd kk
    | 5, _ => exact va_get (D := D) (C := RX5) (T := TX5) (N := 8) E.1 E.2.1 E.2.2.2.2 in_X5 E.2.2.2.1 hK I.1 (14 + (1 + i)) he rfl 5 (by decide) (E.2.2.2.2 _ hq) (fun _ h => h) hv hd kk
    | 6, _ => exact va_get (D := D) (C := RX5) (T := TX5) (N := 8) E.1 E.2.1 E.2.2.2.2 in_X5 E.2.2.2.1 hK I.1 (14 + (1 + i)) he rfl 6 (by decide) (E.2.2.2.2 _ hq) (fun _ h => h) hv hd kk
  · rw [h] at he
    match k, hk with
    | 0, _ => exact va_get (D := D) (C := RX6) (T := TX6) (N := 9) E.1 E.2.1 E.2.2.2.2 in_X6 E.2.2.2.1 hK I.1 (14 + (1 + i)) he rfl 0 (by decide) (E.2.2.2.2 _ hq) (fun _ h => h) hv hd kk
    | 1, _ => exact va_get (D := D) (C := RX6) (T := TX6) (N := 9) E.1 E.2.1 E.2.2.2.2 in_X6 E.2.2.2.1 hK I.1 (14 + (1 + i)) he rfl 1 (by decide) (E.2.2.2.2 _ hq) (fun _ h => h) hv hd kk
    | 2, _ => exact va_get (D := D) (C := RX6) (T := TX6) (N := 9) E.1 E.2.1 E.2.2.2.2 in_X6 E.2.2.2.1 hK I.1 (14 + (1 + i)) he rfl 2 (by decide) (E.2.2.2.2 _ hq) (fun _ h => h) hv hd kk
    | 3, _ => exact va_get (D := D) (C := RX6) (T := TX6) (N := 9) E.1 E.2.1 E.2.2.2.2 in_X6 E.2.2.2.1 hK I.1 (14 + (1 + i)) he rfl 3 (by decide) (E.2.2.2.2 _ hq) (fun _ h => h) hv hd kk
    | 4, _ => exact va_get (D := D) (C := RX6) (T := TX6) (N := 9) E.1 E.2.1 E.2.2.2.2 in_X6 E.2.2.2.1 hK I.1 (14 + (1 + i)) he rfl 4 (by decide) (E.2.2.2.2 _ hq) (fun _ h => h) hv hd kk
    | 5, _ => exact va_get (D := D) (C := RX6) (T := TX6) (N := 9) E.1 E.2.1 E.2.2.2.2 in_X6 E.2.2.2.1 hK I.1 (14 + (1 + i)) he rfl 5 (by decide) (E.2.2.2.2 _ hq) (fun _ h => h) hv hd kk
    | 6, _ => exact va_get (D := D) (C := RX6) (T := TX6) (N := 9) E.1 E.2.1 E.2.2.2.2 in_X6 E.2.2.2.1 hK I.1 (14 + (1 + i)) he rfl 6 (by decide) (E.2.2.2.2 _ hq) (fun _ h => h) hv hd kk
/-- (Guest) x -/
theorem g_cast {Cy : (Nat → Prop) → State → Prop} (E : En p s m args c cc nL own) (hK : va_K D vwCl (tysG ty) s) (hX : CxX em Cy A s) (I : gI s D A (gW ty o ad em g ex σ) H locs) (hg : gOk g) (hi : i < g.1) {index : Nat} (hq : Cond.classLink own index "CafeTables$Guest" ∈ lw_all) (hd : decode cc pc = .ok (.checkcast index, 3))
    (kk : W p l e R s m args below meth c H locs cells slots Q (F0 m (pc + 3) ls (.ref (g.2.2.2.1 i) :: rest))) : W p l e R s m args below meth c H locs cells slots Q (F0 m pc ls (.ref (g.2.2.2.1 i) :: rest)) := by
  have he := gW_g (ty := ty) (o := o) (ad := ad) (em := em) (ex := ex) (σ := σ) hi
  rcases gkd hg hi with h | h | h
  · rw [h] at he
    exact va_castS E.1 E.2.1 E.2.2.2.1 (E.2.2.2.2 _ hq) (hK.1 2 (RX4, TX4, 7) rfl).2 (va_recv hK I.1 (ci := 2) (q := (RX4, TX4, 7)) rfl he) hd kk
  · rw [h] at he
    exact va_castY (C := RX5) E.1 E.2.1 E.2.2.2.1 (E.2.2.2.2 _ hq) (hX.1 _ (cx_in q1545 rfl)) (va_recv hK I.1 (ci := 3) (q := (RX5, TX5, 8)) rfl he) hd kk
  · rw [h] at he
    exact va_castY (C := RX6) E.1 E.2.1 E.2.2.2.1 (E.2.2.2.2 _ hq) (hX.1 _ (cx_in q1544 rfl)) (va_recv hK I.1 (ci := 4) (q := (RX6, TX6, 9)) rfl he) hd kk
end GU
