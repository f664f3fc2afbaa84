/-! ROWS over the base: a method's start and end, fields, arrays, calls -/
set_option maxRecDepth 100000
section BR1
variable {p : Program} {l : Launch} {e : Env} {R : Room} {s : State} {m : MethodId} {args : Array Value} {below : List Frame} {meth : Method} {c : Code} {H : Heap} {locs : List Loc} {cells slots : Nat} {Q : State → Prop}
variable {cc : ByteArray} {pc nL : Nat} {ls : Array Slot} {rest : List Value} {D : va_G} {A : Nat → Prop} {ty : Nat → ClassId} {own : String} {Cx : (Nat → Prop) → State → Prop}
theorem Ki.of {y : MethodName} {rt : FieldType} {rm : Room} {as : List Value} {S : Type} {wl : S → va_W} {S0 : S} {post : Int32 → S → Prop} (hy : plainName y.cls = true) (hn : (lg_sl as).length ≤ nL)
    (h : ∀ (p : Program) (e : Env) (s : State) (m : MethodId) (below : List Frame) (meth : Method) (c : Code) (A : Nat → Prop) (ls : Array Slot) (args : Array Value), En p s m args c cc nL y.cls → va_K D vwCl (tysG ty) s → (∀ q, s.heap.size ≤ q → A q) → Cx A s → meth.locks = false → meth.sig.returnType = some rt → gI s D A (wl S0) s.heap [] → lv_has ls nL (lv_args 0 as) →
      W p l e rm s m args below meth c s.heap [] 0 0 (MQ below (va_Qi post (KB D A wl) A) args s rm.cells rm.slots A) (F0 m 0 ls [])) : Ki l y cc nL rt rm D ty Cx as wl S0 post := by
  intro sz
  refine Met.ofW (cc := cc) (maxL := nL) (ret := some rt) hy rfl ?_
  intro p e s m args below meth c s₁ B hml hv
  obtain ⟨rfl, rfl, hP, hK, hD0, hC⟩ := hv
  have hts := atoms_spec (ws := ws_ y cc nL (some rt)) B.pre
  have hts : ∀ w ∈ lw_all, w.before _ s = true := fun w h => hts w (List.mem_cons_of_mem _ h)
  rw [lg_entry_eq]
  exact h p e s m below meth c (va_A (wl S0) s.heap.size) _ _ ⟨B.exec, B.bytes, hml, findClass_of_methodNamed B.named, hts⟩ hK (fun q h => Or.inr h) hC B.notSynchronized B.returns ⟨hP, hD0.self, va_S.rf⟩ (lv_entry as hn)
theorem Kl.of {y : MethodName} {rm : Room} {as : List Value} {S : Type} {wl : S → va_W} {S0 : S} {post : Int64 → S → Prop} (hy : plainName y.cls = true) (hn : (lg_sl as).length ≤ nL)
    (h : ∀ (p : Program) (e : Env) (s : State) (m : MethodId) (below : List Frame) (meth : Method) (c : Code) (A : Nat → Prop) (ls : Array Slot) (args : Array Value), En p s m args c cc nL y.cls → va_K D vwCl (tysG ty) s → (∀ q, s.heap.size ≤ q → A q) → Cx A s → meth.locks = false → meth.sig.returnType = some .long → gI s D A (wl S0) s.heap [] → lv_has ls nL (lv_args 0 as) →
      W p l e rm s m args below meth c s.heap [] 0 0 (MQ below (va_Ql post (KB D A wl) A) args s rm.cells rm.slots A) (F0 m 0 ls [])) : Kl l y cc nL rm D ty Cx as wl S0 post := by
  intro sz
  refine Met.ofW (cc := cc) (maxL := nL) (ret := some .long) hy rfl ?_
  intro p e s m args below meth c s₁ B hml hv
  obtain ⟨rfl, rfl, hP, hK, hD0, hC⟩ := hv
  have hts := atoms_spec (ws := ws_ y cc nL (some .long)) B.pre
  have hts : ∀ w ∈ lw_all, w.before _ s = true := fun w h => hts w (List.mem_cons_of_mem _ h)
  rw [lg_entry_eq]
  exact h p e s m below meth c (va_A (wl S0) s.heap.size) _ _ ⟨B.exec, B.bytes, hml, findClass_of_methodNamed B.named, hts⟩ hK (fun q h => Or.inr h) hC B.notSynchronized B.returns ⟨hP, hD0.self, va_S.rf⟩ (lv_entry as hn)
theorem Kv.of {y : MethodName} {rm : Room} {as : List Value} {S : Type} {wl : S → va_W} {S0 : S} {post : S → Prop} (hy : plainName y.cls = true) (hn : (lg_sl as).length ≤ nL)
    (h : ∀ (p : Program) (e : Env) (s : State) (m : MethodId) (below : List Frame) (meth : Method) (c : Code) (A : Nat → Prop) (ls : Array Slot) (args : Array Value), En p s m args c cc nL y.cls → va_K D vwCl (tysG ty) s → (∀ q, s.heap.size ≤ q → A q) → Cx A s → meth.locks = false → meth.sig.returnType = none → (y.name = meth.name) → gI s D A (wl S0) s.heap [] → lv_has ls nL (lv_args 0 as) →
      W p l e rm s m args below meth c s.heap [] 0 0 (MQ below (va_Qv post (KB D A wl) A) args s rm.cells rm.slots A) (F0 m 0 ls [])) : Kv l y cc nL rm D ty Cx as wl S0 post := by
  intro sz
  refine Met.ofW (cc := cc) (maxL := nL) (ret := none) hy rfl ?_
  intro p e s m args below meth c s₁ B hml hv
  obtain ⟨rfl, rfl, hP, hK, hD0, hC⟩ := hv
  have hts := atoms_spec (ws := ws_ y cc nL none) B.pre
  have hts : ∀ w ∈ lw_all, w.before _ s = true := fun w h => hts w (List.mem_cons_of_mem _ h)
  rw [lg_entry_eq]
  exact h p e s m below meth c (va_A (wl S0) s.heap.size) _ _ ⟨B.exec, B.bytes, hml, findClass_of_methodNamed B.named, hts⟩ hK (fun q h => Or.inr h) hC B.notSynchronized B.returns (name_of_methodNamed B.named B.method).1.symm ⟨hP, hD0.self, va_S.rf⟩ (lv_entry as hn)
theorem Pi.of {y : MethodName} {rt : FieldType} {rm : Room} {as : List Value} {post : Int32 → Prop} (hy : plainName y.cls = true) (hn : (lg_sl as).length ≤ nL)
    (h : ∀ (p : Program) (e : Env) (s : State) (m : MethodId) (below : List Frame) (meth : Method) (c : Code) (ls : Array Slot) (args : Array Value), En p s m args c cc nL y.cls → meth.locks = false → meth.sig.returnType = some rt → lv_has ls nL (lv_args 0 as) →
      W p l e rm s m args below meth c s.heap [] 0 0 (MQ below (vp_Si post) args s 0 0 (fun _ => False)) (F0 m 0 ls [])) : Pi l y cc nL rt rm as post := by
  refine Met.ofW (cc := cc) (maxL := nL) (ret := some rt) hy rfl ?_
  intro p e s m args below meth c s₁ B hml hv
  obtain ⟨rfl, -⟩ := hv
  have hts := atoms_spec (ws := ws_ y cc nL (some rt)) B.pre
  have hts : ∀ w ∈ lw_all, w.before _ s = true := fun w h => hts w (List.mem_cons_of_mem _ h)
  rw [lg_entry_eq]
  exact h p e s m below meth c _ _ ⟨B.exec, B.bytes, hml, findClass_of_methodNamed B.named, hts⟩ B.notSynchronized B.returns (lv_entry as hn)
theorem Pl.of {y : MethodName} {rm : Room} {as : List Value} {post : Int64 → Prop} (hy : plainName y.cls = true) (hn : (lg_sl as).length ≤ nL)
    (h : ∀ (p : Program) (e : Env) (s : State) (m : MethodId) (below : List Frame) (meth : Method) (c : Code) (ls : Array Slot) (args : Array Value), En p s m args c cc nL y.cls → meth.locks = false → meth.sig.returnType = some .long → lv_has ls nL (lv_args 0 as) →
      W p l e rm s m args below meth c s.heap [] 0 0 (MQ below (vp_Sl post) args s 0 0 (fun _ => False)) (F0 m 0 ls [])) : Pl l y cc nL rm as post := by
  refine Met.ofW (cc := cc) (maxL := nL) (ret := some .long) hy rfl ?_
  intro p e s m args below meth c s₁ B hml hv
  obtain ⟨rfl, -⟩ := hv
  have hts := atoms_spec (ws := ws_ y cc nL (some .long)) B.pre
  have hts : ∀ w ∈ lw_all, w.before _ s = true := fun w h => hts w (List.mem_cons_of_mem _ h)
  rw [lg_entry_eq]
  exact h p e s m below meth c _ _ ⟨B.exec, B.bytes, hml, findClass_of_methodNamed B.named, hts⟩ B.notSynchronized B.returns (lv_entry as hn)
/-! ends -/
theorem r_i {S : Type} {wl : S → va_W} {S1 : S} {post : Int32 → S → Prop} {v : Int32} {k n : Nat} (E : En p s m args c cc nL own) (hlk : meth.locks = false) (hr : meth.sig.returnType = some .int) (I : gI s D A (wl S1) H locs) (h1 : cells ≤ k) (h2 : slots ≤ n) (hd : decode cc pc = .ok (.ireturn, 1)) (hp : post v S1) :
    W p l e R s m args below meth c H locs cells slots (MQ below (va_Qi post (KB D A wl) A) args s k n A) (F0 m pc ls [.int v]) :=
  W.widen h1 h2 (W.iret E.1 E.2.1 hr (fun t ht hW => ⟨⟨v, S1, rfl, hp, by rw [ht]; exact I.1, I.2.1⟩, I.2.2.F ht⟩) I.2.2.2.2 hd hlk)
theorem r_z {S : Type} {wl : S → va_W} {S1 : S} {post : Int32 → S → Prop} {v : Int32} {b : Bool} {k n : Nat} (E : En p s m args c cc nL own) (hlk : meth.locks = false) (hr : meth.sig.returnType = some .boolean) (I : gI s D A (wl S1) H locs) (h1 : cells ≤ k) (h2 : slots ≤ n) (hd : decode cc pc = .ok (.ireturn, 1)) (hv : v = bI b) (hp : post (bI b) S1) :
    W p l e R s m args below meth c H locs cells slots (MQ below (va_Qi post (KB D A wl) A) args s k n A) (F0 m pc ls [.int v]) := by
  subst hv
  exact W.widen h1 h2 (W.zret E.1 E.2.1 hr (bI_nar b) (fun t ht hW => ⟨⟨bI b, S1, rfl, hp, by rw [ht]; exact I.1, I.2.1⟩, I.2.2.F ht⟩) I.2.2.2.2 hd hlk)
theorem r_l {S : Type} {wl : S → va_W} {S1 : S} {post : Int64 → S → Prop} {v : Int64} {k n : Nat} (E : En p s m args c cc nL own) (hlk : meth.locks = false) (hr : meth.sig.returnType = some .long) (I : gI s D A (wl S1) H locs) (h1 : cells ≤ k) (h2 : slots ≤ n) (hd : decode cc pc = .ok (.lreturn, 1)) (hp : post v S1) :
    W p l e R s m args below meth c H locs cells slots (MQ below (va_Ql post (KB D A wl) A) args s k n A) (F0 m pc ls [.long v]) :=
  W.widen h1 h2 (W.lret E.1 E.2.1 hr (fun t ht hW => ⟨⟨v, S1, rfl, hp, by rw [ht]; exact I.1, I.2.1⟩, I.2.2.F ht⟩) I.2.2.2.2 hd hlk)
theorem r_v {S : Type} {wl : S → va_W} {S1 : S} {post : S → Prop} {k n : Nat} (E : En p s m args c cc nL own) (hlk : meth.locks = false) (hr : meth.sig.returnType = none) (I : gI s D A (wl S1) H locs) (h1 : cells ≤ k) (h2 : slots ≤ n) (hd : decode cc pc = .ok (.return_, 1)) (hp : post S1) :
    W p l e R s m args below meth c H locs cells slots (MQ below (va_Qv post (KB D A wl) A) args s k n A) (F0 m pc ls []) :=
  W.widen h1 h2 (W.vret E.1 E.2.1 hr (fun t ht hW => ⟨⟨S1, rfl, hp, by rw [ht]; exact I.1, I.2.1⟩, I.2.2.F ht⟩) I.2.2.2.2 hd hlk)
theorem s_i {post : Int32 → Prop} {v : Int32} (E : En p s m args c cc nL own) (hlk : meth.locks = false) (hr : meth.sig.returnType = some .int) (hd : decode cc pc = .ok (.ireturn, 1)) (hp : post v) :
    W p l e R s m args below meth c s.heap [] 0 0 (MQ below (vp_Si post) args s 0 0 (fun _ => False)) (F0 m pc ls [.int v]) :=
  W.iret E.1 E.2.1 hr (fun t ht hW => ⟨v, rfl, hp, ht⟩) (fun _ h => by cases h) hd hlk
theorem s_z {post : Int32 → Prop} {v : Int32} {b : Bool} (E : En p s m args c cc nL own) (hlk : meth.locks = false) (hr : meth.sig.returnType = some .boolean) (hd : decode cc pc = .ok (.ireturn, 1)) (hv : v = bI b) (hp : post (bI b)) :
    W p l e R s m args below meth c s.heap [] 0 0 (MQ below (vp_Si post) args s 0 0 (fun _ => False)) (F0 m pc ls [.int v]) := by
  subst hv
  exact W.zret E.1 E.2.1 hr (bI_nar b) (fun t ht hW => ⟨bI b, rfl, hp, ht⟩) (fun _ h => by cases h) hd hlk
theorem s_l {post : Int64 → Prop} {v : Int64} (E : En p s m args c cc nL own) (hlk : meth.locks = false) (hr : meth.sig.returnType = some .long) (hd : decode cc pc = .ok (.lreturn, 1)) (hp : post v) :
    W p l e R s m args below meth c s.heap [] 0 0 (MQ below (vp_Sl post) args s 0 0 (fun _ => False)) (F0 m pc ls [.long v]) :=
  W.lret E.1 E.2.1 hr (fun t ht hW => ⟨v, rfl, hp, ht⟩) (fun _ h => by cases h) hd hlk
/-! fields and arrays of the world's object -/
variable {Y : Lay} {o : Nat} {ad : Nat → Nat} {σ : Sg} {ex : va_W}
theorem g_get (E : En p s m args c cc nL own) (hK : va_K D vwCl (tysG ty) s) (I : gI s D A (gw Y ty o ad σ ex) H locs) {C : String} {T : u_T} (hc : vwCl[Y.1]? = some (C, T, Y.2.1)) (hin : ∀ w ∈ u_ws C T Y.2.1, w ∈ lw_all) (k : Nat) (hk : k < Y.2.1) {index : Nat} (hq : Cond.fieldLink own index (T k).1 (T k).2.1 (T k).2.2.1 ∈ lw_all) {v : Value} (hv : (if Y.2.2.1 k then Value.int (σ k 0) else .ref (ad k)) = v) (hd : decode cc pc = .ok (.getfield index, 3))
    (kk : W p l e R s m args below meth c H locs cells slots Q (F0 m (pc + 3) ls (v :: rest))) : W p l e R s m args below meth c H locs cells slots Q (F0 m pc ls (.ref o :: rest)) :=
  va_get (D := D) E.1 E.2.1 E.2.2.2.2 hin E.2.2.2.1 hK I.1 0 rfl hc k hk (E.2.2.2.2 _ hq) (fun _ h => h) ((gfs_at hk).trans (congrArg some hv)) hd kk
theorem g_put (E : En p s m args c cc nL own) (hK : va_K D vwCl (tysG ty) s) (hY : gOK Y = true) (I : gI s D A (gw Y ty o ad σ ex) H locs) {C : String} {T : u_T} (hc : vwCl[Y.1]? = some (C, T, Y.2.1)) (hin : ∀ w ∈ u_ws C T Y.2.1, w ∈ lw_all) (ty0 : Nat → FieldType) (hty : ∀ k, k < Y.2.1 → parseFieldDescriptor (T k).2.2.1 = some (ty0 k)) (hnm : ∀ a, a < Y.2.1 → ∀ b, b < Y.2.1 → a ≠ b → (T a).2.1 ≠ (T b).2.1) (k : Nat) (hk : k < Y.2.1) (hs : Y.2.2.1 k = true) {index : Nat} (hq : Cond.fieldLink own index (T k).1 (T k).2.1 (T k).2.2.1 ∈ lw_all) {v : Int32} (hfin : (T k).2.2.2 = false) {t : FieldType} (hd0 : parseFieldDescriptor (T k).2.2.1 = some t) (hn : narrow t (.int v) = .int v) (hfit : fits t (.int v) = true) (hd : decode cc pc = .ok (.putfield index, 3))
    (kk : ∀ (H1 : Heap) (locs1 : List Loc), gI s D A (gw Y ty o ad (up σ k 0 v) ex) H1 locs1 → W p l e R s m args below meth c H1 locs1 cells slots Q (F0 m (pc + 3) ls rest)) : W p l e R s m args below meth c H locs cells slots Q (F0 m pc ls (.int v :: .ref o :: rest)) := by
  refine va_put (D := D) E.1 E.2.1 E.2.2.2.2 hin ty0 hty hnm E.2.2.2.1 hK I.1 I.2.1 I.2.2 0 rfl hc k hk (E.2.2.2.2 _ hq) (fun _ h => h) hfin hd0 hn hfit (by rw [gfs_len]; exact hk) hd (fun H1 locs1 h1 h2 h3 => ?_)
  rw [gw_setS hY hk hs] at h1 h2
  exact kk H1 locs1 ⟨h1, h2, h3⟩
theorem g_ald (E : En p s m args c cc nL own) (hK : va_K D vwCl (tysG ty) s) (I : gI s D A (gw Y ty o ad σ ex) H locs) {p0 k i : Nat} (hp : Y.2.2.2.1[p0]? = some k) (hz : Y.2.2.2.2.2 k = false) (hi : i < Y.2.2.2.2.1 k) (hb : Y.2.2.2.2.1 k < 2 ^ 31) (hd : decode cc pc = .ok (.iaload, 1))
    (kk : W p l e R s m args below meth c H locs cells slots Q (F0 m (pc + 1) ls (.int (σ k i) :: rest))) : W p l e R s m args below meth c H locs cells slots Q (F0 m pc ls (.int (nI i) :: .ref (ad k) :: rest)) := by
  have ha := gar_at (Y := Y) (ty := ty) (o := o) (ad := ad) (σ := σ) (ex := ex) hp
  rw [hz] at ha
  refine va_iald (D := D) E.1 E.2.1 hK I.1 (p0 + 1) 0 ha rfl (vp_in_nI hi hb) hd ?_
  rw [nI_clamp (by omega)]
  exact kk
theorem g_zld (E : En p s m args c cc nL own) (hK : va_K D vwCl (tysG ty) s) (I : gI s D A (gw Y ty o ad σ ex) H locs) {p0 k i : Nat} (hp : Y.2.2.2.1[p0]? = some k) (hz : Y.2.2.2.2.2 k = true) (hi : i < Y.2.2.2.2.1 k) (hb : Y.2.2.2.2.1 k < 2 ^ 31) (hd : decode cc pc = .ok (.baload, 1))
    (kk : W p l e R s m args below meth c H locs cells slots Q (F0 m (pc + 1) ls (.int (σ k i) :: rest))) : W p l e R s m args below meth c H locs cells slots Q (F0 m pc ls (.int (nI i) :: .ref (ad k) :: rest)) := by
  have ha := gar_at (Y := Y) (ty := ty) (o := o) (ad := ad) (σ := σ) (ex := ex) hp
  rw [hz] at ha
  refine va_zald (D := D) E.1 E.2.1 hK I.1 (p0 + 1) 1 ha rfl (vp_in_nI hi hb) hd ?_
  rw [nI_clamp (by omega)]
  exact kk
theorem g_ast (E : En p s m args c cc nL own) (hK : va_K D vwCl (tysG ty) s) (hY : gOK Y = true) (I : gI s D A (gw Y ty o ad σ ex) H locs) {p0 k i : Nat} {v : Int32} (hp : Y.2.2.2.1[p0]? = some k) (hz : Y.2.2.2.2.2 k = false) (hi : i < Y.2.2.2.2.1 k) (hb : Y.2.2.2.2.1 k < 2 ^ 31) (hd : decode cc pc = .ok (.iastore, 1))
    (kk : ∀ (H1 : Heap) (locs1 : List Loc), gI s D A (gw Y ty o ad (up σ k i v) ex) H1 locs1 → W p l e R s m args below meth c H1 locs1 cells slots Q (F0 m (pc + 1) ls rest)) : W p l e R s m args below meth c H locs cells slots Q (F0 m pc ls (.int v :: .int (nI i) :: .ref (ad k) :: rest)) := by
  have ha := gar_at (Y := Y) (ty := ty) (o := o) (ad := ad) (σ := σ) (ex := ex) hp
  have hset := gw_setA hY (ty := ty) (o := o) (ad := ad) (σ := σ) (ex := ex) hp i v
  rw [hz] at ha hset
  refine va_iast (D := D) E.1 E.2.1 hK I.1 I.2.1 I.2.2 (p0 + 1) 0 ha rfl (vp_in_nI hi hb) hd (fun H1 locs1 h1 h2 h3 => ?_)
  rw [nI_clamp (by omega)] at h1 h2
  rw [show (if false = true then 1 else 0 : Nat) = 0 from rfl] at hset
  exact kk H1 locs1 ⟨hset ▸ h1, hset ▸ h2, h3⟩
theorem g_zst (E : En p s m args c cc nL own) (hK : va_K D vwCl (tysG ty) s) (hY : gOK Y = true) (I : gI s D A (gw Y ty o ad σ ex) H locs) {p0 k i : Nat} {v : Int32} (hp : Y.2.2.2.1[p0]? = some k) (hz : Y.2.2.2.2.2 k = true) (hi : i < Y.2.2.2.2.1 k) (hb : Y.2.2.2.2.1 k < 2 ^ 31) (hv : vp_nar .boolean v = v) (hd : decode cc pc = .ok (.bastore, 1))
    (kk : ∀ (H1 : Heap) (locs1 : List Loc), gI s D A (gw Y ty o ad (up σ k i v) ex) H1 locs1 → W p l e R s m args below meth c H1 locs1 cells slots Q (F0 m (pc + 1) ls rest)) : W p l e R s m args below meth c H locs cells slots Q (F0 m pc ls (.int v :: .int (nI i) :: .ref (ad k) :: rest)) := by
  have ha := gar_at (Y := Y) (ty := ty) (o := o) (ad := ad) (σ := σ) (ex := ex) hp
  have hset := gw_setA hY (ty := ty) (o := o) (ad := ad) (σ := σ) (ex := ex) hp i v
  rw [hz] at ha hset
  refine va_zast (D := D) E.1 E.2.1 hK I.1 I.2.1 I.2.2 (p0 + 1) 1 ha rfl (vp_in_nI hi hb) hd (fun H1 locs1 h1 h2 h3 => ?_)
  rw [nI_clamp (by omega), hv] at h1 h2
  rw [show (if true = true then 1 else 0 : Nat) = 1 from rfl] at hset
  exact kk H1 locs1 ⟨hset ▸ h1, hset ▸ h2, h3⟩
/-! branches on a boolean; another name for the top of the stack -/
theorem b_eq (hexec : p.tables.exec = Jvm.exec) (hb : c.code = cc) {b : Bool} {off : Int} {tgt : Nat} (hdg : decode cc pc = .ok (.ifCond .eq off, 3)) (ht : (pc : Int) + off = (tgt : Int))
    (kt : b = false → W p l e R s m args below meth c H locs cells slots Q (F0 m tgt ls rest)) (kf : b = true → W p l e R s m args below meth c H locs cells slots Q (F0 m (pc + 3) ls rest)) : W p l e R s m args below meth c H locs cells slots Q (F0 m pc ls (.int (bI b) :: rest)) :=
  lv_if_eq hexec hb hdg ht (fun h => kt (bI_eq0.mp h)) (fun h => kf (by cases b with | true => rfl | false => exact absurd rfl h))
theorem b_ne (hexec : p.tables.exec = Jvm.exec) (hb : c.code = cc) {b : Bool} {off : Int} {tgt : Nat} (hdg : decode cc pc = .ok (.ifCond .ne off, 3)) (ht : (pc : Int) + off = (tgt : Int))
    (kt : b = true → W p l e R s m args below meth c H locs cells slots Q (F0 m tgt ls rest)) (kf : b = false → W p l e R s m args below meth c H locs cells slots Q (F0 m (pc + 3) ls rest)) : W p l e R s m args below meth c H locs cells slots Q (F0 m pc ls (.int (bI b) :: rest)) :=
  lv_if_ne hexec hb hdg ht (fun h => kt (by cases b with | true => rfl | false => exact absurd rfl h)) (fun h => kf (bI_eq0.mp h))
theorem top_i {x y : Int32} (h : x = y) (k : W p l e R s m args below meth c H locs cells slots Q (F0 m pc ls (.int y :: rest))) : W p l e R s m args below meth c H locs cells slots Q (F0 m pc ls (.int x :: rest)) := by
  subst h; exact k
theorem top_l {x y : Int64} (h : x = y) (k : W p l e R s m args below meth c H locs cells slots Q (F0 m pc ls (.long y :: rest))) : W p l e R s m args below meth c H locs cells slots Q (F0 m pc ls (.long x :: rest)) := by
  subst h; exact k
theorem top_2 {x y : Int32} {v : Value} (h : x = y) (k : W p l e R s m args below meth c H locs cells slots Q (F0 m pc ls (v :: .int y :: rest))) : W p l e R s m args below meth c H locs cells slots Q (F0 m pc ls (v :: .int x :: rest)) := by
  subst h; exact k
theorem nameQ {g : JFrame} {Q0 : State → Prop} (k : ∀ Q : State → Prop, Q = Q0 → W p l e R s m args below meth c H locs cells slots Q g) : W p l e R s m args below meth c H locs cells slots Q0 g := k Q0 rfl
end BR1
