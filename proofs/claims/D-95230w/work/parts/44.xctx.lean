/-! The class's context: what it leans on beside its own cells -/
set_option maxRecDepth 100000
set_option maxHeartbeats 4000000
def nwKind : Cond → Bool
  | .castable _ _ => true
  | .fieldLinkNest _ _ _ _ _ _ => true
  | .methodLinkNest _ _ _ _ => true
  | .declares _ => true
  | _ => false
theorem nw_warm {w : Cond} (h : nwKind w = true) {s U : State} (hW : s.WarmedH U.vm) (hZ : va_Nw w s) : va_Nw w U := by
  cases w <;> first | exact va_Nw.warmC hW hZ | exact va_Nw.warmF hW hZ | exact va_Nw.warmM hW hZ | exact va_Nw.warmD hW hZ | cases h
theorem nw_same {w : Cond} (h : nwKind w = true) {u U : State} (hv : u.vm = U.vm) (hZ : va_Nw w u) : va_Nw w U := by
  cases w <;> first | cases h; done | exact va_Nw.same rfl hv hZ
def cxW : List Cond := lw_tbl.filter nwKind
theorem cx_in {w : Cond} (h : w ∈ lw_tbl) (g : nwKind w = true) : w ∈ cxW := List.mem_filter.mpr ⟨h, g⟩
def yL_size : MethodName := ⟨"java/util/List", "size", "()I"⟩
def yL_get : MethodName := ⟨"java/util/List", "get", "(I)Ljava/lang/Object;"⟩
def yL_add : MethodName := ⟨"java/util/List", "add", "(Ljava/lang/Object;)Z"⟩
def yL_clear : MethodName := ⟨"java/util/List", "clear", "()V"⟩
def yS_served : MethodName := ⟨"CafeTables$Served", "served", "()I"⟩
def yS_tracedBy : MethodName := ⟨"CafeTables$Served", "tracedBy", "(I)I"⟩
def yS_number : MethodName := ⟨"CafeTables$Served", "number", "()I"⟩
def cxF : List (String × MethodName × MethodName) := [(RJ2, yL_size, yJ2_size), (RJ2, yL_get, yJ2_get), (RJ2, yL_add, yJ2_add), (RJ2, yL_clear, yJ2_clear),
  (RX4, yS_tracedBy, yX4_tracedBy), (RX5, yS_tracedBy, yX4_tracedBy), (RX6, yS_tracedBy, yX4_tracedBy), (RX4, yS_number, yX4_number), (RX5, yS_number, yX4_number), (RX6, yS_number, yX4_number), (RX4, yS_served, yS_served), (RX5, yS_served, yS_served), (RX6, yS_served, yX6_served)]
theorem cxF_ok : ∀ q ∈ cxF, q.2.1.cls ≠ "java/lang/invoke/MethodHandle" ∧ q.2.1.cls ≠ "java/lang/invoke/VarHandle" := by decide +kernel
def CxX (em : Nat) (Cy : (Nat → Prop) → State → Prop) : (Nat → Prop) → State → Prop := fun A U =>
  (∀ w ∈ cxW, va_Nw w U) ∧ (∀ q ∈ cxF, va_Fw q.1 q.2.1 q.2.2 U) ∧ va_Z "java/util/ArrayList" "DEFAULTCAPACITY_EMPTY_ELEMENTDATA" "[Ljava/lang/Object;" (.ref em) A U U.heap ∧ va_T (.object "java/lang/Object") em 0 (fun _ => .null) A U U.heap ∧ va_AO "java/lang/Object" U ∧ va_AO "CafeTables$Sheet" U ∧ Cy A U
theorem CxX.ok {em : Nat} {Cy : (Nat → Prop) → State → Prop} (hy : CxOk Cy) : CxOk (CxX em Cy) := by
  refine ⟨fun A u U hv hh h => ?_, fun A A1 s U h hW hz hk hAA => ?_⟩
  · obtain ⟨h1, h2, h3, h4, h5, h6, h7⟩ := h
    have hal : u.vm.Alike U.vm := by rw [hv]; exact Vm.Alike.refl _
    refine ⟨fun w hw => nw_same (List.mem_filter.mp hw).2 hv (h1 w hw), fun q hq => va_Fw.moved (cxF_ok q hq) hal (h2 q hq), ?_, ?_, va_AO.moved hal h5, va_AO.moved hal h6, hy.1 A u U hv hh h7⟩
    · rw [← hh]; exact va_Z.moved hal h3
    · rw [← hh]; exact va_T.moved hal h4
  · obtain ⟨h1, h2, h3, h4, h5, h6, h7⟩ := h
    have hal : s.vm.Alike U.vm := hW.alike
    exact ⟨fun w hw => nw_warm (List.mem_filter.mp hw).2 hW (h1 w hw), fun q hq => va_Fw.moved (cxF_ok q hq) hal (h2 q hq), (va_Z.moved hal (h3.kept hk)).narrow hAA, (va_T.moved hal (h4.kept hk)).narrow hAA, va_AO.moved hal h5, va_AO.moved hal h6, hy.2 A A1 s U h7 hW hz hk hAA⟩
/-! the guests: the list (at lo), its array, the guests' own cells -/
def gfl (o : Nat) (γ : Sg) (i k : Nat) : List Value := [.int (nI i), .int (γ 1 i), .int (γ 2 i), .int (γ 3 i), .int (γ 4 i), .int (γ 5 i), .ref o] ++ List.replicate k (.ref o)
/-- how many, modCount, the list's array (none: the empty one that is shared), the guests' addresses, kinds, numbers -/
abbrev GS : Type := Nat × Int32 × Option Nat × (Nat → Nat) × (Nat → Nat) × Sg
def gRow (g : GS) : Nat → Option Nat := fun i => if i < g.1 then some (g.2.2.2.1 i) else none
def gE1 (ty : Nat → ClassId) (g : GS) : va_W := match g.2.2.1 with
  | none => []
  | some a => [(a, .inl (ty 4, 10, .inr (.inr (.inr (.inr (gRow g))))))]
def gE2 (o : Nat) (g : GS) : va_W := (List.range g.1).map (fun i => (g.2.2.2.1 i, .inr (2 + g.2.2.2.2.1 i, gfl o g.2.2.2.2.2 i (g.2.2.2.2.1 i))))
def gE (ty : Nat → ClassId) (o lo em : Nat) (g : GS) (ex : va_W) : va_W := (lo, .inr (9, [.int g.2.1, .ref (g.2.2.1.getD em), .int (nI g.1)])) :: (gE2 o g ++ (gE1 ty g ++ ex))
def gOk (g : GS) : Prop := g.1 ≤ 8 ∧ (∀ i, i < g.1 → g.2.2.2.2.1 i ≤ 2) ∧ (g.2.2.1 = none → g.1 = 0)
theorem gw_ex (Y : Lay) (ty : Nat → ClassId) (o : Nat) (ad : Nat → Nat) (σ : Sg) (ex : va_W) (j : Nat) : (gw Y ty o ad σ ex)[Y.2.2.2.1.length + 1 + j]? = ex[j]? := by
  unfold gw
  rw [show Y.2.2.2.1.length + 1 + j = (Y.2.2.2.1.length + j) + 1 by omega, List.getElem?_cons_succ]
  have : (gar Y ty ad σ).length = Y.2.2.2.1.length := by simp [gar]
  rw [List.getElem?_append_right (by omega), this]
  congr 1; omega
theorem xW_ex (ty : Nat → ClassId) (o : Nat) (ad : Nat → Nat) (σ : Sg) (ex : va_W) (j : Nat) : (xW ty o ad ex σ)[14 + j]? = ex[j]? := gw_ex LX ty o ad σ ex j
theorem gE_0 {ty : Nat → ClassId} {o lo em : Nat} {g : GS} {ex : va_W} : (gE ty o lo em g ex)[0]? = some (lo, .inr (9, [.int g.2.1, .ref (g.2.2.1.getD em), .int (nI g.1)])) := rfl
theorem gE_g {ty : Nat → ClassId} {o lo em : Nat} {g : GS} {ex : va_W} {i : Nat} (hi : i < g.1) : (gE ty o lo em g ex)[1 + i]? = some (g.2.2.2.1 i, .inr (2 + g.2.2.2.2.1 i, gfl o g.2.2.2.2.2 i (g.2.2.2.2.1 i))) := by
  unfold gE
  rw [Nat.add_comm, List.getElem?_cons_succ, List.getElem?_append_left (by simp [gE2]; exact hi)]
  simp [gE2, List.getElem?_map, List.getElem?_range hi]
theorem gE_a {ty : Nat → ClassId} {o lo em : Nat} {g : GS} {ex : va_W} {a : Nat} (ha : g.2.2.1 = some a) : (gE ty o lo em g ex)[1 + g.1]? = some (a, .inl (ty 4, 10, .inr (.inr (.inr (.inr (gRow g)))))) := by
  unfold gE
  have hl : (gE2 o g).length = g.1 := by simp [gE2]
  rw [Nat.add_comm, List.getElem?_cons_succ, List.getElem?_append_right (by omega), hl, Nat.sub_self]
  simp [gE1, ha]
/-- a method that answers a reference, or null -/
def Kq (l : Launch) (y : MethodName) (cc : ByteArray) (nL : Nat) (rt : FieldType) (rm : Room) (D : va_G) (ty : Nat → ClassId) (Cx : (Nat → Prop) → State → Prop) (as : List Value) {S : Type} (wl : S → va_W) (S0 : S) (post : Option Nat → S → Prop) : Prop :=
  ∀ sz, Met l y (ws_ y cc nL (some rt)) rm (KP D ty Cx wl S0 sz as) (va_Qq post (KB D (va_A (wl S0) sz) wl) (va_A (wl S0) sz)) rm.cells rm.slots (va_A (wl S0) sz)
section XQ
variable {p : Program} {l : Launch} {e : Env} {R : Room} {s : State} {m : MethodId} {args : Array Value} {below : List Frame} {meth : Method} {c : Code} {H : Heap} {locs : List Loc} {cells slots : Nat} {Q : State → Prop}
variable {cc : ByteArray} {pc nL : Nat} {ls : Array Slot} {rest : List Value} {D : va_G} {A : Nat → Prop} {ty : Nat → ClassId} {own : String} {Cx : (Nat → Prop) → State → Prop}
theorem Kq.of {y : MethodName} {rt : FieldType} {rm : Room} {as : List Value} {S : Type} {wl : S → va_W} {S0 : S} {post : Option Nat → S → Prop} (hy : plainName y.cls = true) (hn : (lg_sl as).length ≤ nL)
    (h : ∀ (p : Program) (e : Env) (s : State) (m : MethodId) (below : List Frame) (meth : Method) (c : Code) (A : Nat → Prop) (ls : Array Slot) (args : Array Value), En p s m args c cc nL y.cls → va_K D vwCl (tysG ty) s → (∀ q, s.heap.size ≤ q → A q) → Cx A s → meth.locks = false → meth.sig.returnType = some rt → gI s D A (wl S0) s.heap [] → lv_has ls nL (lv_args 0 as) →
      W p l e rm s m args below meth c s.heap [] 0 0 (MQ below (va_Qq post (KB D A wl) A) args s rm.cells rm.slots A) (F0 m 0 ls [])) : Kq l y cc nL rt rm D ty Cx as wl S0 post := by
  intro sz
  refine Met.ofW (cc := cc) (maxL := nL) (ret := some rt) hy rfl ?_
  intro p e s m args below meth c s₁ B hml hv
  obtain ⟨rfl, rfl, hP, hK, hD0, hC⟩ := hv
  have hts := atoms_spec (ws := ws_ y cc nL (some rt)) B.pre
  have hts : ∀ w ∈ lw_all, w.before _ s = true := fun w h => hts w (List.mem_cons_of_mem _ h)
  rw [lg_entry_eq]
  exact h p e s m below meth c (va_A (wl S0) s.heap.size) _ _ ⟨B.exec, B.bytes, hml, findClass_of_methodNamed B.named, hts⟩ hK (fun q h => Or.inr h) hC B.notSynchronized B.returns ⟨hP, hD0.self, va_S.rf⟩ (lv_entry as hn)
theorem r_q {S : Type} {wl : S → va_W} {S1 : S} {post : Option Nat → S → Prop} {v : Option Nat} {rt : FieldType} {k n : Nat} (E : En p s m args c cc nL own) (hlk : meth.locks = false) (hr : meth.sig.returnType = some rt) (hrt : (∃ n, rt = .object n) ∨ ∃ t, rt = .array t) (I : gI s D A (wl S1) H locs) (h1 : cells ≤ k) (h2 : slots ≤ n) (hd : decode cc pc = .ok (.areturn, 1)) {w : Value} (hw : w = va_rf v) (hp : post v S1) :
    W p l e R s m args below meth c H locs cells slots (MQ below (va_Qq post (KB D A wl) A) args s k n A) (F0 m pc ls [w]) := by
  subst hw
  refine W.widen h1 h2 (W.aret E.1 E.2.1 hr hrt ?_ (fun t ht hW => ⟨⟨v, S1, rfl, hp, by rw [ht]; exact I.1, I.2.1⟩, I.2.2.F ht⟩) I.2.2.2.2 hd hlk)
  cases v with
  | none => exact Or.inl rfl
  | some a => exact Or.inr ⟨a, rfl⟩
theorem c_Vq {y : MethodName} {b : ByteArray} {L : Nat} {rt : FieldType} {rm : Room} {As : List Value} {S : Type} {wl : S → va_W} {S0 : S} {post : Option Nat → S → Prop} {idx : Nat} {C : String} {o q0 ci : Nat} {fs : List Value} {q : u_T × Nat} (hC : CxOk Cx) (E : En p s m args c cc nL own) (hK : va_K D vwCl (tysG ty) s) (hA : ∀ q, s.heap.size ≤ q → A q) (hX : Cx A s) (I : gI s D A (wl S0) H locs) (hM : Kq l y b L rt rm D ty Cx (.ref o :: As) wl S0 post) (hw : GoodIn lw_all (wsV own idx C y (ws_ y b L (some rt))))
    (hdc : y.cls = C ∧ y.cls ≠ "java/lang/invoke/MethodHandle" ∧ y.cls ≠ "java/lang/invoke/VarHandle" ∧ (parseMethodDescriptor y.desc).map (fun d => d.parameters.length) = some As.length) (hR : rm.frames + 1 ≤ R.frames ∧ 8 + (L + 11) + rm.locals ≤ R.locals) (hf : cells + rm.cells ≤ R.cells ∧ slots + rm.slots ≤ R.slots) (hrec : (wl S0)[q0]? = some (o, .inr (ci, fs))) (hcl : vwCl[ci]? = some (C, q)) (hl : ls.size = nL) (hW : (rest.map fun v => v.category).sum ≤ 8) {st : List Value} (hst : st = As.reverse ++ .ref o :: rest) (hd : decode cc pc = .ok (.invokevirtual idx, 3))
    (kk : ∀ (r : Option Nat) (S1 : S) (H1 : Heap) (locs1 : List Loc), post r S1 → gI s D A (wl S1) H1 locs1 → W p l e R s m args below meth c H1 locs1 (cells + rm.cells) (slots + rm.slots) Q (F0 m (pc + 3) ls (va_rf r :: rest))) : W p l e R s m args below meth c H locs cells slots Q (F0 m pc ls st) :=
  va_callq (va_runV (As := As) (rest := rest) (b := o) E (hM H.size) (cwV As.length E.2.2.2.2 hw rfl rfl rfl hdc hR) ⟨KP.blind hC, va_recv hK I.1 hcl hrec, KP.pre hC hK hA hX I⟩ rfl rfl hl hst (lv_room hW) hd hf) I.2.2 (fun q _ h => I.sub hA q h) (I.sub hA) (fun r S1 t H1 locs1 ht hvm hp hB hz hk hS => kk r S1 H1 locs1 hp (I.back hA ht hB hS))
end XQ
