/-! a call through an interface that lands in the interface's own default method -/
set_option maxRecDepth 100000
set_option maxHeartbeats 4000000
theorem lid_sel {args : Array Value} {s : State} {C : String} {x y : MethodName} (h : (Cond.landsInDefault C x y).before args s = true) : ∃ k r q, s.vm.findClass C = some k ∧ s.methodFound? x.cls x.name x.desc = some r ∧ s.methodNamed? y = some q ∧ selectMethod {} s.vm k r = .method q := by
  unfold Cond.before at h
  simp only [Cond.holds, Cond.value] at h
  cases h1 : s.vm.findClass C with
  | none => simp [h1] at h
  | some k =>
    cases h2 : s.methodFound? x.cls x.name x.desc with
    | none => simp [h1, h2] at h
    | some r =>
      cases h3 : s.methodNamed? y with
      | none => simp [h1, h2, h3] at h
      | some q =>
        refine ⟨k, r, q, rfl, rfl, rfl, ?_⟩
        simp only [h1, h2, h3] at h
        cases h4 : s.vm.method? r with
        | none => simp [h4] at h
        | some rm =>
          cases h5 : selectMethod {} s.vm k r with
          | method q' =>
            simp only [h4, h5, Option.map_some] at h
            by_cases e : q' = q
            · rw [e]
            · simp [e] at h
          | _ => simp [h4, h5] at h
section XD
variable {p : Program} {l : Launch} {e : Env} {R : Room} {s : State} {m : MethodId} {args : Array Value} {below : List Frame} {meth : Method} {c : Code} {H : Heap} {locs : List Loc} {cells slots : Nat} {Q : State → Prop}
theorem va_runD {x y : MethodName} {bytes cc : ByteArray} {maxL nL mc ms n index count : Nat} {ret : Option FieldType} {ws ws' : List Cond} {rm : Room} {Pc : Array Value → State → Prop} {Qc : Array Value → State → Outcome → State → Prop} {free : Addr → Prop} {Ts : List Cond} {own C : String} {cC : ClassId} {b : Addr} {As rest : List Value} {g : JFrame}
    (hat : ClassAt s C cC) (S : CallFix p m c cc nL s args Ts own) (hM : Met l y ws rm Pc Qc mc ms free) (hG : GoodIn Ts ws) (hw : ws = Cond.code y bytes maxL ret :: ws') (hrc : rm.cells = mc) (hrs : rm.slots = ms) (hF : va_Fw C x y s) (hL : (Cond.landsInDefault C x y).before args s = true) (hlink : (Cond.methodLink own index x) ∈ Ts) (hinst : Cond.instanceMethod y ∈ Ts) (hini : Cond.initialized y.cls ∈ Ts)
    (hd : x.cls ≠ "java/lang/invoke/MethodHandle" ∧ x.cls ≠ "java/lang/invoke/VarHandle" ∧ (parseMethodDescriptor x.desc).map (fun d => d.parameters.length) = some n) (hR : rm.frames + 1 ≤ R.frames ∧ 8 + (maxL + 11) + rm.locals ≤ R.locals) (hp : PreV s H C b Pc As)
    (hg : g.method = m) (hn : As.length = n) (hsize : g.locals.size = nL) (hstack : g.stack = As.reverse ++ .ref b :: rest) (hW : 2 * g.monitorRoom + (rest.map fun v => v.category).sum ≤ 8) (hdg : decode cc g.pc = .ok (.invokeinterface index count, 5)) (hf : cells + mc ≤ R.cells ∧ slots + ms ≤ R.slots) :
    va_Run5 p l e R s m args below meth c H locs cells slots mc ms g rest (Qc (Value.ref b :: As).toArray) (free) := by
  have ht := S.2.2.2.2
  have hc : Cond.code y bytes maxL ret ∈ ws := by rw [hw]; exact List.mem_cons_self
  have hini' := ht _ hini
  have hK : Back l R p e below s args y 5 8 (PreOf R mc ms Pc) (PostOf Qc mc ms free) := back_of (bytes := bytes) (maxL := maxL) (ret := ret) hM hp.1 hrc hrs hR.1 hR.2 (pay_in ht hG) hc (fun a' U hW => word_at hW (Or.inl (by first | rfl | simp [Cond.onTables, Cond.keeps, Cond.steady])) hini')
  obtain ⟨hx, hb, hml, ho, -⟩ := S
  obtain ⟨-, ⟨cellB, hcB, hoB, hclB⟩, hPc⟩ := hp
  obtain ⟨hfc, kB, hkB, -⟩ := hat
  cases hfc.symm.trans hclB
  intro T hT X
  obtain ⟨r0, r, n1, n2, n3, n4⟩ := Cond.declares_spec (va_any (A' := args) rfl hF.1)
  obtain ⟨cL, kL, r1, f1, f2, f3, f4, f5⟩ := Cond.interfaceMethod_spec (va_any (A' := args) rfl hF.2.1)
  cases n1.symm.trans f5
  have hr0 : r0.cls = cL := Option.some.inj ((findClass_of_methodNamed n1).symm.trans f1)
  obtain ⟨hnR, hdR⟩ := name_of_methodNamed n1 n2
  obtain ⟨mk, methM, g1, g2, -, g4⟩ := Cond.instanceMethod_spec (ht _ hinst)
  obtain ⟨c2, r2, m2, q1, q2, q3, q4⟩ := lid_sel hL
  cases hclB.symm.trans q1
  cases f4.symm.trans q2
  cases g1.symm.trans q3
  obtain ⟨c3, t3, w1, w2, w3⟩ := Cond.castable_spec (va_any (A' := args) rfl hF.2.2.2.2)
  cases hclB.symm.trans w1
  cases f1.symm.trans w2
  obtain ⟨vm₁, X₁, hstep⟩ := X.invokeinterface hx ho (ht _ hlink) n1 n2 n3 (by rw [hr0]; exact f2) f3 ⟨hd.1, hd.2.1⟩ (a := b) (cell := cellB) (kcell := kB) (by rw [hT]; exact hcB) (fun z h => by rw [h] at hoB; cases hoB) hkB (by rw [hr0]; exact w3) (by rw [Launch.admits_selectMethod X.admits]; exact q4) g2 (by rw [hnR, hdR]; exact Cond.unhidden_spec hclB (va_any (A' := args) rfl hF.2.2.2.1)) (Cond.publicMethod_spec g1 g2 (va_any (A' := args) rfl hF.2.2.1)) g4 (g := g) hg (argsL := As) (rest := rest) (by have h2 := hd.2.2; rw [n4] at h2; exact hn.trans (Option.some.inj h2).symm) hstack (by rw [hb]; exact hdg)
  obtain ⟨v, ⟨U', l2, c2, s2⟩, X', ⟨g', mk', t, L, e1, e2, hq, h1, hL', h2, h3⟩, hsteps⟩ := hK m meth c ⟨T.setVm vm₁, locs, cells, slots⟩ { g with stack := rest } (.invokeinterface index count) mk (Value.ref b :: As).toArray X₁ hg (hsize.trans hml.symm) (by rw [hb]; exact hdg) hW (X₁.named g1) ⟨hf.1, hf.2, hPc (T.setVm vm₁) hT X₁.warmed⟩
  dsimp only [Pt.U, Pt.locs, Pt.cells, Pt.slots] at X' e1 e2 h1 h2 h3 hsteps
  subst h1; subst h2; subst h3
  exact ⟨v, (T.setVm vm₁).calling g' mk' (Value.ref b :: As).toArray, t, U', L, hT, X', hL', e1, e2, hq, fun target h => hstep _ fun acts => by rw [doInvoke_state]; exact hsteps.trans h⟩
end XD
