/-! trace, read and written by a guest (a link within the nest) -/
set_option maxRecDepth 100000
set_option maxHeartbeats 4000000
section XN
variable {p : Program} {l : Launch} {e : Env} {R : Room} {s : State} {m : MethodId} {args : Array Value} {below : List Frame} {meth : Method} {c : Code} {H : Heap} {locs : List Loc} {cells slots : Nat} {Q : State → Prop}
variable {cc : ByteArray} {pc nL : Nat} {ls : Array Slot} {rest : List Value} {D : va_G} {A : Nat → Prop} {ty : Nat → ClassId} {o : Nat} {ad : Nat → Nat} {σ : Sg} {ex : va_W} {em : Nat} {Cy : (Nat → Prop) → State → Prop}
theorem x_tget (E : En p s m args c cc nL RX4) (hK : va_K D vwCl (tysG ty) s) (hX : CxX em Cy A s) (I : gI s D A (xW ty o ad ex σ) H locs) (hd : decode cc pc = .ok (.getfield 45, 3))
    (kk : W p l e R s m args below meth c H locs cells slots Q (F0 m (pc + 3) ls (.int (σ 7 0) :: rest))) : W p l e R s m args below meth c H locs cells slots Q (F0 m pc ls (.ref o :: rest)) :=
  va_getN (D := D) (C := RX0) (T := TX0) (N := 24) E.1 E.2.1 E.2.2.2.2 in_X0 E.2.2.2.1 hK I.1 0 rfl rfl 7 (by decide) (va_tabs rfl rfl (hX.1 _ (cx_in q145 rfl))) (fun _ h => h) ((gfs_at (Y := LX) (k := 7) (by decide)).trans rfl) hd kk
theorem x_tput {v : Int32} (E : En p s m args c cc nL RX4) (hK : va_K D vwCl (tysG ty) s) (hX : CxX em Cy A s) (I : gI s D A (xW ty o ad ex σ) H locs) (hd : decode cc pc = .ok (.putfield 45, 3))
    (kk : ∀ (H1 : Heap) (locs1 : List Loc), gI s D A (xW ty o ad ex (up σ 7 0 v)) H1 locs1 → W p l e R s m args below meth c H1 locs1 cells slots Q (F0 m (pc + 3) ls rest)) : W p l e R s m args below meth c H locs cells slots Q (F0 m pc ls (.int v :: .ref o :: rest)) := by
  refine va_putN (D := D) (C := RX0) (T := TX0) (N := 24) E.1 E.2.1 E.2.2.2.2 in_X0 tyX0 tyX0_ok nmX0 E.2.2.2.1 hK I.1 I.2.1 I.2.2 0 rfl rfl 7 (by decide) (va_tabs rfl rfl (hX.1 _ (cx_in q145 rfl))) (fun _ h => h) rfl (tyX0_ok 7 (by decide)) rfl rfl (by rw [gfs_len]; decide) hd (fun H1 locs1 h1 h2 h3 => ?_)
  have hset := gw_setS (Y := LX) LX_ok (ty := ty) (o := o) (ad := ad) (σ := σ) (ex := ex) (k := 7) (by decide) rfl v
  exact kk H1 locs1 ⟨(congrArg (fun w => va_P D vwCl w H1) hset).mp h1, (congrArg (fun w => va_D A w) hset).mp h2, h3⟩
end XN
