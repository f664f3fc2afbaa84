/-! System.arraycopy of six numbers between two of the class's arrays -/
set_option maxRecDepth 100000
set_option maxHeartbeats 4000000
def upR (σ : Sg) (k : Nat) (f : Nat → Int32) : Sg := fun a b => if a = k then f b else σ a b
theorem upR_k {a k : Nat} (h : a ≠ k) (σ : Sg) (f : Nat → Int32) : upR σ k f a = σ a := funext fun b => by simp [upR, h]
theorem upR_s (σ : Sg) (k : Nat) (f : Nat → Int32) : upR σ k f k = f := funext fun b => by simp [upR]
theorem gw_setR {Y : Lay} (hY : gOK Y = true) {ty : Nat → ClassId} {o : Nat} {ad : Nat → Nat} {σ : Sg} {ex : va_W} {p k : Nat} (hp : Y.2.2.2.1[p]? = some k) (f : Nat → Int32) :
    (gw Y ty o ad σ ex).set (p + 1) (ad k, .inl (ty (if Y.2.2.2.2.2 k then 1 else 0), Y.2.2.2.2.1 k, .inl f)) = gw Y ty o ad (upR σ k f) ex := by
  simp only [gOK, Bool.and_eq_true, List.all_eq_true] at hY
  have hl := (List.getElem?_eq_some_iff.mp hp).1
  have hk : Y.2.2.1 k = false := by
    have := hY.1 k (List.mem_of_getElem? hp)
    simpa using this
  have h1 : gfs Y ad (upR σ k f) = gfs Y ad σ := by
    unfold gfs
    apply List.map_congr_left
    intro j _
    by_cases hj : j = k
    · subst hj; simp [hk]
    · rw [upR_k hj]
  have h2 : (gar Y ty ad σ).set p (ad k, .inl (ty (if Y.2.2.2.2.2 k then 1 else 0), Y.2.2.2.2.1 k, .inl f)) = gar Y ty ad (upR σ k f) := by
    apply List.ext_getElem?
    intro j
    by_cases hj : j = p
    · subst hj
      rw [List.getElem?_set_self (by simpa [gar] using hl)]
      simp [gar, List.getElem?_map, hp, upR_s]
    · rw [List.getElem?_set_ne (Ne.symm hj)]
      unfold gar
      rw [List.getElem?_map, List.getElem?_map]
      cases hq : Y.2.2.2.1[j]? with
      | none => rfl
      | some x =>
        have hx : x ≠ k := by
          intro e
          subst e
          exact hj (va_nd_inj _ hY.2 j p x hq hp)
        simp only [Option.map_some, upR_k hx]
  have hpl : p < (gar Y ty ad σ).length := by simpa [gar] using hl
  show (o, _) :: (gar Y ty ad σ ++ ex).set p _ = _
  rw [List.set_append_left _ _ hpl, h2]
  unfold gw
  rw [h1]
/-- six numbers of row j go to row k -/
def xCpy (σ : Sg) (j k : Nat) : Sg := upR σ k (va_cpy (σ j) (σ k) 0 0 6)
theorem xCpy_k {a k : Nat} (h : a ≠ k) (σ : Sg) (j : Nat) : xCpy σ j k a = σ a := upR_k h σ _
theorem xCpy_s {b : Nat} (h : b < 6) (σ : Sg) (j k : Nat) : xCpy σ j k k b = σ j b := by
  rw [xCpy, upR_s]; simp [va_cpy, h]
section XC
variable {p : Program} {l : Launch} {e : Env} {R : Room} {s : State} {m : MethodId} {args : Array Value} {below : List Frame} {meth : Method} {c : Code} {H : Heap} {locs : List Loc} {cells slots : Nat} {Q : State → Prop}
variable {cc : ByteArray} {pc nL : Nat} {ls : Array Slot} {rest : List Value} {D : va_G} {A : Nat → Prop} {ty : Nat → ClassId} {o : Nat} {ad : Nat → Nat} {σ : Sg} {ex : va_W}
theorem x_copy (E : En p s m args c cc nL RX0) (hK : va_K D vwCl (tysG ty) s) (I : gI s D A (xW ty o ad ex σ) H locs) (p0 p1 : Nat) {j k : Nat} (hp : xAr[p0]? = some j) (hq : xAr[p1]? = some k) (h6 : Nat.ble 6 (xLn j) = true) (h7 : Nat.ble 6 (xLn k) = true) (hl : ls.size = nL) (hW : (rest.map fun v => v.category).sum ≤ 8) (hF : 1 ≤ R.frames) (hR : 8 + (nativeFrameWords "java/lang/System" "arraycopy" 5 + 11) ≤ R.locals) (hd : decode cc pc = .ok (.invokestatic 87, 3))
    (kk : ∀ (H1 : Heap) (locs1 : List Loc), gI s D A (xW ty o ad ex (xCpy σ j k)) H1 locs1 → W p l e R s m args below meth c H1 locs1 cells slots Q (F0 m (pc + 3) ls rest)) : W p l e R s m args below meth c H locs cells slots Q (F0 m pc ls (.int 6 :: .int 0 :: .ref (ad k) :: .int 0 :: .ref (ad j) :: rest)) := by
  have hset := gw_setR LX_ok (ty := ty) (o := o) (ad := ad) (σ := σ) (ex := ex) hq (va_cpy (σ j) (σ k) 0 0 6)
  refine va_copyi (D := D) E.1 E.2.1 (E.2.2.1.trans hl.symm) E.2.2.2.1 (E.2.2.2.2 _ q579) (E.2.2.2.2 _ q398) (E.2.2.2.2 _ q397) (E.2.2.2.2 _ q88) hK I.1 I.2.1 I.2.2 (p0 + 1) (p1 + 1) 0 0 (gar_at (Y := LX) (ty := ty) (o := o) (ad := ad) (σ := σ) (ex := ex) hp) (gar_at (Y := LX) (ty := ty) (o := o) (ad := ad) (σ := σ) (ex := ex) hq) rfl rfl rfl (by decide) (by decide) (by decide) (Nat.le_of_ble_eq_true h6) (Nat.le_of_ble_eq_true h7) (fun _ _ => rfl) hF (by omega) hd (fun H1 locs1 h1 h2 h3 => ?_)
  exact kk H1 locs1 ⟨(congrArg (fun w => va_P D vwCl w H1) hset).mp h1, (congrArg (fun w => va_D A w) hset).mp h2, h3⟩
end XC
