/-! The reference (CafeTablesModel): its layout; rows -/
set_option maxRecDepth 100000
def mS (k : Nat) : Bool := [0, 1, 5, 8, 9, 10, 11, 12, 13, 16, 23, 26, 27, 28, 29, 43].contains k
def mLn (k : Nat) : Nat := match k with
  | 2 => 4 | 3 => 4 | 4 => 160 | 6 => 6 | 7 => 6 | 14 => 6 | 15 => 6 | 24 => 6 | 25 => 6 | 30 => 6 | 31 => 6 | 38 => 400 | 39 => 400 | 41 => 6 | 42 => 6 | _ => 8
def mAr : List Nat := [2, 3, 4, 6, 7, 14, 15, 17, 18, 19, 20, 21, 22, 24, 25, 30, 31, 32, 33, 34, 35, 36, 37, 38, 39, 40, 41, 42]
def mZ (k : Nat) : Bool := k == 31 || k == 40
def LM : Lay := (1, 44, mS, mAr, mLn, mZ)
theorem LM_ok : gOK LM = true := by decide +kernel
abbrev mW (ty : Nat → ClassId) (o : Nat) (ad : Nat → Nat) (σ : Sg) : va_W := gw LM ty o ad σ []
section MR
variable {p : Program} {l : Launch} {e : Env} {R : Room} {s : State} {m : MethodId} {args : Array Value} {below : List Frame} {meth : Method} {c : Code} {H : Heap} {locs : List Loc} {cells slots : Nat} {Q : State → Prop}
variable {cc : ByteArray} {pc nL : Nat} {ls : Array Slot} {rest : List Value} {D : va_G} {A : Nat → Prop} {ty : Nat → ClassId} {o : Nat} {ad : Nat → Nat} {σ : Sg}
theorem m_get (E : En p s m args c cc nL RX1) (hK : va_K D vwCl (tysG ty) s) (I : gI s D A (mW ty o ad σ) H locs) (k : Nat) (hk : Nat.blt k 44 = true) {index : Nat} (hq : Cond.fieldLink RX1 index (TX1 k).1 (TX1 k).2.1 (TX1 k).2.2.1 ∈ lw_all) {v : Value} (hv : (if mS k then Value.int (σ k 0) else .ref (ad k)) = v) (hd : decode cc pc = .ok (.getfield index, 3))
    (kk : W p l e R s m args below meth c H locs cells slots Q (F0 m (pc + 3) ls (v :: rest))) : W p l e R s m args below meth c H locs cells slots Q (F0 m pc ls (.ref o :: rest)) :=
  g_get (Y := LM) E hK I (C := RX1) (T := TX1) rfl in_X1 k (Nat.le_of_ble_eq_true hk) hq hv hd kk
theorem m_put (E : En p s m args c cc nL RX1) (hK : va_K D vwCl (tysG ty) s) (I : gI s D A (mW ty o ad σ) H locs) (k : Nat) (hk : Nat.blt k 44 = true) (hs : mS k = true) {index : Nat} (hq : Cond.fieldLink RX1 index (TX1 k).1 (TX1 k).2.1 (TX1 k).2.2.1 ∈ lw_all) {v : Int32} (hfin : (TX1 k).2.2.2 = false) (hn : narrow (tyX1 k) (.int v) = .int v) (hfit : fits (tyX1 k) (.int v) = true) (hd : decode cc pc = .ok (.putfield index, 3))
    (kk : ∀ (H1 : Heap) (locs1 : List Loc), gI s D A (mW ty o ad (up σ k 0 v)) H1 locs1 → W p l e R s m args below meth c H1 locs1 cells slots Q (F0 m (pc + 3) ls rest)) : W p l e R s m args below meth c H locs cells slots Q (F0 m pc ls (.int v :: .ref o :: rest)) :=
  g_put (Y := LM) E hK LM_ok I (C := RX1) (T := TX1) rfl in_X1 tyX1 tyX1_ok nmX1 k (Nat.le_of_ble_eq_true hk) hs hq hfin (tyX1_ok k (Nat.le_of_ble_eq_true hk)) hn hfit hd kk
theorem m_ald (E : En p s m args c cc nL RX1) (hK : va_K D vwCl (tysG ty) s) (I : gI s D A (mW ty o ad σ) H locs) (p0 : Nat) {k i : Nat} (hp : mAr[p0]? = some k) (hz : mZ k = false) (hb : Nat.blt (mLn k) 401 = true) (hd : decode cc pc = .ok (.iaload, 1)) (hi : i < mLn k)
    (kk : W p l e R s m args below meth c H locs cells slots Q (F0 m (pc + 1) ls (.int (σ k i) :: rest))) : W p l e R s m args below meth c H locs cells slots Q (F0 m pc ls (.int (nI i) :: .ref (ad k) :: rest)) :=
  g_ald (Y := LM) E hK I hp hz hi (Nat.lt_of_lt_of_le (Nat.le_of_ble_eq_true hb) (by decide)) hd kk
theorem m_zld (E : En p s m args c cc nL RX1) (hK : va_K D vwCl (tysG ty) s) (I : gI s D A (mW ty o ad σ) H locs) (p0 : Nat) {k i : Nat} (hp : mAr[p0]? = some k) (hz : mZ k = true) (hb : Nat.blt (mLn k) 401 = true) (hd : decode cc pc = .ok (.baload, 1)) (hi : i < mLn k)
    (kk : W p l e R s m args below meth c H locs cells slots Q (F0 m (pc + 1) ls (.int (σ k i) :: rest))) : W p l e R s m args below meth c H locs cells slots Q (F0 m pc ls (.int (nI i) :: .ref (ad k) :: rest)) :=
  g_zld (Y := LM) E hK I hp hz hi (Nat.lt_of_lt_of_le (Nat.le_of_ble_eq_true hb) (by decide)) hd kk
theorem m_ast (E : En p s m args c cc nL RX1) (hK : va_K D vwCl (tysG ty) s) (I : gI s D A (mW ty o ad σ) H locs) (p0 : Nat) {k i : Nat} {v : Int32} (hp : mAr[p0]? = some k) (hz : mZ k = false) (hb : Nat.blt (mLn k) 401 = true) (hd : decode cc pc = .ok (.iastore, 1)) (hi : i < mLn k)
    (kk : ∀ (H1 : Heap) (locs1 : List Loc), gI s D A (mW ty o ad (up σ k i v)) H1 locs1 → W p l e R s m args below meth c H1 locs1 cells slots Q (F0 m (pc + 1) ls rest)) : W p l e R s m args below meth c H locs cells slots Q (F0 m pc ls (.int v :: .int (nI i) :: .ref (ad k) :: rest)) :=
  g_ast (Y := LM) E hK LM_ok I hp hz hi (Nat.lt_of_lt_of_le (Nat.le_of_ble_eq_true hb) (by decide)) hd kk
theorem m_zst (E : En p s m args c cc nL RX1) (hK : va_K D vwCl (tysG ty) s) (I : gI s D A (mW ty o ad σ) H locs) (p0 : Nat) {k i : Nat} {b : Bool} (hp : mAr[p0]? = some k) (hz : mZ k = true) (hb : Nat.blt (mLn k) 401 = true) (hd : decode cc pc = .ok (.bastore, 1)) (hi : i < mLn k)
    (kk : ∀ (H1 : Heap) (locs1 : List Loc), gI s D A (mW ty o ad (up σ k i (bI b))) H1 locs1 → W p l e R s m args below meth c H1 locs1 cells slots Q (F0 m (pc + 1) ls rest)) : W p l e R s m args below meth c H locs cells slots Q (F0 m pc ls (.int (bI b) :: .int (nI i) :: .ref (ad k) :: rest)) :=
  g_zst (Y := LM) E hK LM_ok I hp hz hi (Nat.lt_of_lt_of_le (Nat.le_of_ble_eq_true hb) (by decide)) (bI_vn b) hd kk
/-- calls of the reference's own methods; none of them makes a cell -/
theorem m_ci {y : MethodName} {b : ByteArray} {L : Nat} {rt : FieldType} {k : Nat} {As : List Value} {post : Int32 → Sg → Prop} {idx : Nat} (E : En p s m args c cc nL RX1) (hK : va_K D vwCl (tysG ty) s) (hA : ∀ q, s.heap.size ≤ q → A q) (I : gI s D A (mW ty o ad σ) H locs) (hM : Ki l y b L rt (rmL k) D ty Cx0 (.ref o :: As) (mW ty o ad) σ post) (hw : GoodIn lw_all (wsV RX1 idx RX1 y (ws_ y b L (some rt))))
    (hdc : y.cls = RX1 ∧ y.cls ≠ "java/lang/invoke/MethodHandle" ∧ y.cls ≠ "java/lang/invoke/VarHandle" ∧ (parseMethodDescriptor y.desc).map (fun d => d.parameters.length) = some As.length) (hR : k + 1 ≤ R.frames ∧ 8 + (L + 11) + 48 * k ≤ R.locals) (hf : cells ≤ R.cells ∧ slots ≤ R.slots) (hl : ls.size = nL) (hW : (rest.map fun v => v.category).sum ≤ 8) {st : List Value} (hst : st = As.reverse ++ .ref o :: rest) (hd : decode cc pc = .ok (.invokevirtual idx, 3))
    (kk : ∀ (r : Int32) (σ1 : Sg) (H1 : Heap) (locs1 : List Loc), post r σ1 → gI s D A (mW ty o ad σ1) H1 locs1 → W p l e R s m args below meth c H1 locs1 cells slots Q (F0 m (pc + 3) ls (.int r :: rest))) : W p l e R s m args below meth c H locs cells slots Q (F0 m pc ls st) :=
  c_Vi Cx0.ok E hK hA trivial I hM hw hdc hR hf (q0 := 0) (ci := 1) rfl rfl hl hW hst hd kk
theorem m_cl {y : MethodName} {b : ByteArray} {L : Nat} {k : Nat} {As : List Value} {post : Int64 → Sg → Prop} {idx : Nat} (E : En p s m args c cc nL RX1) (hK : va_K D vwCl (tysG ty) s) (hA : ∀ q, s.heap.size ≤ q → A q) (I : gI s D A (mW ty o ad σ) H locs) (hM : Kl l y b L (rmL k) D ty Cx0 (.ref o :: As) (mW ty o ad) σ post) (hw : GoodIn lw_all (wsV RX1 idx RX1 y (ws_ y b L (some .long))))
    (hdc : y.cls = RX1 ∧ y.cls ≠ "java/lang/invoke/MethodHandle" ∧ y.cls ≠ "java/lang/invoke/VarHandle" ∧ (parseMethodDescriptor y.desc).map (fun d => d.parameters.length) = some As.length) (hR : k + 1 ≤ R.frames ∧ 8 + (L + 11) + 48 * k ≤ R.locals) (hf : cells ≤ R.cells ∧ slots ≤ R.slots) (hl : ls.size = nL) (hW : (rest.map fun v => v.category).sum ≤ 8) {st : List Value} (hst : st = As.reverse ++ .ref o :: rest) (hd : decode cc pc = .ok (.invokevirtual idx, 3))
    (kk : ∀ (r : Int64) (σ1 : Sg) (H1 : Heap) (locs1 : List Loc), post r σ1 → gI s D A (mW ty o ad σ1) H1 locs1 → W p l e R s m args below meth c H1 locs1 cells slots Q (F0 m (pc + 3) ls (.long r :: rest))) : W p l e R s m args below meth c H locs cells slots Q (F0 m pc ls st) :=
  c_Vl Cx0.ok E hK hA trivial I hM hw hdc hR hf (q0 := 0) (ci := 1) rfl rfl hl hW hst hd kk
theorem m_cv {y : MethodName} {b : ByteArray} {L : Nat} {k : Nat} {As : List Value} {post : Sg → Prop} {idx : Nat} (E : En p s m args c cc nL RX1) (hK : va_K D vwCl (tysG ty) s) (hA : ∀ q, s.heap.size ≤ q → A q) (I : gI s D A (mW ty o ad σ) H locs) (hM : Kv l y b L (rmL k) D ty Cx0 (.ref o :: As) (mW ty o ad) σ post) (hw : GoodIn lw_all (wsV RX1 idx RX1 y (ws_ y b L none)))
    (hdc : y.cls = RX1 ∧ y.cls ≠ "java/lang/invoke/MethodHandle" ∧ y.cls ≠ "java/lang/invoke/VarHandle" ∧ (parseMethodDescriptor y.desc).map (fun d => d.parameters.length) = some As.length) (hR : k + 1 ≤ R.frames ∧ 8 + (L + 11) + 48 * k ≤ R.locals) (hf : cells ≤ R.cells ∧ slots ≤ R.slots) (hl : ls.size = nL) (hW : (rest.map fun v => v.category).sum ≤ 8) {st : List Value} (hst : st = As.reverse ++ .ref o :: rest) (hd : decode cc pc = .ok (.invokevirtual idx, 3))
    (kk : ∀ (σ1 : Sg) (H1 : Heap) (locs1 : List Loc), post σ1 → gI s D A (mW ty o ad σ1) H1 locs1 → W p l e R s m args below meth c H1 locs1 cells slots Q (F0 m (pc + 3) ls rest)) : W p l e R s m args below meth c H locs cells slots Q (F0 m pc ls st) :=
  c_Vv Cx0.ok E hK hA trivial I hM hw hdc hR hf (q0 := 0) (ci := 1) rfl rfl hl hW hst hd kk
theorem m_as {a b : Sg} (I : gI s D A (mW ty o ad a) H locs) (h : a = b) : gI s D A (mW ty o ad b) H locs := h ▸ I
end MR
/-- the reference's contracts: an int (or boolean) method, a long one, one that answers nothing -/
abbrev mKi (l : Launch) (y : MethodName) (cc : ByteArray) (nL : Nat) (rt : FieldType) (k : Nat) (D : va_G) (ty : Nat → ClassId) (o : Nat) (ad : Nat → Nat) (σ : Sg) (As : List Value) (post : Int32 → Sg → Prop) : Prop := Ki l y cc nL rt (rmL k) D ty Cx0 (.ref o :: As) (mW ty o ad) σ post
abbrev mKl (l : Launch) (y : MethodName) (cc : ByteArray) (nL : Nat) (k : Nat) (D : va_G) (ty : Nat → ClassId) (o : Nat) (ad : Nat → Nat) (σ : Sg) (As : List Value) (post : Int64 → Sg → Prop) : Prop := Kl l y cc nL (rmL k) D ty Cx0 (.ref o :: As) (mW ty o ad) σ post
abbrev mKv (l : Launch) (y : MethodName) (cc : ByteArray) (nL : Nat) (k : Nat) (D : va_G) (ty : Nat → ClassId) (o : Nat) (ad : Nat → Nat) (σ : Sg) (As : List Value) (post : Sg → Prop) : Prop := Kv l y cc nL (rmL k) D ty Cx0 (.ref o :: As) (mW ty o ad) σ post
