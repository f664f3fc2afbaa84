/-! BASE: the state of an object as a table of numbers; contracts over a world; rows for it -/
set_option maxRecDepth 100000
abbrev Sg : Type := Nat → Nat → Int32
def up (σ : Sg) (k i : Nat) (v : Int32) : Sg := fun a b => if a = k then (if b = i then v else σ a b) else σ a b
theorem up_s (σ : Sg) (k i : Nat) (v : Int32) : up σ k i v k i = v := by simp [up]
theorem up_k {a k : Nat} (h : a ≠ k) (σ : Sg) (i : Nat) (v : Int32) (b : Nat) : up σ k i v a b = σ a b := by simp [up, h]
theorem up_i {b i : Nat} (h : b ≠ i) (σ : Sg) (k : Nat) (v : Int32) (a : Nat) : up σ k i v a b = σ a b := by
  by_cases h1 : a = k <;> simp [up, h1, h]
theorem up_rk {a k : Nat} (h : a ≠ k) (σ : Sg) (i : Nat) (v : Int32) : up σ k i v a = σ a := funext fun b => up_k h σ i v b
theorem up_rs (σ : Sg) (k i : Nat) (v : Int32) : up σ k i v k = upd (σ k) i v := funext fun b => by simp [up, upd]
/-- a boolean as the machine has it -/
def bI (b : Bool) : Int32 := if b then 1 else 0
theorem bI_t : bI true = 1 := rfl
theorem bI_f : bI false = 0 := rfl
theorem bI_eq0 {b : Bool} : bI b = 0 ↔ b = false := by cases b <;> decide
theorem bI_eq1 {b : Bool} : bI b = 1 ↔ b = true := by cases b <;> decide
theorem bI_nar (b : Bool) : narrow .boolean (.int (bI b)) = .int (bI b) := by cases b <;> rfl
theorem bI_vn (b : Bool) : vp_nar .boolean (bI b) = bI b := by cases b <;> rfl
theorem bI_fit (b : Bool) : fits .boolean (.int (bI b)) = true := by cases b <;> rfl
/-- a loop that counts up: from the end down to any place -/
theorem dn_ind {P : Nat → Prop} (n : Nat) (hx : P n) (hs : ∀ i, i < n → P (i + 1) → P i) : ∀ i, i ≤ n → P i := by
  intro i hi
  obtain ⟨d, hd⟩ : ∃ d, d = n - i := ⟨_, rfl⟩
  induction d generalizing i with
  | zero =>
    have : i = n := by omega
    subst this; exact hx
  | succ d ih => exact hs i (by omega) (ih (i + 1) (by omega) (by omega))
/-- the classes of the program's world -/
abbrev vwCl : List vw_C := [(RX0, TX0, 24), (RX1, TX1, 44), (RX4, TX4, 7), (RX5, TX5, 8), (RX6, TX6, 9), (RX7, TX7, 1), (RX3, TX3, 6), (RX8, TX8, 7), (RX9, TX9, 4), (RJ2, TJ2, 3)]
def tysG (ty : Nat → ClassId) : List (ClassId × FieldType) := [(ty 0, .int), (ty 1, .boolean), (ty 2, .byte), (ty 3, .short), (ty 4, .object "java/lang/Object"), (ty 5, .object "CafeTables$Sheet")]
/-! an object with numbers and arrays of numbers: its class's number in vwCl, how many fields, which are numbers, which are arrays, how long, which of booleans -/
abbrev Lay : Type := Nat × Nat × (Nat → Bool) × List Nat × (Nat → Nat) × (Nat → Bool)
def gfs (Y : Lay) (ad : Nat → Nat) (σ : Sg) : List Value := (List.range Y.2.1).map (fun k => if Y.2.2.1 k then .int (σ k 0) else .ref (ad k))
def gar (Y : Lay) (ty : Nat → ClassId) (ad : Nat → Nat) (σ : Sg) : va_W := Y.2.2.2.1.map (fun k => (ad k, .inl (ty (if Y.2.2.2.2.2 k then 1 else 0), Y.2.2.2.2.1 k, .inl (σ k))))
def gw (Y : Lay) (ty : Nat → ClassId) (o : Nat) (ad : Nat → Nat) (σ : Sg) (ex : va_W) : va_W := (o, .inr (Y.1, gfs Y ad σ)) :: (gar Y ty ad σ ++ ex)
def gOK (Y : Lay) : Bool := Y.2.2.2.1.all (fun j => !Y.2.2.1 j) && va_nd Y.2.2.2.1
theorem gfs_at {Y : Lay} {ad : Nat → Nat} {σ : Sg} {k : Nat} (hk : k < Y.2.1) : (gfs Y ad σ)[k]? = some (if Y.2.2.1 k then .int (σ k 0) else .ref (ad k)) := by
  simp [gfs, List.getElem?_map, List.getElem?_range hk]
theorem gfs_len {Y : Lay} {ad : Nat → Nat} {σ : Sg} : (gfs Y ad σ).length = Y.2.1 := by simp [gfs]
theorem gw_setS {Y : Lay} (hY : gOK Y = true) {ty : Nat → ClassId} {o : Nat} {ad : Nat → Nat} {σ : Sg} {ex : va_W} {k : Nat} (hk : k < Y.2.1) (hs : Y.2.2.1 k = true) (v : Int32) :
    (gw Y ty o ad σ ex).set 0 (o, .inr (Y.1, (gfs Y ad σ).set k (.int v))) = gw Y ty o ad (up σ k 0 v) ex := by
  simp only [gOK, Bool.and_eq_true, List.all_eq_true] at hY
  have h1 : (gfs Y ad σ).set k (.int v) = gfs Y ad (up σ k 0 v) := by
    apply List.ext_getElem?
    intro j
    by_cases hj : j = k
    · subst hj
      rw [List.getElem?_set_self (by rw [gfs_len]; exact hk), gfs_at hk, hs]
      simp [up_s]
    · rw [List.getElem?_set_ne (Ne.symm hj)]
      by_cases hl : j < Y.2.1
      · rw [gfs_at hl, gfs_at hl, up_k hj]
      · rw [List.getElem?_eq_none (by rw [gfs_len]; omega), List.getElem?_eq_none (by rw [gfs_len]; omega)]
  have h2 : gar Y ty ad (up σ k 0 v) = gar Y ty ad σ := by
    unfold gar
    apply List.map_congr_left
    intro j hj
    have : j ≠ k := by
      intro e
      have := hY.1 j hj
      rw [e, hs] at this
      simp at this
    simp only [up_rk this]
  unfold gw
  rw [h2, ← h1]
  rfl
theorem gar_at {Y : Lay} {ty : Nat → ClassId} {o : Nat} {ad : Nat → Nat} {σ : Sg} {ex : va_W} {p k : Nat} (hp : Y.2.2.2.1[p]? = some k) : (gw Y ty o ad σ ex)[p + 1]? = some (ad k, .inl (ty (if Y.2.2.2.2.2 k then 1 else 0), Y.2.2.2.2.1 k, .inl (σ k))) := by
  have hl := (List.getElem?_eq_some_iff.mp hp).1
  show (gar Y ty ad σ ++ ex)[p]? = _
  rw [List.getElem?_append_left (by simpa [gar] using hl)]
  simp [gar, List.getElem?_map, hp]
theorem gw_setA {Y : Lay} (hY : gOK Y = true) {ty : Nat → ClassId} {o : Nat} {ad : Nat → Nat} {σ : Sg} {ex : va_W} {p k : Nat} (hp : Y.2.2.2.1[p]? = some k) (i : Nat) (v : Int32) :
    (gw Y ty o ad σ ex).set (p + 1) (ad k, .inl (ty (if Y.2.2.2.2.2 k then 1 else 0), Y.2.2.2.2.1 k, .inl (upd (σ k) i v))) = gw Y ty o ad (up σ k i v) ex := by
  simp only [gOK, Bool.and_eq_true, List.all_eq_true] at hY
  have hl := (List.getElem?_eq_some_iff.mp hp).1
  have hk : Y.2.2.1 k = false := by
    have := hY.1 k (List.mem_of_getElem? hp)
    simpa using this
  have h1 : gfs Y ad (up σ k i v) = gfs Y ad σ := by
    unfold gfs
    apply List.map_congr_left
    intro j _
    by_cases hj : j = k
    · subst hj; simp [hk]
    · rw [up_k hj]
  have h2 : (gar Y ty ad σ).set p (ad k, .inl (ty (if Y.2.2.2.2.2 k then 1 else 0), Y.2.2.2.2.1 k, .inl (upd (σ k) i v))) = gar Y ty ad (up σ k i v) := by
    apply List.ext_getElem?
    intro j
    by_cases hj : j = p
    · subst hj
      rw [List.getElem?_set_self (by simpa [gar] using hl)]
      simp [gar, List.getElem?_map, hp, up_rs]
    · rw [List.getElem?_set_ne (Ne.symm hj)]
      unfold gar
      rw [List.getElem?_map, List.getElem?_map]
      cases hq : Y.2.2.2.1[j]? with
      | none => rfl
      | some x =>
        have hx : x ≠ k := by
          intro e
          subst e
          exact hj (va_nd_inj _ hY.2 j p x hq hp)
        simp only [Option.map_some, up_rk hx]
  have hpl : p < (gar Y ty ad σ).length := by simpa [gar] using hl
  show (o, _) :: (gar Y ty ad σ ++ ex).set p _ = _
  rw [List.set_append_left _ _ hpl, h2]
  unfold gw
  rw [h1]
/-! what holds between two instructions: the world's cells lie there, are apart, and since the start nothing else has changed -/
def gI (s : State) (D : va_G) (A : Nat → Prop) (ws : va_W) (H : Heap) (locs : List Loc) : Prop := va_P D vwCl ws H ∧ va_D A ws ∧ va_S A s.heap H locs
abbrev En (p : Program) (s : State) (m : MethodId) (args : Array Value) (c : Code) (cc : ByteArray) (nL : Nat) (own : String) : Prop := CallFix p m c cc nL s args lw_all own
/-- a context: what of the rest of the heap and of the tables a method leans on -/
def CxOk (Cx : (Nat → Prop) → State → Prop) : Prop := (∀ A u U, u.vm = U.vm → u.heap = U.heap → Cx A u → Cx A U) ∧ (∀ A A1 s U, Cx A s → s.WarmedH U.vm → s.heap.size ≤ U.heap.size → (∀ q : Nat, q < s.heap.size → ¬ A q → U.heap[q]? = s.heap[q]?) → (∀ q, A1 q → A q) → Cx A1 U)
def Cx0 : (Nat → Prop) → State → Prop := fun _ _ => True
theorem Cx0.ok : CxOk Cx0 := ⟨fun _ _ _ _ _ _ => trivial, fun _ _ _ _ _ _ _ _ _ => trivial⟩
def rmL (k : Nat) : Room := { frames := k, cells := 0, slots := 0, locals := 48 * k }
/-- a contract's start -/
def KP {S : Type} (D : va_G) (ty : Nat → ClassId) (Cx : (Nat → Prop) → State → Prop) (wl : S → va_W) (S0 : S) (sz : Nat) (as : List Value) : Array Value → State → Prop := va_Pc as (fun U => U.heap.size = sz ∧ va_P D vwCl (wl S0) U.heap ∧ va_K D vwCl (tysG ty) U ∧ va_D (fun _ => True) (wl S0) ∧ Cx (va_A (wl S0) sz) U)
def KB {S : Type} (D : va_G) (A : Nat → Prop) (wl : S → va_W) : S → State → Prop := fun S' t => va_P D vwCl (wl S') t.heap ∧ va_D A (wl S')
def Ki (l : Launch) (y : MethodName) (cc : ByteArray) (nL : Nat) (rt : FieldType) (rm : Room) (D : va_G) (ty : Nat → ClassId) (Cx : (Nat → Prop) → State → Prop) (as : List Value) {S : Type} (wl : S → va_W) (S0 : S) (post : Int32 → S → Prop) : Prop :=
  ∀ sz, Met l y (ws_ y cc nL (some rt)) rm (KP D ty Cx wl S0 sz as) (va_Qi post (KB D (va_A (wl S0) sz) wl) (va_A (wl S0) sz)) rm.cells rm.slots (va_A (wl S0) sz)
def Kl (l : Launch) (y : MethodName) (cc : ByteArray) (nL : Nat) (rm : Room) (D : va_G) (ty : Nat → ClassId) (Cx : (Nat → Prop) → State → Prop) (as : List Value) {S : Type} (wl : S → va_W) (S0 : S) (post : Int64 → S → Prop) : Prop :=
  ∀ sz, Met l y (ws_ y cc nL (some .long)) rm (KP D ty Cx wl S0 sz as) (va_Ql post (KB D (va_A (wl S0) sz) wl) (va_A (wl S0) sz)) rm.cells rm.slots (va_A (wl S0) sz)
def Kv (l : Launch) (y : MethodName) (cc : ByteArray) (nL : Nat) (rm : Room) (D : va_G) (ty : Nat → ClassId) (Cx : (Nat → Prop) → State → Prop) (as : List Value) {S : Type} (wl : S → va_W) (S0 : S) (post : S → Prop) : Prop :=
  ∀ sz, Met l y (ws_ y cc nL none) rm (KP D ty Cx wl S0 sz as) (va_Qv post (KB D (va_A (wl S0) sz) wl) (va_A (wl S0) sz)) rm.cells rm.slots (va_A (wl S0) sz)
/-- a static method that touches no cell -/
def Pi (l : Launch) (y : MethodName) (cc : ByteArray) (nL : Nat) (rt : FieldType) (rm : Room) (as : List Value) (post : Int32 → Prop) : Prop := Met l y (ws_ y cc nL (some rt)) rm (va_Pc as (fun _ => True)) (vp_Si post) 0 0 (fun _ => False)
def Pl (l : Launch) (y : MethodName) (cc : ByteArray) (nL : Nat) (rm : Room) (as : List Value) (post : Int64 → Prop) : Prop := Met l y (ws_ y cc nL (some .long)) rm (va_Pc as (fun _ => True)) (vp_Sl post) 0 0 (fun _ => False)
theorem lv_as {ls : Array Slot} {n : Nat} {L L' : List (Nat × Value)} (h : lv_has ls n L) (e : L = L') : lv_has ls n L' := e ▸ h
