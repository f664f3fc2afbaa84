set_option maxRecDepth 100000
set_option maxHeartbeats 4000000
def oI : Option Nat → Int32
  | none => -9
  | some n => nI n
theorem nI_ne9 {n : Nat} (h : n < 1000) : ¬ nI n = -9 := by
  intro e
  have h1 := congrArg Int32.toInt e
  rw [nI_toInt (by omega)] at h1
  have h2 : (-9 : Int32).toInt = -9 := by decide
  omega
theorem nI_i {a b : Nat} (ha : a < 1000) (hb : b < 1000) : nI a = nI b ↔ a = b := nI_eq (by omega) (by omega)
theorem oI_some {x : Option Nat} (h : ¬ oI x = -9) : ∃ b, x = some b := by
  cases x with
  | none => exact absurd rfl h
  | some b => exact ⟨b, rfl⟩
theorem oI_none {x : Option Nat} (hx : ∀ b, x = some b → b < 1000) (h : oI x = -9) : x = none := by
  cases x with
  | none => rfl
  | some b => exact absurd h (nI_ne9 (hx b rfl))
/-- the first of r numbers from i on for which p holds -/
def ffo (p : Nat → Bool) : Nat → Nat → Option Nat
  | 0, _ => none
  | r + 1, i => if p i then some i else ffo p r (i + 1)
theorem ffo_lt {p : Nat → Bool} : ∀ {r i b : Nat}, ffo p r i = some b → i ≤ b ∧ b < i + r
  | 0, _, _, h => by simp [ffo] at h
  | r + 1, i, b, h => by
    unfold ffo at h
    split at h
    · cases h; omega
    · have := ffo_lt h; omega
theorem ffo_t {p : Nat → Bool} {n i : Nat} (hi : i < n) (h : p i = true) : ffo p (n - i) i = some i := by
  rw [show n - i = (n - (i + 1)) + 1 by omega]; simp [ffo, h]
theorem ffo_f {p : Nat → Bool} {n i : Nat} (hi : i < n) (h : p i = false) : ffo p (n - i) i = ffo p (n - (i + 1)) (i + 1) := by
  rw [show n - i = (n - (i + 1)) + 1 by omega]; simp [ffo, h]
/-- of the numbers below n for which p holds the first of least q -/
def smo (p : Nat → Bool) (q : Nat → Int32) : Nat → Option Nat
  | 0 => none
  | n + 1 => if p n && (match smo p q n with | none => true | some b => decide (q n < q b)) then some n else smo p q n
theorem ite_or {α : Type} {c : Prop} [Decidable c] {a b x : α} (h : (if c then a else b) = x) : a = x ∨ b = x := by
  by_cases hc : c
  · rw [if_pos hc] at h; exact Or.inl h
  · rw [if_neg hc] at h; exact Or.inr h
theorem smo_lt {p : Nat → Bool} {q : Nat → Int32} : ∀ {n b : Nat}, smo p q n = some b → b < n
  | 0, _, h => by simp [smo] at h
  | n + 1, b, h => by
    rcases ite_or h with h | h
    · cases h; omega
    · have := smo_lt h; omega
theorem smo_a {p : Nat → Bool} {q : Nat → Int32} {n : Nat} (hp : p n = true) (h : smo p q n = none) : smo p q (n + 1) = some n := by
  simp [smo, hp, h]
theorem smo_b {p : Nat → Bool} {q : Nat → Int32} {n b : Nat} (hp : p n = true) (h : smo p q n = some b) (hq : q n < q b) : smo p q (n + 1) = some n := by
  simp [smo, hp, h, hq]
theorem smo_c {p : Nat → Bool} {q : Nat → Int32} {n b : Nat} (h : smo p q n = some b) (hq : ¬ q n < q b) : smo p q (n + 1) = smo p q n := by
  simp [smo, h, hq]
theorem smo_d {p : Nat → Bool} {q : Nat → Int32} {n : Nat} (hp : p n = false) : smo p q (n + 1) = smo p q n := by
  simp [smo, hp]
/-- is p so for some number below n -/
def anyB (p : Nat → Bool) : Nat → Bool
  | 0 => false
  | n + 1 => anyB p n || p n
def sumI (f : Nat → Int32) : Nat → Int32
  | 0 => 0
  | n + 1 => sumI f n + f n
def mWt (σ : Sg) (x : Int32) (g : Nat) : Bool := !decide (nI g = x) && decide (σ 32 g = 2)
def mFree (σ : Sg) (t : Nat) : Bool := decide (σ 30 t = -9) && decide (σ 31 t = 0)
def mFit (σ : Sg) (g t : Nat) : Bool := mFree σ t && !decide (σ 25 t < σ 18 g)
def mFitW (σ : Sg) (g : Nat) (w : Bool) (t : Nat) : Bool := mFit σ g t && (!w || decide (σ 24 t = σ 21 g))
def mSm (σ : Sg) (g : Nat) (w : Bool) (n : Nat) : Option Nat := smo (mFitW σ g w) (σ 25) n
def mFst (σ : Sg) (g n : Nat) : Option Nat := ffo (mFit σ g) n 0
def mPair (σ : Sg) (g t : Nat) : Bool := mFree σ t && mFree σ (t + 1) && !decide (σ 25 t + σ 25 (t + 1) < σ 18 g)
def mJn (σ : Sg) (g n : Nat) : Option Nat := ffo (mPair σ g) (n - 1) 0
def mTk (σ : Sg) (g t : Nat) : Sg := up σ 30 t (nI g)
def mTk2 (σ : Sg) (g t : Nat) : Sg := up (up σ 30 t (nI g)) 30 (t + 1) (nI g)
def mJoin (σ : Sg) (g n : Nat) : Sg := match mJn σ g n with | none => σ | some t => mTk2 σ g t
def mBest (σ : Sg) (g n : Nat) : Option Nat := match (if σ 26 0 = 2 then mSm σ g true n else none) with
  | some b => some b
  | none => if σ 26 0 = 0 then mFst σ g n else mSm σ g false n
def mCan (σ : Sg) (g n : Nat) : Bool := (mBest σ g n).isSome || (!decide (σ 10 0 = 0) && (mJn σ g n).isSome)
def mTakes (σ : Sg) (g n : Nat) : Sg := match mBest σ g n with
  | some t => mTk σ g t
  | none => if σ 10 0 = 0 then σ else mJoin σ g n
def clr (σ : Sg) (g n : Nat) : Sg := fun a b => if a = 30 then (if b < n ∧ σ 30 b = nI g then -9 else σ a b) else σ a b
theorem clr_at (σ : Sg) (g n : Nat) : clr σ g n 30 n = σ 30 n := by simp [clr]
theorem clr_k {a : Nat} (h : a ≠ 30) (σ : Sg) (g n b : Nat) : clr σ g n a b = σ a b := by simp [clr, h]
theorem clr_s {σ : Sg} {g n : Nat} (h : σ 30 n = nI g) : up (clr σ g n) 30 n (-9) = clr σ g (n + 1) := by
  funext a b
  by_cases ha : a = 30
  · by_cases hb : b = n
    · simp [clr, up, ha, hb, h]
    · have : (b < n + 1) = (b < n) := by apply propext; omega
      simp [clr, up, ha, hb, this]
  · simp [clr, up, ha]
theorem clr_n {σ : Sg} {g n : Nat} (h : ¬ σ 30 n = nI g) : clr σ g n = clr σ g (n + 1) := by
  funext a b
  by_cases ha : a = 30
  · by_cases hb : b = n
    · simp [clr, ha, hb, h]
    · have : (b < n + 1) = (b < n) := by apply propext; omega
      simp [clr, ha, this]
  · simp [clr, ha]
theorem clr_0 (σ : Sg) (g : Nat) : σ = clr σ g 0 := by
  funext a b; simp [clr]
def mGoes (σ : Sg) (g : Nat) (x : Int32) : Sg := up (up σ 32 g 5) 36 g (mCoinOf σ g (x - σ 34 g))
def mSunT (σ : Sg) (g t : Nat) : Bool := decide (σ 30 t = nI g) && decide (σ 24 t = 0)
def lwT (p : Nat → Bool) : Nat → Int32 → Int32
  | 0, x => x
  | n + 1, x => lwT p n (if p n then nI n else x)
theorem m_manyWait (l : Launch) (D : va_G) (ty : Nat → ClassId) (o : Nat) (ad : Nat → Nat) (σ : Sg) (x : Int32) (G : Nat) (hG : G ≤ 8) (h16 : σ 16 0 = nI G) : mKi l yX1_manyWait cX1_manyWait 4 .int 1 D ty o ad σ [.int x] (fun r τ => r = nI (cnt (mWt σ x) G) ∧ τ = σ) := by
  refine Ki.of (by decide) (Nat.le_of_ble_eq_true rfl) ?_
  intro p e s m below meth c A ls args E hK hA hX hlk hr I hl
  have hx := E.1
  have hb := E.2.1
  have hl : lv_has ls 4 [(0, .ref o), (1, .int x)] := hl
  refine nameQ (fun Q hQ => ?_)
  refine lv_iconst (v := 0) hx hb dX1_manyWait_0 (by decide) ?_
  refine lv_istore_n (lv' := [(2, .int 0), (0, .ref o), (1, .int x)]) hx hb dX1_manyWait_1 rfl hl (by decide) rfl (fun ls hl => ?_)
  refine lv_iconst (v := 0) hx hb dX1_manyWait_2 (by decide) ?_
  refine lv_istore_n (lv' := [(3, .int 0), (2, .int 0), (0, .ref o), (1, .int x)]) hx hb dX1_manyWait_3 rfl hl (by decide) rfl (fun ls hl => ?_)
  have L4 : ∀ i, i ≤ G → ∀ (H : Heap) (locs : List Loc) (ls : Array Slot), gI s D A (mW ty o ad σ) H locs → lv_has ls 4 [(0, .ref o), (1, .int x), (2, .int (nI (cnt (mWt σ x) i))), (3, .int (nI i))] → W p l e (rmL 1) s m args below meth c H locs 0 0 Q (F0 m 4 ls []) := by
    refine dn_ind G ?_ ?_
    · intro H locs ls I hl
      refine lv_iload_n hx hb dX1_manyWait_4 rfl (lv_at hl 3 rfl) ?_
      refine lv_aload_n hx hb dX1_manyWait_5 rfl (lv_at hl 0 rfl) ?_
      refine m_get (v := .int (nI G)) E hK I 16 rfl q1131 (congrArg Value.int (h16)) dX1_manyWait_6 ?_
      refine lv_icmp_ge (tgt := 41) hx hb dX1_manyWait_9 (by decide) (fun c9 => ?_) (fun c9 => absurd c9 (fun h => h (Int32.le_refl _)))
      refine lv_iload_n hx hb dX1_manyWait_41 rfl (lv_at hl 2 rfl) ?_
      subst hQ
      exact r_i E hlk hr I (Nat.le_refl 0) (Nat.le_refl 0) dX1_manyWait_42 (⟨rfl, rfl⟩)
    · intro i hi ih4 H locs ls I hl
      refine lv_iload_n hx hb dX1_manyWait_4 rfl (lv_at hl 3 rfl) ?_
      refine lv_aload_n hx hb dX1_manyWait_5 rfl (lv_at hl 0 rfl) ?_
      refine m_get (v := .int (nI G)) E hK I 16 rfl q1131 (congrArg Value.int (h16)) dX1_manyWait_6 ?_
      refine lv_icmp_ge (tgt := 41) hx hb dX1_manyWait_9 (by decide) (fun c9 => absurd c9 (nI_ge hi (by omega))) (fun c9 => ?_)
      refine lv_iload_n hx hb dX1_manyWait_12 rfl (lv_at hl 2 rfl) ?_
      refine lv_iload_n hx hb dX1_manyWait_13 rfl (lv_at hl 3 rfl) ?_
      refine lv_iload_n hx hb dX1_manyWait_14 rfl (lv_at hl 1 rfl) ?_
      refine lv_icmp_eq (tgt := 32) hx hb dX1_manyWait_15 (by decide) (fun c15 => ?_) (fun c15 => ?_)
      · refine lv_iconst (v := 0) hx hb dX1_manyWait_32 (by decide) ?_
        refine lv_iadd hx hb dX1_manyWait_33 ?_
        refine lv_istore_n (lv' := [(2, .int ((nI (cnt (mWt σ x) i)) + 0)), (0, .ref o), (1, .int x), (3, .int (nI i))]) hx hb dX1_manyWait_34 rfl hl (by decide) rfl (fun ls hl => ?_)
        refine lv_iinc (v := nI (i + 1)) (lv' := [(3, .int (nI (i + 1))), (2, .int ((nI (cnt (mWt σ x) i)) + 0)), (0, .ref o), (1, .int x)]) hx hb dX1_manyWait_35 hl (k := 3) rfl (nI_1 _) (by decide) rfl (fun ls hl => ?_)
        refine lv_goto (tgt := 4) hx hb dX1_manyWait_38 (by decide) ?_
        exact ih4 _ _ ls (m_as I (rfl)) (lv_as (lv_sub (l' := [(0, .ref o), (1, .int x), (2, .int ((nI (cnt (mWt σ x) i)) + 0)), (3, .int (nI (i + 1)))]) hl [2, 3, 1, 0] rfl) (by simp [cnt, mWt, nI_succ, c9, c15]))
      · refine lv_aload_n hx hb dX1_manyWait_18 rfl (lv_at hl 0 rfl) ?_
        refine m_get E hK I 32 rfl q1147 rfl dX1_manyWait_19 ?_
        refine lv_iload_n hx hb dX1_manyWait_22 rfl (lv_at hl 3 rfl) ?_
        refine m_ald (i := i) E hK I 17 rfl rfl rfl dX1_manyWait_23 (by simp only [mLn]; omega) ?_
        refine lv_iconst (v := 2) hx hb dX1_manyWait_24 (by decide) ?_
        refine lv_icmp_ne (tgt := 32) hx hb dX1_manyWait_25 (by decide) (fun c25 => ?_) (fun c25 => ?_)
        · refine lv_iconst (v := 0) hx hb dX1_manyWait_32 (by decide) ?_
          refine lv_iadd hx hb dX1_manyWait_33 ?_
          refine lv_istore_n (lv' := [(2, .int ((nI (cnt (mWt σ x) i)) + 0)), (0, .ref o), (1, .int x), (3, .int (nI i))]) hx hb dX1_manyWait_34 rfl hl (by decide) rfl (fun ls hl => ?_)
          refine lv_iinc (v := nI (i + 1)) (lv' := [(3, .int (nI (i + 1))), (2, .int ((nI (cnt (mWt σ x) i)) + 0)), (0, .ref o), (1, .int x)]) hx hb dX1_manyWait_35 hl (k := 3) rfl (nI_1 _) (by decide) rfl (fun ls hl => ?_)
          refine lv_goto (tgt := 4) hx hb dX1_manyWait_38 (by decide) ?_
          exact ih4 _ _ ls (m_as I (rfl)) (lv_as (lv_sub (l' := [(0, .ref o), (1, .int x), (2, .int ((nI (cnt (mWt σ x) i)) + 0)), (3, .int (nI (i + 1)))]) hl [2, 3, 1, 0] rfl) (by simp [cnt, mWt, nI_succ, c9, c15, c25]))
        · refine lv_iconst (v := 1) hx hb dX1_manyWait_28 (by decide) ?_
          refine lv_goto (tgt := 33) hx hb dX1_manyWait_29 (by decide) ?_
          refine lv_iadd hx hb dX1_manyWait_33 ?_
          refine lv_istore_n (lv' := [(2, .int ((nI (cnt (mWt σ x) i)) + 1)), (0, .ref o), (1, .int x), (3, .int (nI i))]) hx hb dX1_manyWait_34 rfl hl (by decide) rfl (fun ls hl => ?_)
          refine lv_iinc (v := nI (i + 1)) (lv' := [(3, .int (nI (i + 1))), (2, .int ((nI (cnt (mWt σ x) i)) + 1)), (0, .ref o), (1, .int x)]) hx hb dX1_manyWait_35 hl (k := 3) rfl (nI_1 _) (by decide) rfl (fun ls hl => ?_)
          refine lv_goto (tgt := 4) hx hb dX1_manyWait_38 (by decide) ?_
          exact ih4 _ _ ls (m_as I (rfl)) (lv_as (lv_sub (l' := [(0, .ref o), (1, .int x), (2, .int ((nI (cnt (mWt σ x) i)) + 1)), (3, .int (nI (i + 1)))]) hl [2, 3, 1, 0] rfl) (by simp [cnt, mWt, nI_succ, c9, c15, c25]))
  exact L4 0 (Nat.zero_le _) _ _ ls (m_as I (rfl)) (lv_as (lv_sub (l' := [(0, .ref o), (1, .int x), (2, .int 0), (3, .int 0)]) hl [2, 3, 1, 0] rfl) (rfl))
theorem dc_m_manyWait : yX1_manyWait.cls = RX1 ∧ yX1_manyWait.cls ≠ "java/lang/invoke/MethodHandle" ∧ yX1_manyWait.cls ≠ "java/lang/invoke/VarHandle" ∧ (parseMethodDescriptor yX1_manyWait.desc).map (fun d => d.parameters.length) = some 1 := by decide +kernel
theorem go_m_manyWait : GoodIn lw_all (wsV RX1 185 RX1 yX1_manyWait (ws_ yX1_manyWait cX1_manyWait 4 (some .int))) := lw_V q1390 q1392 qs58 q75 q1393
theorem m_isFree (l : Launch) (D : va_G) (ty : Nat → ClassId) (o : Nat) (ad : Nat → Nat) (σ : Sg) (t : Nat) (ht : t < 6) : mKi l yX1_isFree cX1_isFree 2 .boolean 1 D ty o ad σ [.int (nI t)] (fun r τ => r = bI (mFree σ t) ∧ τ = σ) := by
  refine Ki.of (by decide) (Nat.le_of_ble_eq_true rfl) ?_
  intro p e s m below meth c A ls args E hK hA hX hlk hr I hl
  have hx := E.1
  have hb := E.2.1
  have hl : lv_has ls 2 [(0, .ref o), (1, .int (nI t))] := hl
  refine lv_aload_n hx hb dX1_isFree_0 rfl (lv_at hl 0 rfl) ?_
  refine m_get E hK I 30 rfl q1145 rfl dX1_isFree_1 ?_
  refine lv_iload_n hx hb dX1_isFree_4 rfl (lv_at hl 1 rfl) ?_
  refine m_ald (i := t) E hK I 15 rfl rfl rfl dX1_isFree_5 (by simp only [mLn]; omega) ?_
  refine lv_bipush (v := (-9)) hx hb dX1_isFree_6 (by decide) ?_
  refine lv_icmp_ne (tgt := 24) hx hb dX1_isFree_8 (by decide) (fun c8 => ?_) (fun c8 => ?_)
  · refine lv_iconst (v := 0) hx hb dX1_isFree_24 (by decide) ?_
    exact r_z (b := false) E hlk hr I (Nat.le_refl 0) (Nat.le_refl 0) dX1_isFree_25 rfl (⟨by simp [mFree, c8], rfl⟩)
  · refine lv_aload_n hx hb dX1_isFree_11 rfl (lv_at hl 0 rfl) ?_
    refine m_get E hK I 31 rfl q1146 rfl dX1_isFree_12 ?_
    refine lv_iload_n hx hb dX1_isFree_15 rfl (lv_at hl 1 rfl) ?_
    refine m_zld (i := t) E hK I 16 rfl rfl rfl dX1_isFree_16 (by simp only [mLn]; omega) ?_
    refine lv_if_ne (tgt := 24) hx hb dX1_isFree_17 (by decide) (fun c17 => ?_) (fun c17 => ?_)
    · refine lv_iconst (v := 0) hx hb dX1_isFree_24 (by decide) ?_
      exact r_z (b := false) E hlk hr I (Nat.le_refl 0) (Nat.le_refl 0) dX1_isFree_25 rfl (⟨by simp [mFree, c8, c17], rfl⟩)
    · refine lv_iconst (v := 1) hx hb dX1_isFree_20 (by decide) ?_
      refine lv_goto (tgt := 25) hx hb dX1_isFree_21 (by decide) ?_
      exact r_z (b := true) E hlk hr I (Nat.le_refl 0) (Nat.le_refl 0) dX1_isFree_25 rfl (⟨by simp [mFree, c8, c17], rfl⟩)
theorem dc_m_isFree : yX1_isFree.cls = RX1 ∧ yX1_isFree.cls ≠ "java/lang/invoke/MethodHandle" ∧ yX1_isFree.cls ≠ "java/lang/invoke/VarHandle" ∧ (parseMethodDescriptor yX1_isFree.desc).map (fun d => d.parameters.length) = some 1 := by decide +kernel
theorem go_m_isFree : GoodIn lw_all (wsV RX1 230 RX1 yX1_isFree (ws_ yX1_isFree cX1_isFree 2 (some .boolean))) := lw_V q1366 q1368 qs52 q75 q1369
theorem m_firstFor (l : Launch) (D : va_G) (ty : Nat → ClassId) (o : Nat) (ad : Nat → Nat) (σ : Sg) (g : Nat) (hg : g < 8) (T : Nat) (hT : T ≤ 6) (h23 : σ 23 0 = nI T) : mKi l yX1_firstFor cX1_firstFor 3 .int 2 D ty o ad σ [.int (nI g)] (fun r τ => r = oI (mFst σ g T) ∧ τ = σ) := by
  refine Ki.of (by decide) (Nat.le_of_ble_eq_true rfl) ?_
  intro p e s m below meth c A ls args E hK hA hX hlk hr I hl
  have hx := E.1
  have hb := E.2.1
  have hl : lv_has ls 3 [(0, .ref o), (1, .int (nI g))] := hl
  refine nameQ (fun Q hQ => ?_)
  refine lv_iconst (v := 0) hx hb dX1_firstFor_0 (by decide) ?_
  refine lv_istore_n (lv' := [(2, .int 0), (0, .ref o), (1, .int (nI g))]) hx hb dX1_firstFor_1 rfl hl (by decide) rfl (fun ls hl => ?_)
  have L2 : ∀ i, i ≤ T → (mFst σ g T = ffo (mFit σ g) (T - i) i) → ∀ (H : Heap) (locs : List Loc) (ls : Array Slot), gI s D A (mW ty o ad σ) H locs → lv_has ls 3 [(0, .ref o), (1, .int (nI g)), (2, .int (nI i))] → W p l e (rmL 2) s m args below meth c H locs 0 0 Q (F0 m 2 ls []) := by
    refine dn_ind T ?_ ?_
    · intro hn H locs ls I hl
      refine lv_iload_n hx hb dX1_firstFor_2 rfl (lv_at hl 2 rfl) ?_
      refine lv_aload_n hx hb dX1_firstFor_3 rfl (lv_at hl 0 rfl) ?_
      refine m_get (v := .int (nI T)) E hK I 23 rfl q1138 (congrArg Value.int (h23)) dX1_firstFor_4 ?_
      refine lv_icmp_ge (tgt := 41) hx hb dX1_firstFor_7 (by decide) (fun c7 => ?_) (fun c7 => absurd c7 (fun h => h (Int32.le_refl _)))
      refine lv_bipush (v := (-9)) hx hb dX1_firstFor_41 (by decide) ?_
      subst hQ
      exact r_i E hlk hr I (Nat.le_refl 0) (Nat.le_refl 0) dX1_firstFor_43 (⟨by rw [hn, Nat.sub_self]; rfl, rfl⟩)
    · intro i hi ih2 hn H locs ls I hl
      refine lv_iload_n hx hb dX1_firstFor_2 rfl (lv_at hl 2 rfl) ?_
      refine lv_aload_n hx hb dX1_firstFor_3 rfl (lv_at hl 0 rfl) ?_
      refine m_get (v := .int (nI T)) E hK I 23 rfl q1138 (congrArg Value.int (h23)) dX1_firstFor_4 ?_
      refine lv_icmp_ge (tgt := 41) hx hb dX1_firstFor_7 (by decide) (fun c7 => absurd c7 (nI_ge hi (by omega))) (fun c7 => ?_)
      refine lv_aload_n hx hb dX1_firstFor_10 rfl (lv_at hl 0 rfl) ?_
      refine lv_iload_n hx hb dX1_firstFor_11 rfl (lv_at hl 2 rfl) ?_
      refine m_ci E hK hA I (m_isFree l D ty o ad σ i (by omega)) go_m_isFree dc_m_isFree ⟨Nat.le_of_ble_eq_true rfl, Nat.le_of_ble_eq_true rfl⟩ ⟨Nat.le_refl 0, Nat.le_refl 0⟩ hl.1 (Nat.le_of_ble_eq_true rfl) rfl dX1_firstFor_12 (fun r12 σ12 H locs hp I => ?_)
      refine top_i (y := bI (mFree σ i)) hp.1 ?_
      have I := m_as I hp.2
      refine b_eq (tgt := 35) hx hb dX1_firstFor_15 (by decide) (fun c15 => ?_) (fun c15 => ?_)
      · refine lv_iinc (v := nI (i + 1)) (lv' := [(2, .int (nI (i + 1))), (0, .ref o), (1, .int (nI g))]) hx hb dX1_firstFor_35 hl (k := 2) rfl (nI_1 _) (by decide) rfl (fun ls hl => ?_)
        refine lv_goto (tgt := 2) hx hb dX1_firstFor_38 (by decide) ?_
        exact ih2 (hn.trans (ffo_f hi (by simp [mFit, c7, c15]))) _ _ ls (m_as I (rfl)) (lv_as (lv_sub (l' := [(0, .ref o), (1, .int (nI g)), (2, .int (nI (i + 1)))]) hl [1, 2, 0] rfl) (rfl))
      · refine lv_aload_n hx hb dX1_firstFor_18 rfl (lv_at hl 0 rfl) ?_
        refine m_get E hK I 25 rfl q1140 rfl dX1_firstFor_19 ?_
        refine lv_iload_n hx hb dX1_firstFor_22 rfl (lv_at hl 2 rfl) ?_
        refine m_ald (i := i) E hK I 14 rfl rfl rfl dX1_firstFor_23 (by simp only [mLn]; omega) ?_
        refine lv_aload_n hx hb dX1_firstFor_24 rfl (lv_at hl 0 rfl) ?_
        refine m_get E hK I 18 rfl q1133 rfl dX1_firstFor_25 ?_
        refine lv_iload_n hx hb dX1_firstFor_28 rfl (lv_at hl 1 rfl) ?_
        refine m_ald (i := g) E hK I 8 rfl rfl rfl dX1_firstFor_29 (by simp only [mLn]; omega) ?_
        refine lv_icmp_lt (tgt := 35) hx hb dX1_firstFor_30 (by decide) (fun c30 => ?_) (fun c30 => ?_)
        · refine lv_iinc (v := nI (i + 1)) (lv' := [(2, .int (nI (i + 1))), (0, .ref o), (1, .int (nI g))]) hx hb dX1_firstFor_35 hl (k := 2) rfl (nI_1 _) (by decide) rfl (fun ls hl => ?_)
          refine lv_goto (tgt := 2) hx hb dX1_firstFor_38 (by decide) ?_
          exact ih2 (hn.trans (ffo_f hi (by simp [mFit, c7, c15, c30]))) _ _ ls (m_as I (rfl)) (lv_as (lv_sub (l' := [(0, .ref o), (1, .int (nI g)), (2, .int (nI (i + 1)))]) hl [1, 2, 0] rfl) (rfl))
        · refine lv_iload_n hx hb dX1_firstFor_33 rfl (lv_at hl 2 rfl) ?_
          subst hQ
          exact r_i E hlk hr I (Nat.le_refl 0) (Nat.le_refl 0) dX1_firstFor_34 (⟨by rw [hn, ffo_t hi (by simp [mFit, c7, c15, c30])]; rfl, rfl⟩)
  exact L2 0 (Nat.zero_le _) (rfl) _ _ ls (m_as I (rfl)) (lv_as (lv_sub (l' := [(0, .ref o), (1, .int (nI g)), (2, .int 0)]) hl [1, 2, 0] rfl) (rfl))
theorem dc_m_firstFor : yX1_firstFor.cls = RX1 ∧ yX1_firstFor.cls ≠ "java/lang/invoke/MethodHandle" ∧ yX1_firstFor.cls ≠ "java/lang/invoke/VarHandle" ∧ (parseMethodDescriptor yX1_firstFor.desc).map (fun d => d.parameters.length) = some 1 := by decide +kernel
theorem go_m_firstFor : GoodIn lw_all (wsV RX1 224 RX1 yX1_firstFor (ws_ yX1_firstFor cX1_firstFor 3 (some .int))) := lw_V q1370 q1372 qs53 q75 q1373
theorem m_smallest (l : Launch) (D : va_G) (ty : Nat → ClassId) (o : Nat) (ad : Nat → Nat) (σ : Sg) (g : Nat) (w : Bool) (hg : g < 8) (T : Nat) (hT : T ≤ 6) (h23 : σ 23 0 = nI T) : mKi l yX1_smallest cX1_smallest 6 .int 2 D ty o ad σ [.int (nI g), .int (bI w)] (fun r τ => r = oI (mSm σ g w T) ∧ τ = σ) := by
  refine Ki.of (by decide) (Nat.le_of_ble_eq_true rfl) ?_
  intro p e s m below meth c A ls args E hK hA hX hlk hr I hl
  have hx := E.1
  have hb := E.2.1
  have hl : lv_has ls 6 [(0, .ref o), (1, .int (nI g)), (2, .int (bI w))] := hl
  refine nameQ (fun Q hQ => ?_)
  refine lv_bipush (v := (-9)) hx hb dX1_smallest_0 (by decide) ?_
  refine lv_istore_n (lv' := [(3, .int (-9)), (0, .ref o), (1, .int (nI g)), (2, .int (bI w))]) hx hb dX1_smallest_2 rfl hl (by decide) rfl (fun ls hl => ?_)
  refine lv_iconst (v := 0) hx hb dX1_smallest_3 (by decide) ?_
  refine lv_istore (lv' := [(4, .int 0), (3, .int (-9)), (0, .ref o), (1, .int (nI g)), (2, .int (bI w))]) hx hb dX1_smallest_4 hl (by decide) rfl (fun ls hl => ?_)
  have L6 : ∀ i, i ≤ T → ∀ (H : Heap) (locs : List Loc) (ls : Array Slot), gI s D A (mW ty o ad σ) H locs → lv_has ls 6 [(0, .ref o), (1, .int (nI g)), (2, .int (bI w)), (3, .int (oI (mSm σ g w i))), (4, .int (nI i))] → W p l e (rmL 2) s m args below meth c H locs 0 0 Q (F0 m 6 ls []) := by
    refine dn_ind T ?_ ?_
    · intro H locs ls I hl
      refine lv_iload hx hb dX1_smallest_6 (lv_at hl 4 rfl) ?_
      refine lv_aload_n hx hb dX1_smallest_8 rfl (lv_at hl 0 rfl) ?_
      refine m_get (v := .int (nI T)) E hK I 23 rfl q1138 (congrArg Value.int (h23)) dX1_smallest_9 ?_
      refine lv_icmp_ge (tgt := 103) hx hb dX1_smallest_12 (by decide) (fun c12 => ?_) (fun c12 => absurd c12 (fun h => h (Int32.le_refl _)))
      refine lv_iload_n hx hb dX1_smallest_103 rfl (lv_at hl 3 rfl) ?_
      subst hQ
      exact r_i E hlk hr I (Nat.le_refl 0) (Nat.le_refl 0) dX1_smallest_104 (⟨rfl, rfl⟩)
    · intro i hi ih6 H locs ls I hl
      refine lv_iload hx hb dX1_smallest_6 (lv_at hl 4 rfl) ?_
      refine lv_aload_n hx hb dX1_smallest_8 rfl (lv_at hl 0 rfl) ?_
      refine m_get (v := .int (nI T)) E hK I 23 rfl q1138 (congrArg Value.int (h23)) dX1_smallest_9 ?_
      refine lv_icmp_ge (tgt := 103) hx hb dX1_smallest_12 (by decide) (fun c12 => absurd c12 (nI_ge hi (by omega))) (fun c12 => ?_)
      refine lv_aload_n hx hb dX1_smallest_15 rfl (lv_at hl 0 rfl) ?_
      refine lv_iload hx hb dX1_smallest_16 (lv_at hl 4 rfl) ?_
      refine m_ci E hK hA I (m_isFree l D ty o ad σ i (by omega)) go_m_isFree dc_m_isFree ⟨Nat.le_of_ble_eq_true rfl, Nat.le_of_ble_eq_true rfl⟩ ⟨Nat.le_refl 0, Nat.le_refl 0⟩ hl.1 (Nat.le_of_ble_eq_true rfl) rfl dX1_smallest_18 (fun r18 σ18 H locs hp I => ?_)
      refine top_i (y := bI (mFree σ i)) hp.1 ?_
      have I := m_as I hp.2
      refine b_eq (tgt := 64) hx hb dX1_smallest_21 (by decide) (fun c21 => ?_) (fun c21 => ?_)
      · refine lv_iconst (v := 0) hx hb dX1_smallest_64 (by decide) ?_
        refine lv_istore (lv' := [(5, .int 0), (0, .ref o), (1, .int (nI g)), (2, .int (bI w)), (3, .int (oI (mSm σ g w i))), (4, .int (nI i))]) hx hb dX1_smallest_65 hl (by decide) rfl (fun ls hl => ?_)
        refine lv_iload hx hb dX1_smallest_67 (lv_at hl 0 rfl) ?_
        refine lv_if_eq (tgt := 97) hx hb dX1_smallest_69 (by decide) (fun _ => ?_) (fun h => absurd h (by decide))
        refine lv_iinc (v := nI (i + 1)) (lv' := [(4, .int (nI (i + 1))), (5, .int 0), (0, .ref o), (1, .int (nI g)), (2, .int (bI w)), (3, .int (oI (mSm σ g w i)))]) hx hb dX1_smallest_97 hl (k := 5) rfl (nI_1 _) (by decide) rfl (fun ls hl => ?_)
        refine lv_goto (tgt := 6) hx hb dX1_smallest_100 (by decide) ?_
        exact ih6 _ _ ls (m_as I (rfl)) (lv_as (lv_sub (l' := [(0, .ref o), (1, .int (nI g)), (2, .int (bI w)), (3, .int (oI (mSm σ g w i))), (4, .int (nI (i + 1)))]) hl [2, 3, 4, 5, 0] rfl) (by rw [show mSm σ g w (i + 1) = mSm σ g w i from smo_d (by simp [mFitW, mFit, c12, c21])]))
      · refine lv_aload_n hx hb dX1_smallest_24 rfl (lv_at hl 0 rfl) ?_
        refine m_get E hK I 25 rfl q1140 rfl dX1_smallest_25 ?_
        refine lv_iload hx hb dX1_smallest_28 (lv_at hl 4 rfl) ?_
        refine m_ald (i := i) E hK I 14 rfl rfl rfl dX1_smallest_30 (by simp only [mLn]; omega) ?_
        refine lv_aload_n hx hb dX1_smallest_31 rfl (lv_at hl 0 rfl) ?_
        refine m_get E hK I 18 rfl q1133 rfl dX1_smallest_32 ?_
        refine lv_iload_n hx hb dX1_smallest_35 rfl (lv_at hl 1 rfl) ?_
        refine m_ald (i := g) E hK I 8 rfl rfl rfl dX1_smallest_36 (by simp only [mLn]; omega) ?_
        refine lv_icmp_lt (tgt := 64) hx hb dX1_smallest_37 (by decide) (fun c37 => ?_) (fun c37 => ?_)
        · refine lv_iconst (v := 0) hx hb dX1_smallest_64 (by decide) ?_
          refine lv_istore (lv' := [(5, .int 0), (0, .ref o), (1, .int (nI g)), (2, .int (bI w)), (3, .int (oI (mSm σ g w i))), (4, .int (nI i))]) hx hb dX1_smallest_65 hl (by decide) rfl (fun ls hl => ?_)
          refine lv_iload hx hb dX1_smallest_67 (lv_at hl 0 rfl) ?_
          refine lv_if_eq (tgt := 97) hx hb dX1_smallest_69 (by decide) (fun _ => ?_) (fun h => absurd h (by decide))
          refine lv_iinc (v := nI (i + 1)) (lv' := [(4, .int (nI (i + 1))), (5, .int 0), (0, .ref o), (1, .int (nI g)), (2, .int (bI w)), (3, .int (oI (mSm σ g w i)))]) hx hb dX1_smallest_97 hl (k := 5) rfl (nI_1 _) (by decide) rfl (fun ls hl => ?_)
          refine lv_goto (tgt := 6) hx hb dX1_smallest_100 (by decide) ?_
          exact ih6 _ _ ls (m_as I (rfl)) (lv_as (lv_sub (l' := [(0, .ref o), (1, .int (nI g)), (2, .int (bI w)), (3, .int (oI (mSm σ g w i))), (4, .int (nI (i + 1)))]) hl [2, 3, 4, 5, 0] rfl) (by rw [show mSm σ g w (i + 1) = mSm σ g w i from smo_d (by simp [mFitW, mFit, c12, c21, c37])]))
        · refine lv_iload_n hx hb dX1_smallest_40 rfl (lv_at hl 2 rfl) ?_
          refine b_eq (tgt := 60) hx hb dX1_smallest_41 (by decide) (fun c41 => ?_) (fun c41 => ?_)
          · refine lv_iconst (v := 1) hx hb dX1_smallest_60 (by decide) ?_
            refine lv_goto (tgt := 65) hx hb dX1_smallest_61 (by decide) ?_
            refine lv_istore (lv' := [(5, .int 1), (0, .ref o), (1, .int (nI g)), (2, .int (bI w)), (3, .int (oI (mSm σ g w i))), (4, .int (nI i))]) hx hb dX1_smallest_65 hl (by decide) rfl (fun ls hl => ?_)
            refine lv_iload hx hb dX1_smallest_67 (lv_at hl 0 rfl) ?_
            refine lv_if_eq (tgt := 97) hx hb dX1_smallest_69 (by decide) (fun h => absurd h (by decide)) (fun _ => ?_)
            refine lv_iload_n hx hb dX1_smallest_72 rfl (lv_at hl 4 rfl) ?_
            refine lv_bipush (v := (-9)) hx hb dX1_smallest_73 (by decide) ?_
            refine lv_icmp_eq (tgt := 94) hx hb dX1_smallest_75 (by decide) (fun c75 => ?_) (fun c75 => ?_)
            · have hz := oI_none (fun b h => by have := smo_lt h; omega) c75
              refine lv_iload hx hb dX1_smallest_94 (lv_at hl 5 rfl) ?_
              refine lv_istore_n (lv' := [(3, .int (nI i)), (5, .int 1), (0, .ref o), (1, .int (nI g)), (2, .int (bI w)), (4, .int (nI i))]) hx hb dX1_smallest_96 rfl hl (by decide) rfl (fun ls hl => ?_)
              refine lv_iinc (v := nI (i + 1)) (lv' := [(4, .int (nI (i + 1))), (3, .int (nI i)), (5, .int 1), (0, .ref o), (1, .int (nI g)), (2, .int (bI w))]) hx hb dX1_smallest_97 hl (k := 5) rfl (nI_1 _) (by decide) rfl (fun ls hl => ?_)
              refine lv_goto (tgt := 6) hx hb dX1_smallest_100 (by decide) ?_
              exact ih6 _ _ ls (m_as I (rfl)) (lv_as (lv_sub (l' := [(0, .ref o), (1, .int (nI g)), (2, .int (bI w)), (3, .int (nI i)), (4, .int (nI (i + 1)))]) hl [3, 4, 5, 1, 0] rfl) (by rw [show mSm σ g w (i + 1) = some i from smo_a (by simp [mFitW, mFit, c12, c21, c37, c41]) hz]; rfl))
            · refine lv_aload_n hx hb dX1_smallest_78 rfl (lv_at hl 1 rfl) ?_
              refine m_get E hK I 25 rfl q1140 rfl dX1_smallest_79 ?_
              refine lv_iload hx hb dX1_smallest_82 (lv_at hl 5 rfl) ?_
              refine m_ald (i := i) E hK I 14 rfl rfl rfl dX1_smallest_84 (by simp only [mLn]; omega) ?_
              refine lv_aload_n hx hb dX1_smallest_85 rfl (lv_at hl 1 rfl) ?_
              refine m_get E hK I 25 rfl q1140 rfl dX1_smallest_86 ?_
              refine lv_iload_n hx hb dX1_smallest_89 rfl (lv_at hl 4 rfl) ?_
              obtain ⟨b, hb'⟩ := oI_some c75
              have hbl := smo_lt hb'
              refine top_i (y := nI b) (by rw [hb']; rfl) ?_
              refine m_ald (i := b) E hK I 14 rfl rfl rfl dX1_smallest_90 (by simp only [mLn]; omega) ?_
              refine lv_icmp_ge (tgt := 97) hx hb dX1_smallest_91 (by decide) (fun c91 => ?_) (fun c91 => ?_)
              · refine lv_iinc (v := nI (i + 1)) (lv' := [(4, .int (nI (i + 1))), (5, .int 1), (0, .ref o), (1, .int (nI g)), (2, .int (bI w)), (3, .int (oI (mSm σ g w i)))]) hx hb dX1_smallest_97 hl (k := 5) rfl (nI_1 _) (by decide) rfl (fun ls hl => ?_)
                refine lv_goto (tgt := 6) hx hb dX1_smallest_100 (by decide) ?_
                exact ih6 _ _ ls (m_as I (rfl)) (lv_as (lv_sub (l' := [(0, .ref o), (1, .int (nI g)), (2, .int (bI w)), (3, .int (oI (mSm σ g w i))), (4, .int (nI (i + 1)))]) hl [2, 3, 4, 5, 0] rfl) (by rw [show mSm σ g w (i + 1) = mSm σ g w i from smo_c hb' (Int32.not_lt.mpr c91)]))
              · refine lv_iload hx hb dX1_smallest_94 (lv_at hl 5 rfl) ?_
                refine lv_istore_n (lv' := [(3, .int (nI i)), (5, .int 1), (0, .ref o), (1, .int (nI g)), (2, .int (bI w)), (4, .int (nI i))]) hx hb dX1_smallest_96 rfl hl (by decide) rfl (fun ls hl => ?_)
                refine lv_iinc (v := nI (i + 1)) (lv' := [(4, .int (nI (i + 1))), (3, .int (nI i)), (5, .int 1), (0, .ref o), (1, .int (nI g)), (2, .int (bI w))]) hx hb dX1_smallest_97 hl (k := 5) rfl (nI_1 _) (by decide) rfl (fun ls hl => ?_)
                refine lv_goto (tgt := 6) hx hb dX1_smallest_100 (by decide) ?_
                exact ih6 _ _ ls (m_as I (rfl)) (lv_as (lv_sub (l' := [(0, .ref o), (1, .int (nI g)), (2, .int (bI w)), (3, .int (nI i)), (4, .int (nI (i + 1)))]) hl [3, 4, 5, 1, 0] rfl) (by rw [show mSm σ g w (i + 1) = some i from smo_b (by simp [mFitW, mFit, c12, c21, c37, c41]) hb' (Int32.not_le.mp c91)]; rfl))
          · refine lv_aload_n hx hb dX1_smallest_44 rfl (lv_at hl 0 rfl) ?_
            refine m_get E hK I 24 rfl q1139 rfl dX1_smallest_45 ?_
            refine lv_iload hx hb dX1_smallest_48 (lv_at hl 4 rfl) ?_
            refine m_ald (i := i) E hK I 13 rfl rfl rfl dX1_smallest_50 (by simp only [mLn]; omega) ?_
            refine lv_aload_n hx hb dX1_smallest_51 rfl (lv_at hl 0 rfl) ?_
            refine m_get E hK I 21 rfl q1136 rfl dX1_smallest_52 ?_
            refine lv_iload_n hx hb dX1_smallest_55 rfl (lv_at hl 1 rfl) ?_
            refine m_ald (i := g) E hK I 11 rfl rfl rfl dX1_smallest_56 (by simp only [mLn]; omega) ?_
            refine lv_icmp_ne (tgt := 64) hx hb dX1_smallest_57 (by decide) (fun c57 => ?_) (fun c57 => ?_)
            · refine lv_iconst (v := 0) hx hb dX1_smallest_64 (by decide) ?_
              refine lv_istore (lv' := [(5, .int 0), (0, .ref o), (1, .int (nI g)), (2, .int (bI w)), (3, .int (oI (mSm σ g w i))), (4, .int (nI i))]) hx hb dX1_smallest_65 hl (by decide) rfl (fun ls hl => ?_)
              refine lv_iload hx hb dX1_smallest_67 (lv_at hl 0 rfl) ?_
              refine lv_if_eq (tgt := 97) hx hb dX1_smallest_69 (by decide) (fun _ => ?_) (fun h => absurd h (by decide))
              refine lv_iinc (v := nI (i + 1)) (lv' := [(4, .int (nI (i + 1))), (5, .int 0), (0, .ref o), (1, .int (nI g)), (2, .int (bI w)), (3, .int (oI (mSm σ g w i)))]) hx hb dX1_smallest_97 hl (k := 5) rfl (nI_1 _) (by decide) rfl (fun ls hl => ?_)
              refine lv_goto (tgt := 6) hx hb dX1_smallest_100 (by decide) ?_
              exact ih6 _ _ ls (m_as I (rfl)) (lv_as (lv_sub (l' := [(0, .ref o), (1, .int (nI g)), (2, .int (bI w)), (3, .int (oI (mSm σ g w i))), (4, .int (nI (i + 1)))]) hl [2, 3, 4, 5, 0] rfl) (by rw [show mSm σ g w (i + 1) = mSm σ g w i from smo_d (by simp [mFitW, mFit, c12, c21, c37, c41, c57])]))
            · refine lv_iconst (v := 1) hx hb dX1_smallest_60 (by decide) ?_
              refine lv_goto (tgt := 65) hx hb dX1_smallest_61 (by decide) ?_
              refine lv_istore (lv' := [(5, .int 1), (0, .ref o), (1, .int (nI g)), (2, .int (bI w)), (3, .int (oI (mSm σ g w i))), (4, .int (nI i))]) hx hb dX1_smallest_65 hl (by decide) rfl (fun ls hl => ?_)
              refine lv_iload hx hb dX1_smallest_67 (lv_at hl 0 rfl) ?_
              refine lv_if_eq (tgt := 97) hx hb dX1_smallest_69 (by decide) (fun h => absurd h (by decide)) (fun _ => ?_)
              refine lv_iload_n hx hb dX1_smallest_72 rfl (lv_at hl 4 rfl) ?_
              refine lv_bipush (v := (-9)) hx hb dX1_smallest_73 (by decide) ?_
              refine lv_icmp_eq (tgt := 94) hx hb dX1_smallest_75 (by decide) (fun c75 => ?_) (fun c75 => ?_)
              · have hz := oI_none (fun b h => by have := smo_lt h; omega) c75
                refine lv_iload hx hb dX1_smallest_94 (lv_at hl 5 rfl) ?_
                refine lv_istore_n (lv' := [(3, .int (nI i)), (5, .int 1), (0, .ref o), (1, .int (nI g)), (2, .int (bI w)), (4, .int (nI i))]) hx hb dX1_smallest_96 rfl hl (by decide) rfl (fun ls hl => ?_)
                refine lv_iinc (v := nI (i + 1)) (lv' := [(4, .int (nI (i + 1))), (3, .int (nI i)), (5, .int 1), (0, .ref o), (1, .int (nI g)), (2, .int (bI w))]) hx hb dX1_smallest_97 hl (k := 5) rfl (nI_1 _) (by decide) rfl (fun ls hl => ?_)
                refine lv_goto (tgt := 6) hx hb dX1_smallest_100 (by decide) ?_
                exact ih6 _ _ ls (m_as I (rfl)) (lv_as (lv_sub (l' := [(0, .ref o), (1, .int (nI g)), (2, .int (bI w)), (3, .int (nI i)), (4, .int (nI (i + 1)))]) hl [3, 4, 5, 1, 0] rfl) (by rw [show mSm σ g w (i + 1) = some i from smo_a (by simp [mFitW, mFit, c12, c21, c37, c41, c57]) hz]; rfl))
              · refine lv_aload_n hx hb dX1_smallest_78 rfl (lv_at hl 1 rfl) ?_
                refine m_get E hK I 25 rfl q1140 rfl dX1_smallest_79 ?_
                refine lv_iload hx hb dX1_smallest_82 (lv_at hl 5 rfl) ?_
                refine m_ald (i := i) E hK I 14 rfl rfl rfl dX1_smallest_84 (by simp only [mLn]; omega) ?_
                refine lv_aload_n hx hb dX1_smallest_85 rfl (lv_at hl 1 rfl) ?_
                refine m_get E hK I 25 rfl q1140 rfl dX1_smallest_86 ?_
                refine lv_iload_n hx hb dX1_smallest_89 rfl (lv_at hl 4 rfl) ?_
                obtain ⟨b, hb'⟩ := oI_some c75
                have hbl := smo_lt hb'
                refine top_i (y := nI b) (by rw [hb']; rfl) ?_
                refine m_ald (i := b) E hK I 14 rfl rfl rfl dX1_smallest_90 (by simp only [mLn]; omega) ?_
                refine lv_icmp_ge (tgt := 97) hx hb dX1_smallest_91 (by decide) (fun c91 => ?_) (fun c91 => ?_)
                · refine lv_iinc (v := nI (i + 1)) (lv' := [(4, .int (nI (i + 1))), (5, .int 1), (0, .ref o), (1, .int (nI g)), (2, .int (bI w)), (3, .int (oI (mSm σ g w i)))]) hx hb dX1_smallest_97 hl (k := 5) rfl (nI_1 _) (by decide) rfl (fun ls hl => ?_)
                  refine lv_goto (tgt := 6) hx hb dX1_smallest_100 (by decide) ?_
                  exact ih6 _ _ ls (m_as I (rfl)) (lv_as (lv_sub (l' := [(0, .ref o), (1, .int (nI g)), (2, .int (bI w)), (3, .int (oI (mSm σ g w i))), (4, .int (nI (i + 1)))]) hl [2, 3, 4, 5, 0] rfl) (by rw [show mSm σ g w (i + 1) = mSm σ g w i from smo_c hb' (Int32.not_lt.mpr c91)]))
                · refine lv_iload hx hb dX1_smallest_94 (lv_at hl 5 rfl) ?_
                  refine lv_istore_n (lv' := [(3, .int (nI i)), (5, .int 1), (0, .ref o), (1, .int (nI g)), (2, .int (bI w)), (4, .int (nI i))]) hx hb dX1_smallest_96 rfl hl (by decide) rfl (fun ls hl => ?_)
                  refine lv_iinc (v := nI (i + 1)) (lv' := [(4, .int (nI (i + 1))), (3, .int (nI i)), (5, .int 1), (0, .ref o), (1, .int (nI g)), (2, .int (bI w))]) hx hb dX1_smallest_97 hl (k := 5) rfl (nI_1 _) (by decide) rfl (fun ls hl => ?_)
                  refine lv_goto (tgt := 6) hx hb dX1_smallest_100 (by decide) ?_
                  exact ih6 _ _ ls (m_as I (rfl)) (lv_as (lv_sub (l' := [(0, .ref o), (1, .int (nI g)), (2, .int (bI w)), (3, .int (nI i)), (4, .int (nI (i + 1)))]) hl [3, 4, 5, 1, 0] rfl) (by rw [show mSm σ g w (i + 1) = some i from smo_b (by simp [mFitW, mFit, c12, c21, c37, c41, c57]) hb' (Int32.not_le.mp c91)]; rfl))
  exact L6 0 (Nat.zero_le _) _ _ ls (m_as I (rfl)) (lv_as (lv_sub (l' := [(0, .ref o), (1, .int (nI g)), (2, .int (bI w)), (3, .int (-9)), (4, .int 0)]) hl [2, 3, 4, 1, 0] rfl) (rfl))
theorem dc_m_smallest : yX1_smallest.cls = RX1 ∧ yX1_smallest.cls ≠ "java/lang/invoke/MethodHandle" ∧ yX1_smallest.cls ≠ "java/lang/invoke/VarHandle" ∧ (parseMethodDescriptor yX1_smallest.desc).map (fun d => d.parameters.length) = some 2 := by decide +kernel
theorem go_m_smallest : GoodIn lw_all (wsV RX1 220 RX1 yX1_smallest (ws_ yX1_smallest cX1_smallest 6 (some .int))) := lw_V q1362 q1364 qs51 q75 q1365
theorem m_joinsTwo (l : Launch) (D : va_G) (ty : Nat → ClassId) (o : Nat) (ad : Nat → Nat) (σ : Sg) (g : Nat) (hg : g < 8) (T : Nat) (hT : T ≤ 6) (h23 : σ 23 0 = nI T) : mKi l yX1_joinsTwo cX1_joinsTwo 3 .boolean 2 D ty o ad σ [.int (nI g)] (fun r τ => r = bI (mJn σ g T).isSome ∧ τ = mJoin σ g T) := by
  refine Ki.of (by decide) (Nat.le_of_ble_eq_true rfl) ?_
  intro p e s m below meth c A ls args E hK hA hX hlk hr I hl
  have hx := E.1
  have hb := E.2.1
  have hl : lv_has ls 3 [(0, .ref o), (1, .int (nI g))] := hl
  refine nameQ (fun Q hQ => ?_)
  refine lv_iconst (v := 0) hx hb dX1_joinsTwo_0 (by decide) ?_
  refine lv_istore_n (lv' := [(2, .int 0), (0, .ref o), (1, .int (nI g))]) hx hb dX1_joinsTwo_1 rfl hl (by decide) rfl (fun ls hl => ?_)
  have L2 : ∀ i, i ≤ (T - 1) → (mJn σ g T = ffo (mPair σ g) (T - 1 - i) i) → ∀ (H : Heap) (locs : List Loc) (ls : Array Slot), gI s D A (mW ty o ad σ) H locs → lv_has ls 3 [(0, .ref o), (1, .int (nI g)), (2, .int (nI i))] → W p l e (rmL 2) s m args below meth c H locs 0 0 Q (F0 m 2 ls []) := by
    refine dn_ind (T - 1) ?_ ?_
    · intro hn H locs ls I hl
      refine lv_iload_n hx hb dX1_joinsTwo_2 rfl (lv_at hl 2 rfl) ?_
      refine lv_iconst (v := 1) hx hb dX1_joinsTwo_3 (by decide) ?_
      refine lv_iadd hx hb dX1_joinsTwo_4 ?_
      refine top_i (y := nI ((T - 1) + 1)) (nI_1 _) ?_
      refine lv_aload_n hx hb dX1_joinsTwo_5 rfl (lv_at hl 0 rfl) ?_
      refine m_get (v := .int (nI T)) E hK I 23 rfl q1138 (congrArg Value.int (h23)) dX1_joinsTwo_6 ?_
      refine lv_icmp_ge (tgt := 78) hx hb dX1_joinsTwo_9 (by decide) (fun c9 => ?_) (fun c9 => absurd c9 (fun h => h (nI_le (by omega) (by omega))))
      refine lv_iconst (v := 0) hx hb dX1_joinsTwo_78 (by decide) ?_
      subst hQ
      exact r_z (b := false) E hlk hr I (Nat.le_refl 0) (Nat.le_refl 0) dX1_joinsTwo_79 rfl (⟨by rw [hn, Nat.sub_self]; rfl, by simp [mJoin, hn, Nat.sub_self, ffo]⟩)
    · intro i hi ih2 hn H locs ls I hl
      refine lv_iload_n hx hb dX1_joinsTwo_2 rfl (lv_at hl 2 rfl) ?_
      refine lv_iconst (v := 1) hx hb dX1_joinsTwo_3 (by decide) ?_
      refine lv_iadd hx hb dX1_joinsTwo_4 ?_
      refine top_i (y := nI (i + 1)) (nI_1 _) ?_
      refine lv_aload_n hx hb dX1_joinsTwo_5 rfl (lv_at hl 0 rfl) ?_
      refine m_get (v := .int (nI T)) E hK I 23 rfl q1138 (congrArg Value.int (h23)) dX1_joinsTwo_6 ?_
      refine lv_icmp_ge (tgt := 78) hx hb dX1_joinsTwo_9 (by decide) (fun c9 => absurd c9 (nI_ge (by omega) (by omega))) (fun c9 => ?_)
      refine lv_aload_n hx hb dX1_joinsTwo_12 rfl (lv_at hl 0 rfl) ?_
      refine lv_iload_n hx hb dX1_joinsTwo_13 rfl (lv_at hl 2 rfl) ?_
      refine m_ci E hK hA I (m_isFree l D ty o ad σ i (by omega)) go_m_isFree dc_m_isFree ⟨Nat.le_of_ble_eq_true rfl, Nat.le_of_ble_eq_true rfl⟩ ⟨Nat.le_refl 0, Nat.le_refl 0⟩ hl.1 (Nat.le_of_ble_eq_true rfl) rfl dX1_joinsTwo_14 (fun r14 σ14 H locs hp I => ?_)
      refine top_i (y := bI (mFree σ i)) hp.1 ?_
      have I := m_as I hp.2
      refine b_eq (tgt := 72) hx hb dX1_joinsTwo_17 (by decide) (fun c17 => ?_) (fun c17 => ?_)
      · refine lv_iinc (v := nI (i + 1)) (lv' := [(2, .int (nI (i + 1))), (0, .ref o), (1, .int (nI g))]) hx hb dX1_joinsTwo_72 hl (k := 2) rfl (nI_1 _) (by decide) rfl (fun ls hl => ?_)
        refine lv_goto (tgt := 2) hx hb dX1_joinsTwo_75 (by decide) ?_
        exact ih2 (hn.trans (ffo_f hi (by simp [mPair, c9, c17]))) _ _ ls (m_as I (rfl)) (lv_as (lv_sub (l' := [(0, .ref o), (1, .int (nI g)), (2, .int (nI (i + 1)))]) hl [1, 2, 0] rfl) (rfl))
      · refine lv_aload_n hx hb dX1_joinsTwo_20 rfl (lv_at hl 0 rfl) ?_
        refine lv_iload_n hx hb dX1_joinsTwo_21 rfl (lv_at hl 2 rfl) ?_
        refine lv_iconst (v := 1) hx hb dX1_joinsTwo_22 (by decide) ?_
        refine lv_iadd hx hb dX1_joinsTwo_23 ?_
        refine top_i (y := nI (i + 1)) (nI_1 _) ?_
        refine m_ci E hK hA I (m_isFree l D ty o ad σ (i + 1) (by omega)) go_m_isFree dc_m_isFree ⟨Nat.le_of_ble_eq_true rfl, Nat.le_of_ble_eq_true rfl⟩ ⟨Nat.le_refl 0, Nat.le_refl 0⟩ hl.1 (Nat.le_of_ble_eq_true rfl) rfl dX1_joinsTwo_24 (fun r24 σ24 H locs hp I => ?_)
        refine top_i (y := bI (mFree σ (i + 1))) hp.1 ?_
        have I := m_as I hp.2
        refine b_eq (tgt := 72) hx hb dX1_joinsTwo_27 (by decide) (fun c27 => ?_) (fun c27 => ?_)
        · refine lv_iinc (v := nI (i + 1)) (lv' := [(2, .int (nI (i + 1))), (0, .ref o), (1, .int (nI g))]) hx hb dX1_joinsTwo_72 hl (k := 2) rfl (nI_1 _) (by decide) rfl (fun ls hl => ?_)
          refine lv_goto (tgt := 2) hx hb dX1_joinsTwo_75 (by decide) ?_
          exact ih2 (hn.trans (ffo_f hi (by simp [mPair, c9, c17, c27]))) _ _ ls (m_as I (rfl)) (lv_as (lv_sub (l' := [(0, .ref o), (1, .int (nI g)), (2, .int (nI (i + 1)))]) hl [1, 2, 0] rfl) (rfl))
        · refine lv_aload_n hx hb dX1_joinsTwo_30 rfl (lv_at hl 0 rfl) ?_
          refine m_get E hK I 25 rfl q1140 rfl dX1_joinsTwo_31 ?_
          refine lv_iload_n hx hb dX1_joinsTwo_34 rfl (lv_at hl 2 rfl) ?_
          refine m_ald (i := i) E hK I 14 rfl rfl rfl dX1_joinsTwo_35 (by simp only [mLn]; omega) ?_
          refine lv_aload_n hx hb dX1_joinsTwo_36 rfl (lv_at hl 0 rfl) ?_
          refine m_get E hK I 25 rfl q1140 rfl dX1_joinsTwo_37 ?_
          refine lv_iload_n hx hb dX1_joinsTwo_40 rfl (lv_at hl 2 rfl) ?_
          refine lv_iconst (v := 1) hx hb dX1_joinsTwo_41 (by decide) ?_
          refine lv_iadd hx hb dX1_joinsTwo_42 ?_
          refine top_i (y := nI (i + 1)) (nI_1 _) ?_
          refine m_ald (i := (i + 1)) E hK I 14 rfl rfl rfl dX1_joinsTwo_43 (by simp only [mLn]; omega) ?_
          refine lv_iadd hx hb dX1_joinsTwo_44 ?_
          refine lv_aload_n hx hb dX1_joinsTwo_45 rfl (lv_at hl 0 rfl) ?_
          refine m_get E hK I 18 rfl q1133 rfl dX1_joinsTwo_46 ?_
          refine lv_iload_n hx hb dX1_joinsTwo_49 rfl (lv_at hl 1 rfl) ?_
          refine m_ald (i := g) E hK I 8 rfl rfl rfl dX1_joinsTwo_50 (by simp only [mLn]; omega) ?_
          refine lv_icmp_lt (tgt := 72) hx hb dX1_joinsTwo_51 (by decide) (fun c51 => ?_) (fun c51 => ?_)
          · refine lv_iinc (v := nI (i + 1)) (lv' := [(2, .int (nI (i + 1))), (0, .ref o), (1, .int (nI g))]) hx hb dX1_joinsTwo_72 hl (k := 2) rfl (nI_1 _) (by decide) rfl (fun ls hl => ?_)
            refine lv_goto (tgt := 2) hx hb dX1_joinsTwo_75 (by decide) ?_
            exact ih2 (hn.trans (ffo_f hi (by simp [mPair, c9, c17, c27, c51]))) _ _ ls (m_as I (rfl)) (lv_as (lv_sub (l' := [(0, .ref o), (1, .int (nI g)), (2, .int (nI (i + 1)))]) hl [1, 2, 0] rfl) (rfl))
          · refine lv_aload_n hx hb dX1_joinsTwo_54 rfl (lv_at hl 0 rfl) ?_
            refine m_get E hK I 30 rfl q1145 rfl dX1_joinsTwo_55 ?_
            refine lv_iload_n hx hb dX1_joinsTwo_58 rfl (lv_at hl 2 rfl) ?_
            refine lv_iload_n hx hb dX1_joinsTwo_59 rfl (lv_at hl 1 rfl) ?_
            refine m_ast (i := i) E hK I 15 rfl rfl rfl dX1_joinsTwo_60 (by simp only [mLn]; omega) (fun H locs I => ?_)
            refine lv_aload_n hx hb dX1_joinsTwo_61 rfl (lv_at hl 0 rfl) ?_
            refine m_get E hK I 30 rfl q1145 rfl dX1_joinsTwo_62 ?_
            refine lv_iload_n hx hb dX1_joinsTwo_65 rfl (lv_at hl 2 rfl) ?_
            refine lv_iconst (v := 1) hx hb dX1_joinsTwo_66 (by decide) ?_
            refine lv_iadd hx hb dX1_joinsTwo_67 ?_
            refine top_i (y := nI (i + 1)) (nI_1 _) ?_
            refine lv_iload_n hx hb dX1_joinsTwo_68 rfl (lv_at hl 1 rfl) ?_
            refine m_ast (i := (i + 1)) E hK I 15 rfl rfl rfl dX1_joinsTwo_69 (by simp only [mLn]; omega) (fun H locs I => ?_)
            refine lv_iconst (v := 1) hx hb dX1_joinsTwo_70 (by decide) ?_
            subst hQ
            exact r_z (b := true) E hlk hr I (Nat.le_refl 0) (Nat.le_refl 0) dX1_joinsTwo_71 rfl (⟨by rw [hn, ffo_t hi (by simp [mPair, c9, c17, c27, c51])]; rfl, by simp only [mJoin]; rw [hn, ffo_t hi (by simp [mPair, c9, c17, c27, c51])]; rfl⟩)
  exact L2 0 (Nat.zero_le _) (rfl) _ _ ls (m_as I (rfl)) (lv_as (lv_sub (l' := [(0, .ref o), (1, .int (nI g)), (2, .int 0)]) hl [1, 2, 0] rfl) (rfl))
theorem dc_m_joinsTwo : yX1_joinsTwo.cls = RX1 ∧ yX1_joinsTwo.cls ≠ "java/lang/invoke/MethodHandle" ∧ yX1_joinsTwo.cls ≠ "java/lang/invoke/VarHandle" ∧ (parseMethodDescriptor yX1_joinsTwo.desc).map (fun d => d.parameters.length) = some 1 := by decide +kernel
theorem go_m_joinsTwo : GoodIn lw_all (wsV RX1 227 RX1 yX1_joinsTwo (ws_ yX1_joinsTwo cX1_joinsTwo 3 (some .boolean))) := lw_V q1374 q1376 qs54 q75 q1377
