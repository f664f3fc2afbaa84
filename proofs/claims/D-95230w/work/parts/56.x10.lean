set_option maxRecDepth 100000
set_option maxHeartbeats 4000000
def xOne (σ : Sg) (g : GS) (T v : Nat) : Sg := xTo (up σ 1 0 (nI v)) g T 399 (-9)
def xBR (g : GS) (T : Nat) (v : Nat) (z : Sg × Int32 × Int32) : Sg × Int32 × Int32 := (xOne z.1 g T v, (if xSum (xOne z.1 g T v) g g.1 ≤ z.2.2 then z.2.1 else nI v), iMax z.2.2 (xSum (xOne z.1 g T v) g g.1))
theorem xBR_k {k : Nat} (h : k ≠ 1) (h2 : k < 9 ∨ 15 < k) (g : GS) (T v : Nat) (z : Sg × Int32 × Int32) : (xBR g T v z).1 k = z.1 k := by
  show xOne z.1 g T v k = _
  rw [xOne, xTo_k h2, up_rk h]
def xLP1 (g : GS) (T : Nat) (σ : Sg) (v : Nat) : Sg := up (xTo (up σ 2 0 (nI v)) g T 399 (-9)) 19 v (xSum (xTo (up σ 2 0 (nI v)) g T 399 (-9)) g g.1)
def xLP (g : GS) (T : Nat) (σ : Sg) : Nat → Sg
  | 0 => σ
  | v + 1 => xLP1 g T (xLP g T σ v) v
theorem xLP_k {k : Nat} (h : k ≠ 2) (h1 : k ≠ 19) (h2 : k < 9 ∨ 15 < k) (g : GS) (T : Nat) (σ : Sg) : ∀ v, xLP g T σ v k = σ k
  | 0 => rfl
  | v + 1 => by rw [xLP, xLP1, up_rk h1, xTo_k h2, up_rk h, xLP_k h h1 h2]
def xLPat (σ : Sg) (g : GS) (T : Nat) : Sg := up (xLP g T σ 31) 2 0 (σ 2 0)
def xWb (σ : Sg) : Nat → Nat
  | 0 => 0
  | n + 1 => if σ 19 (n + 1) ≤ σ 19 (xWb σ n) then xWb σ n else n + 1
theorem xWb_le (σ : Sg) : ∀ n, xWb σ n ≤ n
  | 0 => Nat.le_refl _
  | n + 1 => by
    have := xWb_le σ n
    unfold xWb
    split <;> omega
def xTl (σ : Sg) (x : Int32) : Nat → Nat × Option Nat × Option Nat
  | 0 => (0, none, none)
  | v + 1 => if σ 19 v = x then ((xTl σ x v).1 + 1, (match (xTl σ x v).2.1 with | none => some v | some b => some b), some v) else xTl σ x v
theorem xTl_s {σ : Sg} {x : Int32} {v : Nat} (h : σ 19 v = x) : xTl σ x (v + 1) = ((xTl σ x v).1 + 1, (match (xTl σ x v).2.1 with | none => some v | some b => some b), some v) := by
  rw [xTl]; exact if_pos h
theorem xTl_n {σ : Sg} {x : Int32} {v : Nat} (h : ¬ σ 19 v = x) : xTl σ x (v + 1) = xTl σ x v := by
  rw [xTl]; exact if_neg h
theorem xTl_lt {σ : Sg} {x : Int32} : ∀ (n b : Nat), (xTl σ x n).2.1 = some b → b < n
  | 0, b, h => by cases h
  | n + 1, b, h => by
    by_cases hc : σ 19 n = x
    · rw [xTl_s hc] at h
      cases hq : (xTl σ x n).2.1 with
      | none => simp only [hq] at h; cases h; omega
      | some c => simp only [hq] at h; have := xTl_lt n c hq; cases h; omega
    · rw [xTl_n hc] at h
      have := xTl_lt n b h
      omega
def xManyR (σ : Sg) (g : GS) (T : Nat) (w : Int32) : Int32 := if w = 0 then nI T else if w = 1 then nI g.1 else if w = 2 then σ 1 0 else if w = 3 then σ 2 0 else if w = 4 then (if σ 3 0 = 0 then 0 else 1) else if w = 5 then σ 4 0 else if w = 6 then sumI (σ 6) T else (-2)
theorem x_bestRule (l : Launch) (D : va_G) (ty : Nat → ClassId) (o : Nat) (ad : Nat → Nat) (em : Nat) (g : GS) (ex : va_W) (Cy : (Nat → Prop) → State → Prop) (hC : CxOk (CxX em Cy)) (hg : gOk g) (σ : Sg) (x : Int32) (T : Nat) (hT : T ≤ 6) (h0 : σ 0 0 = nI T) : xKi l yX0_bestRule cX0_bestRule 7 .int 12 D ty (CxX em Cy) o ad (gE ty o (ad 8) em g ex) σ [.int x] (fun r τ => r = (if wi x 0 1 then (if σ 0 0 = 0 then (-3) else if x = 0 then (fo (xBR g T) 3 (σ, 0, -1)).2.1 else (fo (xBR g T) 3 (σ, 0, -1)).2.2) else (-2)) ∧ τ = if wi x 0 1 = true ∧ ¬ σ 0 0 = 0 then up (fo (xBR g T) 3 (σ, 0, -1)).1 1 0 (σ 1 0) else σ) := by
  refine Ki.of (by decide) (Nat.le_of_ble_eq_true rfl) ?_
  intro p e s m below meth c A ls args E hK hA hX hlk hr I hl
  have hx := E.1
  have hb := E.2.1
  have hl : lv_has ls 7 [(0, .ref o), (1, .int x)] := hl
  refine nameQ (fun Q hQ => ?_)
  have hg8 := hg.1
  refine lv_iload_n hx hb dX0_bestRule_0 rfl (lv_at hl 1 rfl) ?_
  refine lv_i2l hx hb dX0_bestRule_1 rfl ?_
  refine lv_lconst (v := 0) hx hb dX0_bestRule_2 (by decide) ?_
  refine top_l (y := (0 : Int32).toInt64) (by decide) ?_
  refine lv_lconst (v := 1) hx hb dX0_bestRule_3 (by decide) ?_
  refine top_l (y := (1 : Int32).toInt64) (by decide) ?_
  refine c_Si E (x_in l x 0 1) go_x_in ⟨rfl, rfl⟩ dc_x_in ⟨Nat.le_of_ble_eq_true rfl, Nat.le_of_ble_eq_true rfl⟩ ⟨Nat.le_refl 0, Nat.le_refl 0⟩ hl.1 (Nat.le_of_ble_eq_true rfl) rfl dX0_bestRule_4 (fun r4 hp => ?_)
  refine top_i (y := bI (wi x 0 1)) hp ?_
  refine b_ne (tgt := 13) hx hb dX0_bestRule_7 (by decide) (fun c7 => ?_) (fun c7 => ?_)
  · refine lv_aload_n hx hb dX0_bestRule_13 rfl (lv_at hl 0 rfl) ?_
    refine x_get E hK I 0 rfl q138 rfl dX0_bestRule_14 ?_
    refine lv_if_ne (tgt := 23) hx hb dX0_bestRule_17 (by decide) (fun c17 => ?_) (fun c17 => ?_)
    · refine lv_aload_n hx hb dX0_bestRule_23 rfl (lv_at hl 0 rfl) ?_
      refine x_get E hK I 1 rfl q139 rfl dX0_bestRule_24 ?_
      refine lv_istore_n (lv' := [(2, .int (σ 1 0)), (0, .ref o), (1, .int x)]) hx hb dX0_bestRule_27 rfl hl (by decide) rfl (fun ls hl => ?_)
      refine lv_iconst (v := 0) hx hb dX0_bestRule_28 (by decide) ?_
      refine lv_istore_n (lv' := [(3, .int 0), (2, .int (σ 1 0)), (0, .ref o), (1, .int x)]) hx hb dX0_bestRule_29 rfl hl (by decide) rfl (fun ls hl => ?_)
      refine lv_iconst (v := (-1)) hx hb dX0_bestRule_30 (by decide) ?_
      refine lv_istore (lv' := [(4, .int (-1)), (3, .int 0), (2, .int (σ 1 0)), (0, .ref o), (1, .int x)]) hx hb dX0_bestRule_31 hl (by decide) rfl (fun ls hl => ?_)
      refine lv_iconst (v := 0) hx hb dX0_bestRule_33 (by decide) ?_
      refine lv_istore (lv' := [(5, .int 0), (4, .int (-1)), (3, .int 0), (2, .int (σ 1 0)), (0, .ref o), (1, .int x)]) hx hb dX0_bestRule_34 hl (by decide) rfl (fun ls hl => ?_)
      have L36 : ∀ i, i ≤ 3 → ∀ (H : Heap) (locs : List Loc) (ls : Array Slot), gI s D A (gW ty o ad em g ex ((fo (xBR g T) i (σ, 0, -1)).1)) H locs → lv_has ls 7 [(0, .ref o), (1, .int x), (2, .int (σ 1 0)), (3, .int ((fo (xBR g T) i (σ, 0, -1)).2.1)), (4, .int ((fo (xBR g T) i (σ, 0, -1)).2.2)), (5, .int (nI i))] → W p l e (rmL 12) s m args below meth c H locs 0 0 Q (F0 m 36 ls []) := by
        refine dn_ind 3 ?_ ?_
        · intro H locs ls I hl
          refine lv_iload hx hb dX0_bestRule_36 (lv_at hl 5 rfl) ?_
          refine lv_iconst (v := 3) hx hb dX0_bestRule_38 (by decide) ?_
          refine top_i (y := nI 3) (by decide) ?_
          refine lv_icmp_ge (tgt := 85) hx hb dX0_bestRule_39 (by decide) (fun c39 => ?_) (fun c39 => absurd c39 (fun h => h (Int32.le_refl _)))
          refine lv_aload_n hx hb dX0_bestRule_85 rfl (lv_at hl 0 rfl) ?_
          refine lv_iload_n hx hb dX0_bestRule_86 rfl (lv_at hl 2 rfl) ?_
          refine x_put E hK I 1 rfl rfl q139 rfl rfl rfl dX0_bestRule_87 (fun H locs I => ?_)
          refine lv_iload_n hx hb dX0_bestRule_90 rfl (lv_at hl 1 rfl) ?_
          refine lv_if_ne (tgt := 98) hx hb dX0_bestRule_91 (by decide) (fun c91 => ?_) (fun c91 => ?_)
          · refine lv_iload hx hb dX0_bestRule_98 (lv_at hl 4 rfl) ?_
            subst hQ
            exact r_i E hlk hr I (Nat.le_refl 0) (Nat.le_refl 0) dX0_bestRule_100 (⟨by simp only [c7, c17, if_true, if_false]; simp [c91], by simp only [c7, c17, and_self, not_false_eq_true, if_true]⟩)
          · refine lv_iload_n hx hb dX0_bestRule_94 rfl (lv_at hl 3 rfl) ?_
            refine lv_goto (tgt := 100) hx hb dX0_bestRule_95 (by decide) ?_
            subst hQ
            exact r_i E hlk hr I (Nat.le_refl 0) (Nat.le_refl 0) dX0_bestRule_100 (⟨by simp only [c7, c17, if_true, if_false]; simp [c91], by simp only [c7, c17, and_self, not_false_eq_true, if_true]⟩)
        · intro i hi ih36 H locs ls I hl
          refine lv_iload hx hb dX0_bestRule_36 (lv_at hl 5 rfl) ?_
          refine lv_iconst (v := 3) hx hb dX0_bestRule_38 (by decide) ?_
          refine top_i (y := nI 3) (by decide) ?_
          refine lv_icmp_ge (tgt := 85) hx hb dX0_bestRule_39 (by decide) (fun c39 => absurd c39 (nI_ge hi (by omega))) (fun c39 => ?_)
          refine lv_aload_n hx hb dX0_bestRule_42 rfl (lv_at hl 0 rfl) ?_
          refine lv_iload hx hb dX0_bestRule_43 (lv_at hl 5 rfl) ?_
          refine x_put E hK I 1 rfl rfl q139 rfl rfl rfl dX0_bestRule_45 (fun H locs I => ?_)
          refine lv_aload_n hx hb dX0_bestRule_48 rfl (lv_at hl 0 rfl) ?_
          refine lv_bipush (v := (-9)) hx hb dX0_bestRule_49 (by decide) ?_
          refine x_ci hC E hK hA hX I (x_coinOfDay l D ty o ad em g ex Cy hC hg (up ((fo (xBR g T) i (σ, 0, -1)).1) 1 0 (nI i)) (-9) T hT (by rw [up_k (by decide)]; exact (congrFun (fo_k1 (fun i s => xBR_k (by decide) (by decide) g T i s) i (σ, 0, -1)) 0).trans h0)) go_x_coinOfDay dc_x_coinOfDay ⟨Nat.le_of_ble_eq_true rfl, Nat.le_of_ble_eq_true rfl⟩ ⟨Nat.le_refl 0, Nat.le_refl 0⟩ hl.1 (Nat.le_of_ble_eq_true rfl) rfl dX0_bestRule_51 (fun r51 σ51 H locs hp I => ?_)
          refine top_i (y := xSum (xTo (up ((fo (xBR g T) i (σ, 0, -1)).1) 1 0 (nI i)) g T 399 (-9)) g g.1) hp.1 ?_
          have I := x_as I hp.2
          have I := x_as I (show _ = xOne (fo (xBR g T) i (σ, 0, -1)).1 g T i from rfl)
          refine top_i (y := xSum (xOne (fo (xBR g T) i (σ, 0, -1)).1 g T i) g g.1) (rfl) ?_
          refine lv_istore (lv' := [(6, .int (xSum (xOne (fo (xBR g T) i (σ, 0, -1)).1 g T i) g g.1)), (0, .ref o), (1, .int x), (2, .int (σ 1 0)), (3, .int ((fo (xBR g T) i (σ, 0, -1)).2.1)), (4, .int ((fo (xBR g T) i (σ, 0, -1)).2.2)), (5, .int (nI i))]) hx hb dX0_bestRule_54 hl (by decide) rfl (fun ls hl => ?_)
          refine lv_iload hx hb dX0_bestRule_56 (lv_at hl 0 rfl) ?_
          refine lv_iload hx hb dX0_bestRule_58 (lv_at hl 5 rfl) ?_
          refine lv_icmp_le (tgt := 68) hx hb dX0_bestRule_60 (by decide) (fun c60 => ?_) (fun c60 => ?_)
          · refine lv_iload_n hx hb dX0_bestRule_68 rfl (lv_at hl 4 rfl) ?_
            refine lv_istore_n (lv' := [(3, .int ((fo (xBR g T) i (σ, 0, -1)).2.1)), (6, .int (xSum (xOne (fo (xBR g T) i (σ, 0, -1)).1 g T i) g g.1)), (0, .ref o), (1, .int x), (2, .int (σ 1 0)), (4, .int ((fo (xBR g T) i (σ, 0, -1)).2.2)), (5, .int (nI i))]) hx hb dX0_bestRule_69 rfl hl (by decide) rfl (fun ls hl => ?_)
            refine lv_iload hx hb dX0_bestRule_70 (lv_at hl 5 rfl) ?_
            refine lv_iload hx hb dX0_bestRule_72 (lv_at hl 1 rfl) ?_
            refine va_mmax hx hb (E.2.2.1.trans hl.1.symm) E.2.2.2.1 (E.2.2.2.2 _ q588) (E.2.2.2.2 _ q358) (E.2.2.2.2 _ q89) (E.2.2.2.2 _ q359) (Nat.le_of_ble_eq_true rfl) (Nat.le_of_ble_eq_true rfl) (Nat.le_refl 0) (Nat.le_refl 0) dX0_bestRule_74 ?_
            refine top_i (y := (iMax ((fo (xBR g T) i (σ, 0, -1)).2.2) (xSum (xOne (fo (xBR g T) i (σ, 0, -1)).1 g T i) g g.1))) rfl ?_
            refine lv_istore (lv' := [(4, .int (iMax ((fo (xBR g T) i (σ, 0, -1)).2.2) (xSum (xOne (fo (xBR g T) i (σ, 0, -1)).1 g T i) g g.1))), (3, .int ((fo (xBR g T) i (σ, 0, -1)).2.1)), (6, .int (xSum (xOne (fo (xBR g T) i (σ, 0, -1)).1 g T i) g g.1)), (0, .ref o), (1, .int x), (2, .int (σ 1 0)), (5, .int (nI i))]) hx hb dX0_bestRule_77 hl (by decide) rfl (fun ls hl => ?_)
            refine lv_iinc (v := nI (i + 1)) (lv' := [(5, .int (nI (i + 1))), (4, .int (iMax ((fo (xBR g T) i (σ, 0, -1)).2.2) (xSum (xOne (fo (xBR g T) i (σ, 0, -1)).1 g T i) g g.1))), (3, .int ((fo (xBR g T) i (σ, 0, -1)).2.1)), (6, .int (xSum (xOne (fo (xBR g T) i (σ, 0, -1)).1 g T i) g g.1)), (0, .ref o), (1, .int x), (2, .int (σ 1 0))]) hx hb dX0_bestRule_79 hl (k := 6) rfl (nI_1 _) (by decide) rfl (fun ls hl => ?_)
            refine lv_goto (tgt := 36) hx hb dX0_bestRule_82 (by decide) ?_
            exact ih36 _ _ ls (x_as I (rfl)) (lv_as (lv_sub (l' := [(0, .ref o), (1, .int x), (2, .int (σ 1 0)), (3, .int ((fo (xBR g T) i (σ, 0, -1)).2.1)), (4, .int (iMax ((fo (xBR g T) i (σ, 0, -1)).2.2) (xSum (xOne (fo (xBR g T) i (σ, 0, -1)).1 g T i) g g.1))), (5, .int (nI (i + 1)))]) hl [4, 5, 6, 2, 1, 0] rfl) (by simp only [fo, xBR, c60, if_true, if_false]))
          · refine lv_iload hx hb dX0_bestRule_63 (lv_at hl 6 rfl) ?_
            refine lv_goto (tgt := 69) hx hb dX0_bestRule_65 (by decide) ?_
            refine lv_istore_n (lv' := [(3, .int (nI i)), (6, .int (xSum (xOne (fo (xBR g T) i (σ, 0, -1)).1 g T i) g g.1)), (0, .ref o), (1, .int x), (2, .int (σ 1 0)), (4, .int ((fo (xBR g T) i (σ, 0, -1)).2.2)), (5, .int (nI i))]) hx hb dX0_bestRule_69 rfl hl (by decide) rfl (fun ls hl => ?_)
            refine lv_iload hx hb dX0_bestRule_70 (lv_at hl 5 rfl) ?_
            refine lv_iload hx hb dX0_bestRule_72 (lv_at hl 1 rfl) ?_
            refine va_mmax hx hb (E.2.2.1.trans hl.1.symm) E.2.2.2.1 (E.2.2.2.2 _ q588) (E.2.2.2.2 _ q358) (E.2.2.2.2 _ q89) (E.2.2.2.2 _ q359) (Nat.le_of_ble_eq_true rfl) (Nat.le_of_ble_eq_true rfl) (Nat.le_refl 0) (Nat.le_refl 0) dX0_bestRule_74 ?_
            refine top_i (y := (iMax ((fo (xBR g T) i (σ, 0, -1)).2.2) (xSum (xOne (fo (xBR g T) i (σ, 0, -1)).1 g T i) g g.1))) rfl ?_
            refine lv_istore (lv' := [(4, .int (iMax ((fo (xBR g T) i (σ, 0, -1)).2.2) (xSum (xOne (fo (xBR g T) i (σ, 0, -1)).1 g T i) g g.1))), (3, .int (nI i)), (6, .int (xSum (xOne (fo (xBR g T) i (σ, 0, -1)).1 g T i) g g.1)), (0, .ref o), (1, .int x), (2, .int (σ 1 0)), (5, .int (nI i))]) hx hb dX0_bestRule_77 hl (by decide) rfl (fun ls hl => ?_)
            refine lv_iinc (v := nI (i + 1)) (lv' := [(5, .int (nI (i + 1))), (4, .int (iMax ((fo (xBR g T) i (σ, 0, -1)).2.2) (xSum (xOne (fo (xBR g T) i (σ, 0, -1)).1 g T i) g g.1))), (3, .int (nI i)), (6, .int (xSum (xOne (fo (xBR g T) i (σ, 0, -1)).1 g T i) g g.1)), (0, .ref o), (1, .int x), (2, .int (σ 1 0))]) hx hb dX0_bestRule_79 hl (k := 6) rfl (nI_1 _) (by decide) rfl (fun ls hl => ?_)
            refine lv_goto (tgt := 36) hx hb dX0_bestRule_82 (by decide) ?_
            exact ih36 _ _ ls (x_as I (rfl)) (lv_as (lv_sub (l' := [(0, .ref o), (1, .int x), (2, .int (σ 1 0)), (3, .int (nI i)), (4, .int (iMax ((fo (xBR g T) i (σ, 0, -1)).2.2) (xSum (xOne (fo (xBR g T) i (σ, 0, -1)).1 g T i) g g.1))), (5, .int (nI (i + 1)))]) hl [4, 5, 6, 2, 1, 0] rfl) (by simp only [fo, xBR, c60, if_true, if_false]))
      exact L36 0 (Nat.zero_le _) _ _ ls (x_as I (rfl)) (lv_as (lv_sub (l' := [(0, .ref o), (1, .int x), (2, .int (σ 1 0)), (3, .int 0), (4, .int (-1)), (5, .int 0)]) hl [4, 5, 3, 2, 1, 0] rfl) (rfl))
    · refine lv_bipush (v := (-3)) hx hb dX0_bestRule_20 (by decide) ?_
      subst hQ
      exact r_i E hlk hr I (Nat.le_refl 0) (Nat.le_refl 0) dX0_bestRule_22 (⟨by simp [c7, c17], by simp [c7, c17]⟩)
  · refine lv_bipush (v := (-2)) hx hb dX0_bestRule_10 (by decide) ?_
    subst hQ
    exact r_i E hlk hr I (Nat.le_refl 0) (Nat.le_refl 0) dX0_bestRule_12 (⟨by simp [c7], by simp [c7]⟩)
theorem dc_x_bestRule : yX0_bestRule.cls = RX0 ∧ yX0_bestRule.cls ≠ "java/lang/invoke/MethodHandle" ∧ yX0_bestRule.cls ≠ "java/lang/invoke/VarHandle" ∧ (parseMethodDescriptor yX0_bestRule.desc).map (fun d => d.parameters.length) = some 1 := by decide +kernel
theorem x_layPatiences (l : Launch) (D : va_G) (ty : Nat → ClassId) (o : Nat) (ad : Nat → Nat) (em : Nat) (g : GS) (ex : va_W) (Cy : (Nat → Prop) → State → Prop) (hC : CxOk (CxX em Cy)) (hg : gOk g) (σ : Sg) (T : Nat) (hT : T ≤ 6) (h0 : σ 0 0 = nI T) : xKv l yX0_layPatiences cX0_layPatiences 3 12 D ty (CxX em Cy) o ad (gE ty o (ad 8) em g ex) σ [] (fun τ => τ = xLPat σ g T) := by
  refine Kv.of (by decide) (Nat.le_of_ble_eq_true rfl) ?_
  intro p e s m below meth c A ls args E hK hA hX hlk hr hnm I hl
  have hx := E.1
  have hb := E.2.1
  have hl : lv_has ls 3 [(0, .ref o)] := hl
  refine nameQ (fun Q hQ => ?_)
  have hg8 := hg.1
  refine lv_aload_n hx hb dX0_layPatiences_0 rfl (lv_at hl 0 rfl) ?_
  refine x_get E hK I 2 rfl q140 rfl dX0_layPatiences_1 ?_
  refine lv_istore_n (lv' := [(1, .int (σ 2 0)), (0, .ref o)]) hx hb dX0_layPatiences_4 rfl hl (by decide) rfl (fun ls hl => ?_)
  refine lv_iconst (v := 0) hx hb dX0_layPatiences_5 (by decide) ?_
  refine lv_istore_n (lv' := [(2, .int 0), (1, .int (σ 2 0)), (0, .ref o)]) hx hb dX0_layPatiences_6 rfl hl (by decide) rfl (fun ls hl => ?_)
  have L7 : ∀ v, v ≤ 31 → ∀ (H : Heap) (locs : List Loc) (ls : Array Slot), gI s D A (gW ty o ad em g ex (xLP g T σ v)) H locs → lv_has ls 3 [(0, .ref o), (1, .int (σ 2 0)), (2, .int (nI v))] → W p l e (rmL 12) s m args below meth c H locs 0 0 Q (F0 m 7 ls []) := by
    refine dn_ind 31 ?_ ?_
    · intro H locs ls I hl
      refine lv_iload_n hx hb dX0_layPatiences_7 rfl (lv_at hl 2 rfl) ?_
      refine lv_bipush (v := 30) hx hb dX0_layPatiences_8 (by decide) ?_
      refine lv_icmp_gt (tgt := 36) hx hb dX0_layPatiences_10 (by decide) (fun c10 => ?_) (fun c10 => absurd c10 (fun h => h (by decide)))
      refine lv_aload_n hx hb dX0_layPatiences_36 rfl (lv_at hl 0 rfl) ?_
      refine lv_iload_n hx hb dX0_layPatiences_37 rfl (lv_at hl 1 rfl) ?_
      refine x_put E hK I 2 rfl rfl q140 rfl rfl rfl dX0_layPatiences_38 (fun H locs I => ?_)
      subst hQ
      exact r_v E hlk hr I (Nat.le_refl 0) (Nat.le_refl 0) dX0_layPatiences_41 (rfl)
    · intro v hv ih7 H locs ls I hl
      refine lv_iload_n hx hb dX0_layPatiences_7 rfl (lv_at hl 2 rfl) ?_
      refine lv_bipush (v := 30) hx hb dX0_layPatiences_8 (by decide) ?_
      refine lv_icmp_gt (tgt := 36) hx hb dX0_layPatiences_10 (by decide) (fun c10 => absurd c10 (nI_nlt (a := 30) (by omega) (by omega))) (fun c10 => ?_)
      refine lv_aload_n hx hb dX0_layPatiences_13 rfl (lv_at hl 0 rfl) ?_
      refine lv_iload_n hx hb dX0_layPatiences_14 rfl (lv_at hl 2 rfl) ?_
      refine x_put E hK I 2 rfl rfl q140 rfl rfl rfl dX0_layPatiences_15 (fun H locs I => ?_)
      refine lv_aload_n hx hb dX0_layPatiences_18 rfl (lv_at hl 0 rfl) ?_
      refine x_get E hK I 19 rfl q158 rfl dX0_layPatiences_19 ?_
      refine lv_iload_n hx hb dX0_layPatiences_22 rfl (lv_at hl 2 rfl) ?_
      refine lv_aload_n hx hb dX0_layPatiences_23 rfl (lv_at hl 0 rfl) ?_
      refine lv_bipush (v := (-9)) hx hb dX0_layPatiences_24 (by decide) ?_
      refine x_ci hC E hK hA hX I (x_coinOfDay l D ty o ad em g ex Cy hC hg (up (xLP g T σ v) 2 0 (nI v)) (-9) T hT (by rw [up_k (by decide), xLP_k (by decide) (by decide) (by decide)]; exact h0)) go_x_coinOfDay dc_x_coinOfDay ⟨Nat.le_of_ble_eq_true rfl, Nat.le_of_ble_eq_true rfl⟩ ⟨Nat.le_refl 0, Nat.le_refl 0⟩ hl.1 (Nat.le_of_ble_eq_true rfl) rfl dX0_layPatiences_26 (fun r26 σ26 H locs hp I => ?_)
      refine top_i (y := xSum (xTo (up (xLP g T σ v) 2 0 (nI v)) g T 399 (-9)) g g.1) hp.1 ?_
      have I := x_as I hp.2
      refine x_ast (i := v) E hK I 10 rfl rfl rfl dX0_layPatiences_29 (by simp only [xLn]; omega) (fun H locs I => ?_)
      refine lv_iinc (v := nI (v + 1)) (lv' := [(2, .int (nI (v + 1))), (0, .ref o), (1, .int (σ 2 0))]) hx hb dX0_layPatiences_30 hl (k := 2) rfl (nI_1 _) (by decide) rfl (fun ls hl => ?_)
      refine lv_goto (tgt := 7) hx hb dX0_layPatiences_33 (by decide) ?_
      exact ih7 _ _ ls (x_as I (rfl)) (lv_as (lv_sub (l' := [(0, .ref o), (1, .int (σ 2 0)), (2, .int (nI (v + 1)))]) hl [1, 2, 0] rfl) (rfl))
  exact L7 0 (Nat.zero_le _) _ _ ls (x_as I (rfl)) (lv_as (lv_sub (l' := [(0, .ref o), (1, .int (σ 2 0)), (2, .int 0)]) hl [2, 1, 0] rfl) (rfl))
theorem dc_x_layPatiences : yX0_layPatiences.cls = RX0 ∧ yX0_layPatiences.cls ≠ "java/lang/invoke/MethodHandle" ∧ yX0_layPatiences.cls ≠ "java/lang/invoke/VarHandle" ∧ (parseMethodDescriptor yX0_layPatiences.desc).map (fun d => d.parameters.length) = some 0 := by decide +kernel
theorem go_x_layPatiences : GoodIn lw_all (wsV RX0 264 RX0 yX0_layPatiences (ws_ yX0_layPatiences cX0_layPatiences 3 none)) := lw_V q593 q595 qs25 q71 q596
theorem x_waiting (l : Launch) (D : va_G) (ty : Nat → ClassId) (o : Nat) (ad : Nat → Nat) (em : Nat) (g : GS) (ex : va_W) (Cy : (Nat → Prop) → State → Prop) (hC : CxOk (CxX em Cy)) (hg : gOk g) (σ : Sg) (x : Int32) (T : Nat) (hT : T ≤ 6) (h0 : σ 0 0 = nI T) : xKi l yX0_waiting cX0_waiting 4 .int 13 D ty (CxX em Cy) o ad (gE ty o (ad 8) em g ex) σ [.int x] (fun r τ => r = (if wi x 0 1 then (if σ 0 0 = 0 then (-3) else if x = 0 then nI (xWb (xLPat σ g T) 30) else xLPat σ g T 19 (xWb (xLPat σ g T) 30)) else (-2)) ∧ τ = if wi x 0 1 = true ∧ ¬ σ 0 0 = 0 then xLPat σ g T else σ) := by
  refine Ki.of (by decide) (Nat.le_of_ble_eq_true rfl) ?_
  intro p e s m below meth c A ls args E hK hA hX hlk hr I hl
  have hx := E.1
  have hb := E.2.1
  have hl : lv_has ls 4 [(0, .ref o), (1, .int x)] := hl
  refine nameQ (fun Q hQ => ?_)
  have hg8 := hg.1
  refine lv_iload_n hx hb dX0_waiting_0 rfl (lv_at hl 1 rfl) ?_
  refine lv_i2l hx hb dX0_waiting_1 rfl ?_
  refine lv_lconst (v := 0) hx hb dX0_waiting_2 (by decide) ?_
  refine top_l (y := (0 : Int32).toInt64) (by decide) ?_
  refine lv_lconst (v := 1) hx hb dX0_waiting_3 (by decide) ?_
  refine top_l (y := (1 : Int32).toInt64) (by decide) ?_
  refine c_Si E (x_in l x 0 1) go_x_in ⟨rfl, rfl⟩ dc_x_in ⟨Nat.le_of_ble_eq_true rfl, Nat.le_of_ble_eq_true rfl⟩ ⟨Nat.le_refl 0, Nat.le_refl 0⟩ hl.1 (Nat.le_of_ble_eq_true rfl) rfl dX0_waiting_4 (fun r4 hp => ?_)
  refine top_i (y := bI (wi x 0 1)) hp ?_
  refine b_ne (tgt := 13) hx hb dX0_waiting_7 (by decide) (fun c7 => ?_) (fun c7 => ?_)
  · refine lv_aload_n hx hb dX0_waiting_13 rfl (lv_at hl 0 rfl) ?_
    refine x_get E hK I 0 rfl q138 rfl dX0_waiting_14 ?_
    refine lv_if_ne (tgt := 23) hx hb dX0_waiting_17 (by decide) (fun c17 => ?_) (fun c17 => ?_)
    · refine lv_aload_n hx hb dX0_waiting_23 rfl (lv_at hl 0 rfl) ?_
      refine x_cv hC E hK hA hX I (x_layPatiences l D ty o ad em g ex Cy hC hg σ T hT h0) go_x_layPatiences dc_x_layPatiences ⟨Nat.le_of_ble_eq_true rfl, Nat.le_of_ble_eq_true rfl⟩ ⟨Nat.le_refl 0, Nat.le_refl 0⟩ hl.1 (Nat.le_of_ble_eq_true rfl) rfl dX0_waiting_24 (fun σ24 H locs hp I => ?_)
      have I := x_as I hp
      obtain ⟨s1, hs1⟩ : ∃ z, z = xLPat σ g T := ⟨_, rfl⟩
      have I := x_as I hs1.symm
      refine lv_iconst (v := 0) hx hb dX0_waiting_27 (by decide) ?_
      refine lv_istore_n (lv' := [(2, .int 0), (0, .ref o), (1, .int x)]) hx hb dX0_waiting_28 rfl hl (by decide) rfl (fun ls hl => ?_)
      refine lv_iconst (v := 1) hx hb dX0_waiting_29 (by decide) ?_
      refine lv_istore_n (lv' := [(3, .int 1), (2, .int 0), (0, .ref o), (1, .int x)]) hx hb dX0_waiting_30 rfl hl (by decide) rfl (fun ls hl => ?_)
      have L31 : ∀ j, j ≤ 30 → ∀ (H : Heap) (locs : List Loc) (ls : Array Slot), gI s D A (gW ty o ad em g ex s1) H locs → lv_has ls 4 [(0, .ref o), (1, .int x), (2, .int (nI (xWb s1 j))), (3, .int (nI (j + 1)))] → W p l e (rmL 13) s m args below meth c H locs 0 0 Q (F0 m 31 ls []) := by
        refine dn_ind 30 ?_ ?_
        · intro H locs ls I hl
          refine lv_iload_n hx hb dX0_waiting_31 rfl (lv_at hl 3 rfl) ?_
          refine lv_bipush (v := 30) hx hb dX0_waiting_32 (by decide) ?_
          refine lv_icmp_gt (tgt := 64) hx hb dX0_waiting_34 (by decide) (fun c34 => ?_) (fun c34 => absurd c34 (fun h => h (by decide)))
          refine lv_iload_n hx hb dX0_waiting_64 rfl (lv_at hl 1 rfl) ?_
          refine lv_if_ne (tgt := 72) hx hb dX0_waiting_65 (by decide) (fun c65 => ?_) (fun c65 => ?_)
          · refine lv_aload_n hx hb dX0_waiting_72 rfl (lv_at hl 0 rfl) ?_
            refine x_get E hK I 19 rfl q158 rfl dX0_waiting_73 ?_
            refine lv_iload_n hx hb dX0_waiting_76 rfl (lv_at hl 2 rfl) ?_
            refine x_ald (i := (xWb s1 30)) E hK I 10 rfl rfl rfl dX0_waiting_77 (by have := xWb_le s1 30; simp only [xLn]; omega) ?_
            subst hQ
            exact r_i E hlk hr I (Nat.le_refl 0) (Nat.le_refl 0) dX0_waiting_78 (⟨by simp only [c7, c17, if_true, if_false]; rw [← hs1]; simp [c65], by simp only [c7, c17, and_self, not_false_eq_true, if_true]; exact hs1⟩)
          · refine lv_iload_n hx hb dX0_waiting_68 rfl (lv_at hl 2 rfl) ?_
            refine lv_goto (tgt := 78) hx hb dX0_waiting_69 (by decide) ?_
            subst hQ
            exact r_i E hlk hr I (Nat.le_refl 0) (Nat.le_refl 0) dX0_waiting_78 (⟨by simp only [c7, c17, if_true, if_false]; rw [← hs1]; simp [c65], by simp only [c7, c17, and_self, not_false_eq_true, if_true]; exact hs1⟩)
        · intro j hj ih31 H locs ls I hl
          refine lv_iload_n hx hb dX0_waiting_31 rfl (lv_at hl 3 rfl) ?_
          refine lv_bipush (v := 30) hx hb dX0_waiting_32 (by decide) ?_
          refine lv_icmp_gt (tgt := 64) hx hb dX0_waiting_34 (by decide) (fun c34 => absurd c34 (nI_nlt (a := 30) (by omega) (by omega))) (fun c34 => ?_)
          refine lv_aload_n hx hb dX0_waiting_37 rfl (lv_at hl 0 rfl) ?_
          refine x_get E hK I 19 rfl q158 rfl dX0_waiting_38 ?_
          refine lv_iload_n hx hb dX0_waiting_41 rfl (lv_at hl 3 rfl) ?_
          refine x_ald (i := (j + 1)) E hK I 10 rfl rfl rfl dX0_waiting_42 (by simp only [xLn]; omega) ?_
          refine lv_aload_n hx hb dX0_waiting_43 rfl (lv_at hl 0 rfl) ?_
          refine x_get E hK I 19 rfl q158 rfl dX0_waiting_44 ?_
          refine lv_iload_n hx hb dX0_waiting_47 rfl (lv_at hl 2 rfl) ?_
          refine x_ald (i := (xWb s1 j)) E hK I 10 rfl rfl rfl dX0_waiting_48 (by have := xWb_le s1 j; simp only [xLn]; omega) ?_
          refine lv_icmp_le (tgt := 56) hx hb dX0_waiting_49 (by decide) (fun c49 => ?_) (fun c49 => ?_)
          · refine lv_iload_n hx hb dX0_waiting_56 rfl (lv_at hl 2 rfl) ?_
            refine lv_istore_n (lv' := [(2, .int (nI (xWb s1 j))), (0, .ref o), (1, .int x), (3, .int (nI (j + 1)))]) hx hb dX0_waiting_57 rfl hl (by decide) rfl (fun ls hl => ?_)
            refine lv_iinc (v := nI ((j + 1) + 1)) (lv' := [(3, .int (nI ((j + 1) + 1))), (2, .int (nI (xWb s1 j))), (0, .ref o), (1, .int x)]) hx hb dX0_waiting_58 hl (k := 3) rfl (nI_1 _) (by decide) rfl (fun ls hl => ?_)
            refine lv_goto (tgt := 31) hx hb dX0_waiting_61 (by decide) ?_
            exact ih31 _ _ ls (x_as I (rfl)) (lv_as (lv_sub (l' := [(0, .ref o), (1, .int x), (2, .int (nI (xWb s1 j))), (3, .int (nI ((j + 1) + 1)))]) hl [2, 3, 1, 0] rfl) (by simp [xWb, c49]))
          · refine lv_iload_n hx hb dX0_waiting_52 rfl (lv_at hl 3 rfl) ?_
            refine lv_goto (tgt := 57) hx hb dX0_waiting_53 (by decide) ?_
            refine lv_istore_n (lv' := [(2, .int (nI (j + 1))), (0, .ref o), (1, .int x), (3, .int (nI (j + 1)))]) hx hb dX0_waiting_57 rfl hl (by decide) rfl (fun ls hl => ?_)
            refine lv_iinc (v := nI ((j + 1) + 1)) (lv' := [(3, .int (nI ((j + 1) + 1))), (2, .int (nI (j + 1))), (0, .ref o), (1, .int x)]) hx hb dX0_waiting_58 hl (k := 3) rfl (nI_1 _) (by decide) rfl (fun ls hl => ?_)
            refine lv_goto (tgt := 31) hx hb dX0_waiting_61 (by decide) ?_
            exact ih31 _ _ ls (x_as I (rfl)) (lv_as (lv_sub (l' := [(0, .ref o), (1, .int x), (2, .int (nI (j + 1))), (3, .int (nI ((j + 1) + 1)))]) hl [2, 3, 1, 0] rfl) (by simp [xWb, c49]))
      exact L31 0 (Nat.zero_le _) _ _ ls (x_as I (rfl)) (lv_as (lv_sub (l' := [(0, .ref o), (1, .int x), (2, .int 0), (3, .int 1)]) hl [2, 3, 1, 0] rfl) (rfl))
    · refine lv_bipush (v := (-3)) hx hb dX0_waiting_20 (by decide) ?_
      subst hQ
      exact r_i E hlk hr I (Nat.le_refl 0) (Nat.le_refl 0) dX0_waiting_22 (⟨by simp [c7, c17], by simp [c7, c17]⟩)
  · refine lv_bipush (v := (-2)) hx hb dX0_waiting_10 (by decide) ?_
    subst hQ
    exact r_i E hlk hr I (Nat.le_refl 0) (Nat.le_refl 0) dX0_waiting_12 (⟨by simp [c7], by simp [c7]⟩)
theorem dc_x_waiting : yX0_waiting.cls = RX0 ∧ yX0_waiting.cls ≠ "java/lang/invoke/MethodHandle" ∧ yX0_waiting.cls ≠ "java/lang/invoke/VarHandle" ∧ (parseMethodDescriptor yX0_waiting.desc).map (fun d => d.parameters.length) = some 1 := by decide +kernel
theorem x_till (l : Launch) (D : va_G) (ty : Nat → ClassId) (o : Nat) (ad : Nat → Nat) (em : Nat) (g : GS) (ex : va_W) (Cy : (Nat → Prop) → State → Prop) (hC : CxOk (CxX em Cy)) (hg : gOk g) (σ : Sg) (x : Int32) (w : Int32) (T : Nat) (hT : T ≤ 6) (h0 : σ 0 0 = nI T) : xKi l yX0_till cX0_till 7 .int 13 D ty (CxX em Cy) o ad (gE ty o (ad 8) em g ex) σ [.int x, .int w] (fun r τ => r = (if wi w 0 2 then (if σ 0 0 = 0 then (-3) else if w = 0 then nI (xTl (xLPat σ g T) x 31).1 else if w = 1 then oI (xTl (xLPat σ g T) x 31).2.1 else oI (xTl (xLPat σ g T) x 31).2.2) else (-2)) ∧ τ = if wi w 0 2 = true ∧ ¬ σ 0 0 = 0 then xLPat σ g T else σ) := by
  refine Ki.of (by decide) (Nat.le_of_ble_eq_true rfl) ?_
  intro p e s m below meth c A ls args E hK hA hX hlk hr I hl
  have hx := E.1
  have hb := E.2.1
  have hl : lv_has ls 7 [(0, .ref o), (1, .int x), (2, .int w)] := hl
  refine nameQ (fun Q hQ => ?_)
  have hg8 := hg.1
  refine lv_iload_n hx hb dX0_till_0 rfl (lv_at hl 2 rfl) ?_
  refine lv_i2l hx hb dX0_till_1 rfl ?_
  refine lv_lconst (v := 0) hx hb dX0_till_2 (by decide) ?_
  refine top_l (y := (0 : Int32).toInt64) (by decide) ?_
  refine lv_ldc2 (v := 2) hx hb E.2.2.2.1 (E.2.2.2.2 _ q228) dX0_till_3 ?_
  refine top_l (y := (2 : Int32).toInt64) (by decide) ?_
  refine c_Si E (x_in l w 0 2) go_x_in ⟨rfl, rfl⟩ dc_x_in ⟨Nat.le_of_ble_eq_true rfl, Nat.le_of_ble_eq_true rfl⟩ ⟨Nat.le_refl 0, Nat.le_refl 0⟩ hl.1 (Nat.le_of_ble_eq_true rfl) rfl dX0_till_6 (fun r6 hp => ?_)
  refine top_i (y := bI (wi w 0 2)) hp ?_
  refine b_ne (tgt := 15) hx hb dX0_till_9 (by decide) (fun c9 => ?_) (fun c9 => ?_)
  · refine lv_aload_n hx hb dX0_till_15 rfl (lv_at hl 0 rfl) ?_
    refine x_get E hK I 0 rfl q138 rfl dX0_till_16 ?_
    refine lv_if_ne (tgt := 25) hx hb dX0_till_19 (by decide) (fun c19 => ?_) (fun c19 => ?_)
    · refine lv_aload_n hx hb dX0_till_25 rfl (lv_at hl 0 rfl) ?_
      refine x_cv hC E hK hA hX I (x_layPatiences l D ty o ad em g ex Cy hC hg σ T hT h0) go_x_layPatiences dc_x_layPatiences ⟨Nat.le_of_ble_eq_true rfl, Nat.le_of_ble_eq_true rfl⟩ ⟨Nat.le_refl 0, Nat.le_refl 0⟩ hl.1 (Nat.le_of_ble_eq_true rfl) rfl dX0_till_26 (fun σ26 H locs hp I => ?_)
      have I := x_as I hp
      obtain ⟨s1, hs1⟩ : ∃ z, z = xLPat σ g T := ⟨_, rfl⟩
      have I := x_as I hs1.symm
      refine lv_iconst (v := 0) hx hb dX0_till_29 (by decide) ?_
      refine lv_istore_n (lv' := [(3, .int 0), (0, .ref o), (1, .int x), (2, .int w)]) hx hb dX0_till_30 rfl hl (by decide) rfl (fun ls hl => ?_)
      refine lv_bipush (v := (-9)) hx hb dX0_till_31 (by decide) ?_
      refine lv_istore (lv' := [(4, .int (-9)), (3, .int 0), (0, .ref o), (1, .int x), (2, .int w)]) hx hb dX0_till_33 hl (by decide) rfl (fun ls hl => ?_)
      refine lv_bipush (v := (-9)) hx hb dX0_till_35 (by decide) ?_
      refine lv_istore (lv' := [(5, .int (-9)), (4, .int (-9)), (3, .int 0), (0, .ref o), (1, .int x), (2, .int w)]) hx hb dX0_till_37 hl (by decide) rfl (fun ls hl => ?_)
      refine lv_iconst (v := 0) hx hb dX0_till_39 (by decide) ?_
      refine lv_istore (lv' := [(6, .int 0), (5, .int (-9)), (4, .int (-9)), (3, .int 0), (0, .ref o), (1, .int x), (2, .int w)]) hx hb dX0_till_40 hl (by decide) rfl (fun ls hl => ?_)
      have L42 : ∀ i, i ≤ 31 → ∀ (H : Heap) (locs : List Loc) (ls : Array Slot), gI s D A (gW ty o ad em g ex s1) H locs → lv_has ls 7 [(0, .ref o), (1, .int x), (2, .int w), (3, .int (nI (xTl s1 x i).1)), (4, .int (oI (xTl s1 x i).2.1)), (5, .int (oI (xTl s1 x i).2.2)), (6, .int (nI i))] → W p l e (rmL 13) s m args below meth c H locs 0 0 Q (F0 m 42 ls []) := by
        refine dn_ind 31 ?_ ?_
        · intro H locs ls I hl
          refine lv_iload hx hb dX0_till_42 (lv_at hl 6 rfl) ?_
          refine lv_bipush (v := 30) hx hb dX0_till_44 (by decide) ?_
          refine lv_icmp_gt (tgt := 87) hx hb dX0_till_46 (by decide) (fun c46 => ?_) (fun c46 => absurd c46 (fun h => h (by decide)))
          refine lv_iload_n hx hb dX0_till_87 rfl (lv_at hl 2 rfl) ?_
          refine lv_if_ne (tgt := 95) hx hb dX0_till_88 (by decide) (fun c88 => ?_) (fun c88 => ?_)
          · refine lv_iload_n hx hb dX0_till_95 rfl (lv_at hl 2 rfl) ?_
            refine lv_iconst (v := 1) hx hb dX0_till_96 (by decide) ?_
            refine lv_icmp_ne (tgt := 105) hx hb dX0_till_97 (by decide) (fun c97 => ?_) (fun c97 => ?_)
            · refine lv_iload hx hb dX0_till_105 (lv_at hl 5 rfl) ?_
              subst hQ
              exact r_i E hlk hr I (Nat.le_refl 0) (Nat.le_refl 0) dX0_till_107 (⟨by simp only [c9, c19, if_true, if_false]; rw [← hs1]; simp [c88, c97], by simp only [c9, c19, and_self, not_false_eq_true, if_true]; exact hs1⟩)
            · refine lv_iload hx hb dX0_till_100 (lv_at hl 4 rfl) ?_
              refine lv_goto (tgt := 107) hx hb dX0_till_102 (by decide) ?_
              subst hQ
              exact r_i E hlk hr I (Nat.le_refl 0) (Nat.le_refl 0) dX0_till_107 (⟨by simp only [c9, c19, if_true, if_false]; rw [← hs1]; simp [c88, c97], by simp only [c9, c19, and_self, not_false_eq_true, if_true]; exact hs1⟩)
          · refine lv_iload_n hx hb dX0_till_91 rfl (lv_at hl 3 rfl) ?_
            refine lv_goto (tgt := 107) hx hb dX0_till_92 (by decide) ?_
            subst hQ
            exact r_i E hlk hr I (Nat.le_refl 0) (Nat.le_refl 0) dX0_till_107 (⟨by simp only [c9, c19, if_true, if_false]; rw [← hs1]; simp [c88], by simp only [c9, c19, and_self, not_false_eq_true, if_true]; exact hs1⟩)
        · intro i hi ih42 H locs ls I hl
          refine lv_iload hx hb dX0_till_42 (lv_at hl 6 rfl) ?_
          refine lv_bipush (v := 30) hx hb dX0_till_44 (by decide) ?_
          refine lv_icmp_gt (tgt := 87) hx hb dX0_till_46 (by decide) (fun c46 => absurd c46 (nI_nlt (a := 30) (by omega) (by omega))) (fun c46 => ?_)
          refine lv_aload_n hx hb dX0_till_49 rfl (lv_at hl 0 rfl) ?_
          refine x_get E hK I 19 rfl q158 rfl dX0_till_50 ?_
          refine lv_iload hx hb dX0_till_53 (lv_at hl 6 rfl) ?_
          refine x_ald (i := i) E hK I 10 rfl rfl rfl dX0_till_55 (by simp only [xLn]; omega) ?_
          refine lv_iload_n hx hb dX0_till_56 rfl (lv_at hl 1 rfl) ?_
          refine lv_icmp_ne (tgt := 81) hx hb dX0_till_57 (by decide) (fun c57 => ?_) (fun c57 => ?_)
          · refine lv_iinc (v := nI (i + 1)) (lv' := [(6, .int (nI (i + 1))), (0, .ref o), (1, .int x), (2, .int w), (3, .int (nI (xTl s1 x i).1)), (4, .int (oI (xTl s1 x i).2.1)), (5, .int (oI (xTl s1 x i).2.2))]) hx hb dX0_till_81 hl (k := 6) rfl (nI_1 _) (by decide) rfl (fun ls hl => ?_)
            refine lv_goto (tgt := 42) hx hb dX0_till_84 (by decide) ?_
            exact ih42 _ _ ls (x_as I (rfl)) (lv_as (lv_sub (l' := [(0, .ref o), (1, .int x), (2, .int w), (3, .int (nI (xTl s1 x i).1)), (4, .int (oI (xTl s1 x i).2.1)), (5, .int (oI (xTl s1 x i).2.2)), (6, .int (nI (i + 1)))]) hl [1, 2, 3, 4, 5, 6, 0] rfl) (by rw [xTl_n c57]))
          · refine lv_iinc (v := nI ((xTl s1 x i).1 + 1)) (lv' := [(3, .int (nI ((xTl s1 x i).1 + 1))), (0, .ref o), (1, .int x), (2, .int w), (4, .int (oI (xTl s1 x i).2.1)), (5, .int (oI (xTl s1 x i).2.2)), (6, .int (nI i))]) hx hb dX0_till_60 hl (k := 3) rfl (nI_1 _) (by decide) rfl (fun ls hl => ?_)
            refine lv_iload hx hb dX0_till_63 (lv_at hl 4 rfl) ?_
            refine lv_if_ge (tgt := 73) hx hb dX0_till_65 (by decide) (fun c65 => ?_) (fun c65 => ?_)
            · obtain ⟨b, hb'⟩ := oI_ge (Int32.not_lt.mpr c65)
              refine lv_iload hx hb dX0_till_73 (lv_at hl 4 rfl) ?_
              refine lv_istore (lv' := [(4, .int (oI (xTl s1 x i).2.1)), (3, .int (nI ((xTl s1 x i).1 + 1))), (0, .ref o), (1, .int x), (2, .int w), (5, .int (oI (xTl s1 x i).2.2)), (6, .int (nI i))]) hx hb dX0_till_75 hl (by decide) rfl (fun ls hl => ?_)
              refine lv_iload hx hb dX0_till_77 (lv_at hl 6 rfl) ?_
              refine lv_istore (lv' := [(5, .int (nI i)), (4, .int (oI (xTl s1 x i).2.1)), (3, .int (nI ((xTl s1 x i).1 + 1))), (0, .ref o), (1, .int x), (2, .int w), (6, .int (nI i))]) hx hb dX0_till_79 hl (by decide) rfl (fun ls hl => ?_)
              refine lv_iinc (v := nI (i + 1)) (lv' := [(6, .int (nI (i + 1))), (5, .int (nI i)), (4, .int (oI (xTl s1 x i).2.1)), (3, .int (nI ((xTl s1 x i).1 + 1))), (0, .ref o), (1, .int x), (2, .int w)]) hx hb dX0_till_81 hl (k := 6) rfl (nI_1 _) (by decide) rfl (fun ls hl => ?_)
              refine lv_goto (tgt := 42) hx hb dX0_till_84 (by decide) ?_
              exact ih42 _ _ ls (x_as I (rfl)) (lv_as (lv_sub (l' := [(0, .ref o), (1, .int x), (2, .int w), (3, .int (nI ((xTl s1 x i).1 + 1))), (4, .int (oI (xTl s1 x i).2.1)), (5, .int (nI i)), (6, .int (nI (i + 1)))]) hl [4, 5, 6, 3, 2, 1, 0] rfl) (by rw [xTl_s c57, hb']; rfl))
            · have hz := oI_lt (fun b h => by have := xTl_lt _ _ h; omega) (Int32.not_le.mp c65)
              refine lv_iload hx hb dX0_till_68 (lv_at hl 6 rfl) ?_
              refine lv_goto (tgt := 75) hx hb dX0_till_70 (by decide) ?_
              refine lv_istore (lv' := [(4, .int (nI i)), (3, .int (nI ((xTl s1 x i).1 + 1))), (0, .ref o), (1, .int x), (2, .int w), (5, .int (oI (xTl s1 x i).2.2)), (6, .int (nI i))]) hx hb dX0_till_75 hl (by decide) rfl (fun ls hl => ?_)
              refine lv_iload hx hb dX0_till_77 (lv_at hl 6 rfl) ?_
              refine lv_istore (lv' := [(5, .int (nI i)), (4, .int (nI i)), (3, .int (nI ((xTl s1 x i).1 + 1))), (0, .ref o), (1, .int x), (2, .int w), (6, .int (nI i))]) hx hb dX0_till_79 hl (by decide) rfl (fun ls hl => ?_)
              refine lv_iinc (v := nI (i + 1)) (lv' := [(6, .int (nI (i + 1))), (5, .int (nI i)), (4, .int (nI i)), (3, .int (nI ((xTl s1 x i).1 + 1))), (0, .ref o), (1, .int x), (2, .int w)]) hx hb dX0_till_81 hl (k := 6) rfl (nI_1 _) (by decide) rfl (fun ls hl => ?_)
              refine lv_goto (tgt := 42) hx hb dX0_till_84 (by decide) ?_
              exact ih42 _ _ ls (x_as I (rfl)) (lv_as (lv_sub (l' := [(0, .ref o), (1, .int x), (2, .int w), (3, .int (nI ((xTl s1 x i).1 + 1))), (4, .int (nI i)), (5, .int (nI i)), (6, .int (nI (i + 1)))]) hl [4, 5, 6, 3, 2, 1, 0] rfl) (by rw [xTl_s c57, hz]; rfl))
      exact L42 0 (Nat.zero_le _) _ _ ls (x_as I (rfl)) (lv_as (lv_sub (l' := [(0, .ref o), (1, .int x), (2, .int w), (3, .int 0), (4, .int (-9)), (5, .int (-9)), (6, .int 0)]) hl [4, 5, 6, 3, 2, 1, 0] rfl) (rfl))
    · refine lv_bipush (v := (-3)) hx hb dX0_till_22 (by decide) ?_
      subst hQ
      exact r_i E hlk hr I (Nat.le_refl 0) (Nat.le_refl 0) dX0_till_24 (⟨by simp [c9, c19], by simp [c9, c19]⟩)
  · refine lv_bipush (v := (-2)) hx hb dX0_till_12 (by decide) ?_
    subst hQ
    exact r_i E hlk hr I (Nat.le_refl 0) (Nat.le_refl 0) dX0_till_14 (⟨by simp [c9], by simp [c9]⟩)
theorem dc_x_till : yX0_till.cls = RX0 ∧ yX0_till.cls ≠ "java/lang/invoke/MethodHandle" ∧ yX0_till.cls ≠ "java/lang/invoke/VarHandle" ∧ (parseMethodDescriptor yX0_till.desc).map (fun d => d.parameters.length) = some 2 := by decide +kernel
theorem x_many (l : Launch) (D : va_G) (ty : Nat → ClassId) (o : Nat) (ad : Nat → Nat) (em : Nat) (g : GS) (ex : va_W) (Cy : (Nat → Prop) → State → Prop) (hC : CxOk (CxX em Cy)) (hg : gOk g) (σ : Sg) (w : Int32) (T : Nat) (hT : T ≤ 6) (h0 : σ 0 0 = nI T) : xKi l yX0_many cX0_many 4 .int 3 D ty (CxX em Cy) o ad (gE ty o (ad 8) em g ex) σ [.int w] (fun r τ => r = xManyR σ g T w ∧ τ = σ) := by
  refine Ki.of (by decide) (Nat.le_of_ble_eq_true rfl) ?_
  intro p e s m below meth c A ls args E hK hA hX hlk hr I hl
  have hx := E.1
  have hb := E.2.1
  have hl : lv_has ls 4 [(0, .ref o), (1, .int w)] := hl
  refine nameQ (fun Q hQ => ?_)
  have hg8 := hg.1
  refine lv_iconst (v := 0) hx hb dX0_many_0 (by decide) ?_
  refine lv_istore_n (lv' := [(2, .int 0), (0, .ref o), (1, .int w)]) hx hb dX0_many_1 rfl hl (by decide) rfl (fun ls hl => ?_)
  refine lv_iconst (v := 0) hx hb dX0_many_2 (by decide) ?_
  refine lv_istore_n (lv' := [(3, .int 0), (2, .int 0), (0, .ref o), (1, .int w)]) hx hb dX0_many_3 rfl hl (by decide) rfl (fun ls hl => ?_)
  have L4 : ∀ i, i ≤ T → ∀ (H : Heap) (locs : List Loc) (ls : Array Slot), gI s D A (gW ty o ad em g ex σ) H locs → lv_has ls 4 [(0, .ref o), (1, .int w), (2, .int (sumI (σ 6) i)), (3, .int (nI i))] → W p l e (rmL 3) s m args below meth c H locs 0 0 Q (F0 m 4 ls []) := by
    refine dn_ind T ?_ ?_
    · intro H locs ls I hl
      refine lv_iload_n hx hb dX0_many_4 rfl (lv_at hl 3 rfl) ?_
      refine lv_aload_n hx hb dX0_many_5 rfl (lv_at hl 0 rfl) ?_
      refine x_get (v := .int (nI T)) E hK I 0 rfl q138 (congrArg Value.int (h0)) dX0_many_6 ?_
      refine lv_icmp_ge (tgt := 27) hx hb dX0_many_9 (by decide) (fun c9 => ?_) (fun c9 => absurd c9 (fun h => h (Int32.le_refl _)))
      refine lv_iload_n hx hb dX0_many_27 rfl (lv_at hl 1 rfl) ?_
      by_cases c28_0 : w = 0
      · refine top_i (y := 0) c28_0 ?_
        refine lv_tableIn (tgt := 72) hx hb dX0_many_28 (by decide) (by decide) rfl (by decide) ?_
        refine lv_aload_n hx hb dX0_many_72 rfl (lv_at hl 0 rfl) ?_
        refine x_get (v := .int (nI T)) E hK I 0 rfl q138 (congrArg Value.int (h0)) dX0_many_73 ?_
        subst hQ
        exact r_i E hlk hr I (Nat.le_refl 0) (Nat.le_refl 0) dX0_many_76 (⟨by simp [xManyR, c28_0], rfl⟩)
      by_cases c28_1 : w = 1
      · refine top_i (y := 1) c28_1 ?_
        refine lv_tableIn (tgt := 77) hx hb dX0_many_28 (by decide) (by decide) rfl (by decide) ?_
        refine lv_aload_n hx hb dX0_many_77 rfl (lv_at hl 0 rfl) ?_
        refine x_get E hK I 8 rfl q147 rfl dX0_many_78 ?_
        refine g_size hC E hK hA hX I ⟨Nat.le_of_ble_eq_true rfl, Nat.le_of_ble_eq_true rfl⟩ ⟨Nat.le_refl 0, Nat.le_refl 0⟩ hl.1 (Nat.le_of_ble_eq_true rfl) dX0_many_81 (fun H locs I => ?_)
        subst hQ
        exact r_i E hlk hr I (Nat.le_refl 0) (Nat.le_refl 0) dX0_many_86 (⟨by simp [xManyR, c28_1], rfl⟩)
      by_cases c28_2 : w = 2
      · refine top_i (y := 2) c28_2 ?_
        refine lv_tableIn (tgt := 87) hx hb dX0_many_28 (by decide) (by decide) rfl (by decide) ?_
        refine lv_aload_n hx hb dX0_many_87 rfl (lv_at hl 0 rfl) ?_
        refine x_get E hK I 1 rfl q139 rfl dX0_many_88 ?_
        subst hQ
        exact r_i E hlk hr I (Nat.le_refl 0) (Nat.le_refl 0) dX0_many_91 (⟨by simp [xManyR, c28_2], rfl⟩)
      by_cases c28_3 : w = 3
      · refine top_i (y := 3) c28_3 ?_
        refine lv_tableIn (tgt := 92) hx hb dX0_many_28 (by decide) (by decide) rfl (by decide) ?_
        refine lv_aload_n hx hb dX0_many_92 rfl (lv_at hl 0 rfl) ?_
        refine x_get E hK I 2 rfl q140 rfl dX0_many_93 ?_
        subst hQ
        exact r_i E hlk hr I (Nat.le_refl 0) (Nat.le_refl 0) dX0_many_96 (⟨by simp [xManyR, c28_3], rfl⟩)
      by_cases c28_4 : w = 4
      · refine top_i (y := 4) c28_4 ?_
        refine lv_tableIn (tgt := 97) hx hb dX0_many_28 (by decide) (by decide) rfl (by decide) ?_
        refine lv_aload_n hx hb dX0_many_97 rfl (lv_at hl 0 rfl) ?_
        refine x_get E hK I 3 rfl q141 rfl dX0_many_98 ?_
        refine lv_if_eq (tgt := 108) hx hb dX0_many_101 (by decide) (fun c101 => ?_) (fun c101 => ?_)
        · refine lv_iconst (v := 0) hx hb dX0_many_108 (by decide) ?_
          subst hQ
          exact r_i E hlk hr I (Nat.le_refl 0) (Nat.le_refl 0) dX0_many_109 (⟨by simp [xManyR, c28_4, c101], rfl⟩)
        · refine lv_iconst (v := 1) hx hb dX0_many_104 (by decide) ?_
          refine lv_goto (tgt := 109) hx hb dX0_many_105 (by decide) ?_
          subst hQ
          exact r_i E hlk hr I (Nat.le_refl 0) (Nat.le_refl 0) dX0_many_109 (⟨by simp [xManyR, c28_4, c101], rfl⟩)
      by_cases c28_5 : w = 5
      · refine top_i (y := 5) c28_5 ?_
        refine lv_tableIn (tgt := 110) hx hb dX0_many_28 (by decide) (by decide) rfl (by decide) ?_
        refine lv_aload_n hx hb dX0_many_110 rfl (lv_at hl 0 rfl) ?_
        refine x_get E hK I 4 rfl q142 rfl dX0_many_111 ?_
        subst hQ
        exact r_i E hlk hr I (Nat.le_refl 0) (Nat.le_refl 0) dX0_many_114 (⟨by simp [xManyR, c28_5], rfl⟩)
      by_cases c28_6 : w = 6
      · refine top_i (y := 6) c28_6 ?_
        refine lv_tableIn (tgt := 115) hx hb dX0_many_28 (by decide) (by decide) rfl (by decide) ?_
        refine lv_iload_n hx hb dX0_many_115 rfl (lv_at hl 2 rfl) ?_
        subst hQ
        exact r_i E hlk hr I (Nat.le_refl 0) (Nat.le_refl 0) dX0_many_116 (⟨by simp [xManyR, c28_6], rfl⟩)
      refine lv_tableOut (tgt := 117) hx hb dX0_many_28 (by have := lv_neT c28_0 (a := 0) rfl; have := lv_neT c28_1 (a := 1) rfl; have := lv_neT c28_2 (a := 2) rfl; have := lv_neT c28_3 (a := 3) rfl; have := lv_neT c28_4 (a := 4) rfl; have := lv_neT c28_5 (a := 5) rfl; have := lv_neT c28_6 (a := 6) rfl; omega) (by decide) ?_
      refine lv_bipush (v := (-2)) hx hb dX0_many_117 (by decide) ?_
      subst hQ
      exact r_i E hlk hr I (Nat.le_refl 0) (Nat.le_refl 0) dX0_many_119 (⟨by simp [xManyR, c28_0, c28_1, c28_2, c28_3, c28_4, c28_5, c28_6], rfl⟩)
    · intro i hi ih4 H locs ls I hl
      refine lv_iload_n hx hb dX0_many_4 rfl (lv_at hl 3 rfl) ?_
      refine lv_aload_n hx hb dX0_many_5 rfl (lv_at hl 0 rfl) ?_
      refine x_get (v := .int (nI T)) E hK I 0 rfl q138 (congrArg Value.int (h0)) dX0_many_6 ?_
      refine lv_icmp_ge (tgt := 27) hx hb dX0_many_9 (by decide) (fun c9 => absurd c9 (nI_ge hi (by omega))) (fun c9 => ?_)
      refine lv_iload_n hx hb dX0_many_12 rfl (lv_at hl 2 rfl) ?_
      refine lv_aload_n hx hb dX0_many_13 rfl (lv_at hl 0 rfl) ?_
      refine x_get E hK I 6 rfl q144 rfl dX0_many_14 ?_
      refine lv_iload_n hx hb dX0_many_17 rfl (lv_at hl 3 rfl) ?_
      refine x_ald (i := i) E hK I 1 rfl rfl rfl dX0_many_18 (by simp only [xLn]; omega) ?_
      refine lv_iadd hx hb dX0_many_19 ?_
      refine lv_istore_n (lv' := [(2, .int ((sumI (σ 6) i) + (σ 6 i))), (0, .ref o), (1, .int w), (3, .int (nI i))]) hx hb dX0_many_20 rfl hl (by decide) rfl (fun ls hl => ?_)
      refine lv_iinc (v := nI (i + 1)) (lv' := [(3, .int (nI (i + 1))), (2, .int ((sumI (σ 6) i) + (σ 6 i))), (0, .ref o), (1, .int w)]) hx hb dX0_many_21 hl (k := 3) rfl (nI_1 _) (by decide) rfl (fun ls hl => ?_)
      refine lv_goto (tgt := 4) hx hb dX0_many_24 (by decide) ?_
      exact ih4 _ _ ls (x_as I (rfl)) (lv_as (lv_sub (l' := [(0, .ref o), (1, .int w), (2, .int ((sumI (σ 6) i) + (σ 6 i))), (3, .int (nI (i + 1)))]) hl [2, 3, 1, 0] rfl) (rfl))
  exact L4 0 (Nat.zero_le _) _ _ ls (x_as I (rfl)) (lv_as (lv_sub (l' := [(0, .ref o), (1, .int w), (2, .int 0), (3, .int 0)]) hl [2, 3, 1, 0] rfl) (rfl))
theorem dc_x_many : yX0_many.cls = RX0 ∧ yX0_many.cls ≠ "java/lang/invoke/MethodHandle" ∧ yX0_many.cls ≠ "java/lang/invoke/VarHandle" ∧ (parseMethodDescriptor yX0_many.desc).map (fun d => d.parameters.length) = some 1 := by decide +kernel
theorem x_ofGroup (l : Launch) (D : va_G) (ty : Nat → ClassId) (o : Nat) (ad : Nat → Nat) (em : Nat) (g : GS) (ex : va_W) (Cy : (Nat → Prop) → State → Prop) (hC : CxOk (CxX em Cy)) (hg : gOk g) (σ : Sg) (v : Int32) (w : Int32) : xKi l yX0_ofGroup cX0_ofGroup 3 .int 7 D ty (CxX em Cy) o ad (gE ty o (ad 8) em g ex) σ [.int v, .int w] (fun r τ => r = (if wi v 0 (nI g.1 - 1) then gAsk g (v).toNatClampNeg w else (-1)) ∧ τ = σ) := by
  refine Ki.of (by decide) (Nat.le_of_ble_eq_true rfl) ?_
  intro p e s m below meth c A ls args E hK hA hX hlk hr I hl
  have hx := E.1
  have hb := E.2.1
  have hl : lv_has ls 3 [(0, .ref o), (1, .int v), (2, .int w)] := hl
  have hg8 := hg.1
  refine lv_aload_n hx hb dX0_ofGroup_0 rfl (lv_at hl 0 rfl) ?_
  refine lv_iload_n hx hb dX0_ofGroup_1 rfl (lv_at hl 1 rfl) ?_
  refine x_ci hC E hK hA hX I (x_noGroup l D ty o ad em g ex Cy hC hg σ v) go_x_noGroup dc_x_noGroup ⟨Nat.le_of_ble_eq_true rfl, Nat.le_of_ble_eq_true rfl⟩ ⟨Nat.le_refl 0, Nat.le_refl 0⟩ hl.1 (Nat.le_of_ble_eq_true rfl) rfl dX0_ofGroup_2 (fun r2 σ2 H locs hp I => ?_)
  refine top_i (y := bI (!wi v 0 (nI g.1 - 1))) hp.1 ?_
  have I := x_as I hp.2
  refine b_eq (tgt := 12) hx hb dX0_ofGroup_5 (by decide) (fun c5 => ?_) (fun c5 => ?_)
  · obtain ⟨j, hj, ej⟩ := wi_idx (i := v) (n := g.1) (by omega) (by simpa using c5)
    subst ej
    refine lv_aload_n hx hb dX0_ofGroup_12 rfl (lv_at hl 0 rfl) ?_
    refine x_get E hK I 8 rfl q147 rfl dX0_ofGroup_13 ?_
    refine lv_iload_n hx hb dX0_ofGroup_16 rfl (lv_at hl 1 rfl) ?_
    refine g_lget (i := j) hC hg E hK hA hX I hj ⟨Nat.le_of_ble_eq_true rfl, Nat.le_of_ble_eq_true rfl⟩ ⟨Nat.le_refl 0, Nat.le_refl 0⟩ hl.1 (Nat.le_of_ble_eq_true rfl) dX0_ofGroup_17 (fun H locs I => ?_)
    refine g_cast (i := j) E hK hX I hg hj q260 dX0_ofGroup_22 ?_
    refine lv_iload_n hx hb dX0_ofGroup_25 rfl (lv_at hl 2 rfl) ?_
    refine g_asked  (i := j) q428 hC hg E hK hA hX I hj w ⟨Nat.le_of_ble_eq_true rfl, Nat.le_of_ble_eq_true rfl⟩ ⟨Nat.le_refl 0, Nat.le_refl 0⟩ hl.1 (Nat.le_of_ble_eq_true rfl) dX0_ofGroup_26 (fun H locs I => ?_)
    exact r_i E hlk hr I (Nat.le_refl 0) (Nat.le_refl 0) dX0_ofGroup_29 (⟨by simp at c5; simp only [c5, if_true, nI_clamp (show j < 2 ^ 31 by omega)], rfl⟩)
  · refine lv_iconst (v := (-1)) hx hb dX0_ofGroup_8 (by decide) ?_
    refine lv_goto (tgt := 29) hx hb dX0_ofGroup_9 (by decide) ?_
    exact r_i E hlk hr I (Nat.le_refl 0) (Nat.le_refl 0) dX0_ofGroup_29 (⟨by simp at c5; simp [c5], rfl⟩)
theorem dc_x_ofGroup : yX0_ofGroup.cls = RX0 ∧ yX0_ofGroup.cls ≠ "java/lang/invoke/MethodHandle" ∧ yX0_ofGroup.cls ≠ "java/lang/invoke/VarHandle" ∧ (parseMethodDescriptor yX0_ofGroup.desc).map (fun d => d.parameters.length) = some 2 := by decide +kernel
