/-! Arrays.fill over one of the class's arrays -/
set_option maxRecDepth 100000
set_option maxHeartbeats 4000000
def xFil (σ : Sg) (k : Nat) (v : Int32) : Nat → Sg
  | 0 => σ
  | n + 1 => up (xFil σ k v n) k n v
theorem xFil_k {a k : Nat} (h : a ≠ k) (σ : Sg) (v : Int32) : ∀ n, xFil σ k v n a = σ a
  | 0 => rfl
  | n + 1 => by rw [xFil, up_rk h, xFil_k h]
theorem x_fill (l : Launch) (D : va_G) (ty : Nat → ClassId) (o : Nat) (ad : Nat → Nat) (ex : va_W) (Cx : (Nat → Prop) → State → Prop) (σ : Sg) (p0 k : Nat) (hp0 : xAr[p0]? = some k) (hk0 : Nat.blt (xLn k) 401 = true) (v : Int32) : Kv l yJ15_fill cJ15_fill 4 (rmL 1) D ty Cx [.ref (ad k), .int v] (xW ty o ad ex) σ (fun τ => τ = xFil σ k v (xLn k)) := by
  refine Kv.of (by decide) (Nat.le_of_ble_eq_true rfl) ?_
  intro p e s m below meth c A ls args E hK hA hX hlk hr hnm I hl
  have hx := E.1
  have hb := E.2.1
  have hl : lv_has ls 4 [(0, .ref (ad k)), (1, .int v)] := hl
  have hn : xLn k < 401 := Nat.le_of_ble_eq_true hk0
  refine nameQ (fun Q hQ => ?_)
  refine lv_iconst (v := 0) hx hb dJ15_fill_0 (by decide) ?_
  refine lv_istore_n (lv' := [(2, .int 0), (0, .ref (ad k)), (1, .int v)]) hx hb dJ15_fill_1 rfl hl (by decide) rfl (fun ls hl => ?_)
  refine lv_aload_n hx hb dJ15_fill_2 rfl (lv_at hl 1 rfl) ?_
  refine x_alen E hK I p0 hp0 dJ15_fill_3 ?_
  refine lv_istore_n (lv' := [(3, .int (nI (xLn k))), (2, .int 0), (0, .ref (ad k)), (1, .int v)]) hx hb dJ15_fill_4 rfl hl (by decide) rfl (fun ls hl => ?_)
  have L5 : ∀ i, i ≤ xLn k → ∀ (H : Heap) (locs : List Loc) (ls : Array Slot), gI s D A (xW ty o ad ex (xFil σ k v i)) H locs → lv_has ls 4 [(0, .ref (ad k)), (1, .int v), (2, .int (nI i)), (3, .int (nI (xLn k)))] → W p l e (rmL 1) s m args below meth c H locs 0 0 Q (F0 m 5 ls []) := by
    refine dn_ind (xLn k) ?_ ?_
    · intro H locs ls I hl
      refine lv_iload_n hx hb dJ15_fill_5 rfl (lv_at hl 2 rfl) ?_
      refine lv_iload_n hx hb dJ15_fill_6 rfl (lv_at hl 3 rfl) ?_
      refine lv_icmp_ge (tgt := 20) hx hb dJ15_fill_7 (by decide) (fun _ => ?_) (fun h => absurd (Int32.le_refl _) h)
      subst hQ
      exact r_v E hlk hr I (Nat.le_refl 0) (Nat.le_refl 0) dJ15_fill_20 rfl
    · intro i hi ih H locs ls I hl
      refine lv_iload_n hx hb dJ15_fill_5 rfl (lv_at hl 2 rfl) ?_
      refine lv_iload_n hx hb dJ15_fill_6 rfl (lv_at hl 3 rfl) ?_
      refine lv_icmp_ge (tgt := 20) hx hb dJ15_fill_7 (by decide) (fun h => absurd h (nI_ge hi (by omega))) (fun _ => ?_)
      refine lv_aload_n hx hb dJ15_fill_10 rfl (lv_at hl 0 rfl) ?_
      refine lv_iload_n hx hb dJ15_fill_11 rfl (lv_at hl 2 rfl) ?_
      refine lv_iload_n hx hb dJ15_fill_12 rfl (lv_at hl 1 rfl) ?_
      refine x_astO E hK I p0 hp0 hk0 dJ15_fill_13 hi (fun H locs I => ?_)
      refine lv_iinc (v := nI (i + 1)) (lv' := [(2, .int (nI (i + 1))), (0, .ref (ad k)), (1, .int v), (3, .int (nI (xLn k)))]) hx hb dJ15_fill_14 hl (k := 2) rfl (nI_1 _) (by decide) rfl (fun ls hl => ?_)
      refine lv_goto (tgt := 5) hx hb dJ15_fill_17 (by decide) ?_
      exact ih _ _ ls I (lv_sub (l' := [(0, .ref (ad k)), (1, .int v), (2, .int (nI (i + 1))), (3, .int (nI (xLn k)))]) hl [1, 2, 0, 3] rfl)
  exact L5 0 (Nat.zero_le _) _ _ ls I (lv_sub (l' := [(0, .ref (ad k)), (1, .int v), (2, .int (nI 0)), (3, .int (nI (xLn k)))]) hl [2, 3, 1, 0] rfl)
theorem go_fill : GoodIn lw_all (va_wsS RX0 209 yJ15_fill (ws_ yJ15_fill cJ15_fill 4 none)) := lw_S q471 q472 q94 q473
theorem dc_fill : yJ15_fill.cls ≠ "java/lang/invoke/MethodHandle" ∧ yJ15_fill.cls ≠ "java/lang/invoke/VarHandle" ∧ (parseMethodDescriptor yJ15_fill.desc).map (fun d => d.parameters.length) = some 2 := by decide +kernel
