set_option maxRecDepth 100000
set_option maxHeartbeats 4000000
def xNw (σ : Sg) (v : Int32) (j : Nat) : Bool := decide (σ 11 j = 4) && decide (((v >>> (nI j &&& 31)) &&& 1) = 0)
def xNx (σ : Sg) (g : GS) (v : Int32) (n : Nat) : Option Nat := smo (xNw σ v) (g.2.2.2.2.2 2) n
theorem x_nextWaiting (l : Launch) (D : va_G) (ty : Nat → ClassId) (o : Nat) (ad : Nat → Nat) (em : Nat) (g : GS) (ex : va_W) (Cy : (Nat → Prop) → State → Prop) (hC : CxOk (CxX em Cy)) (hg : gOk g) (σ : Sg) (v : Int32) : xKi l yX0_nextWaiting cX0_nextWaiting 5 .int 4 D ty (CxX em Cy) o ad (gE ty o (ad 8) em g ex) σ [.int v] (fun r τ => r = oI (xNx σ g v g.1) ∧ τ = σ) := by
  refine Ki.of (by decide) (Nat.le_of_ble_eq_true rfl) ?_
  intro p e s m below meth c A ls args E hK hA hX hlk hr I hl
  have hx := E.1
  have hb := E.2.1
  have hl : lv_has ls 5 [(0, .ref o), (1, .int v)] := hl
  refine nameQ (fun Q hQ => ?_)
  have hg8 := hg.1
  refine lv_bipush (v := (-9)) hx hb dX0_nextWaiting_0 (by decide) ?_
  refine lv_istore_n (lv' := [(2, .int (-9)), (0, .ref o), (1, .int v)]) hx hb dX0_nextWaiting_2 rfl hl (by decide) rfl (fun ls hl => ?_)
  refine lv_iconst (v := 0) hx hb dX0_nextWaiting_3 (by decide) ?_
  refine lv_istore_n (lv' := [(3, .int 0), (2, .int (-9)), (0, .ref o), (1, .int v)]) hx hb dX0_nextWaiting_4 rfl hl (by decide) rfl (fun ls hl => ?_)
  have L5 : ∀ j, j ≤ g.1 → ∀ (H : Heap) (locs : List Loc) (ls : Array Slot), gI s D A (gW ty o ad em g ex σ) H locs → lv_has ls 5 [(0, .ref o), (1, .int v), (2, .int (oI (xNx σ g v j))), (3, .int (nI j))] → W p l e (rmL 4) s m args below meth c H locs 0 0 Q (F0 m 5 ls []) := by
    refine dn_ind g.1 ?_ ?_
    · intro H locs ls I hl
      refine lv_iload_n hx hb dX0_nextWaiting_5 rfl (lv_at hl 3 rfl) ?_
      refine lv_aload_n hx hb dX0_nextWaiting_6 rfl (lv_at hl 0 rfl) ?_
      refine x_get E hK I 8 rfl q147 rfl dX0_nextWaiting_7 ?_
      refine g_size hC E hK hA hX I ⟨Nat.le_of_ble_eq_true rfl, Nat.le_of_ble_eq_true rfl⟩ ⟨Nat.le_refl 0, Nat.le_refl 0⟩ hl.1 (Nat.le_of_ble_eq_true rfl) dX0_nextWaiting_10 (fun H locs I => ?_)
      refine lv_icmp_ge (tgt := 99) hx hb dX0_nextWaiting_15 (by decide) (fun c15 => ?_) (fun c15 => absurd c15 (fun h => h (Int32.le_refl _)))
      refine lv_iload_n hx hb dX0_nextWaiting_99 rfl (lv_at hl 2 rfl) ?_
      subst hQ
      exact r_i E hlk hr I (Nat.le_refl 0) (Nat.le_refl 0) dX0_nextWaiting_100 (⟨rfl, rfl⟩)
    · intro j hj ih5 H locs ls I hl
      refine lv_iload_n hx hb dX0_nextWaiting_5 rfl (lv_at hl 3 rfl) ?_
      refine lv_aload_n hx hb dX0_nextWaiting_6 rfl (lv_at hl 0 rfl) ?_
      refine x_get E hK I 8 rfl q147 rfl dX0_nextWaiting_7 ?_
      refine g_size hC E hK hA hX I ⟨Nat.le_of_ble_eq_true rfl, Nat.le_of_ble_eq_true rfl⟩ ⟨Nat.le_refl 0, Nat.le_refl 0⟩ hl.1 (Nat.le_of_ble_eq_true rfl) dX0_nextWaiting_10 (fun H locs I => ?_)
      refine lv_icmp_ge (tgt := 99) hx hb dX0_nextWaiting_15 (by decide) (fun c15 => absurd c15 (nI_ge hj (by omega))) (fun c15 => ?_)
      refine lv_aload_n hx hb dX0_nextWaiting_18 rfl (lv_at hl 0 rfl) ?_
      refine x_get E hK I 11 rfl q150 rfl dX0_nextWaiting_19 ?_
      refine lv_iload_n hx hb dX0_nextWaiting_22 rfl (lv_at hl 3 rfl) ?_
      refine x_ald (i := j) E hK I 3 rfl rfl rfl dX0_nextWaiting_23 (by simp only [xLn]; omega) ?_
      refine lv_iconst (v := 4) hx hb dX0_nextWaiting_24 (by decide) ?_
      refine lv_icmp_ne (tgt := 40) hx hb dX0_nextWaiting_25 (by decide) (fun c25 => ?_) (fun c25 => ?_)
      · refine lv_iconst (v := 0) hx hb dX0_nextWaiting_40 (by decide) ?_
        refine lv_istore (lv' := [(4, .int 0), (0, .ref o), (1, .int v), (2, .int (oI (xNx σ g v j))), (3, .int (nI j))]) hx hb dX0_nextWaiting_41 hl (by decide) rfl (fun ls hl => ?_)
        refine lv_iload hx hb dX0_nextWaiting_43 (lv_at hl 0 rfl) ?_
        refine lv_if_eq (tgt := 91) hx hb dX0_nextWaiting_45 (by decide) (fun _ => ?_) (fun h => absurd h (by decide))
        refine lv_iload_n hx hb dX0_nextWaiting_91 rfl (lv_at hl 3 rfl) ?_
        refine lv_istore_n (lv' := [(2, .int (oI (xNx σ g v j))), (4, .int 0), (0, .ref o), (1, .int v), (3, .int (nI j))]) hx hb dX0_nextWaiting_92 rfl hl (by decide) rfl (fun ls hl => ?_)
        refine lv_iinc (v := nI (j + 1)) (lv' := [(3, .int (nI (j + 1))), (2, .int (oI (xNx σ g v j))), (4, .int 0), (0, .ref o), (1, .int v)]) hx hb dX0_nextWaiting_93 hl (k := 4) rfl (nI_1 _) (by decide) rfl (fun ls hl => ?_)
        refine lv_goto (tgt := 5) hx hb dX0_nextWaiting_96 (by decide) ?_
        exact ih5 _ _ ls (x_as I (rfl)) (lv_as (lv_sub (l' := [(0, .ref o), (1, .int v), (2, .int (oI (xNx σ g v j))), (3, .int (nI (j + 1)))]) hl [3, 4, 1, 0] rfl) (by rw [show xNx σ g v (j + 1) = xNx σ g v j from smo_d (by simp [xNw, c25])]))
      · refine lv_iload_n hx hb dX0_nextWaiting_28 rfl (lv_at hl 1 rfl) ?_
        refine lv_iload_n hx hb dX0_nextWaiting_29 rfl (lv_at hl 3 rfl) ?_
        refine lv_ishr hx hb dX0_nextWaiting_30 ?_
        refine lv_iconst (v := 1) hx hb dX0_nextWaiting_31 (by decide) ?_
        refine lv_iand hx hb dX0_nextWaiting_32 ?_
        refine lv_if_ne (tgt := 40) hx hb dX0_nextWaiting_33 (by decide) (fun c33 => ?_) (fun c33 => ?_)
        · refine lv_iconst (v := 0) hx hb dX0_nextWaiting_40 (by decide) ?_
          refine lv_istore (lv' := [(4, .int 0), (0, .ref o), (1, .int v), (2, .int (oI (xNx σ g v j))), (3, .int (nI j))]) hx hb dX0_nextWaiting_41 hl (by decide) rfl (fun ls hl => ?_)
          refine lv_iload hx hb dX0_nextWaiting_43 (lv_at hl 0 rfl) ?_
          refine lv_if_eq (tgt := 91) hx hb dX0_nextWaiting_45 (by decide) (fun _ => ?_) (fun h => absurd h (by decide))
          refine lv_iload_n hx hb dX0_nextWaiting_91 rfl (lv_at hl 3 rfl) ?_
          refine lv_istore_n (lv' := [(2, .int (oI (xNx σ g v j))), (4, .int 0), (0, .ref o), (1, .int v), (3, .int (nI j))]) hx hb dX0_nextWaiting_92 rfl hl (by decide) rfl (fun ls hl => ?_)
          refine lv_iinc (v := nI (j + 1)) (lv' := [(3, .int (nI (j + 1))), (2, .int (oI (xNx σ g v j))), (4, .int 0), (0, .ref o), (1, .int v)]) hx hb dX0_nextWaiting_93 hl (k := 4) rfl (nI_1 _) (by decide) rfl (fun ls hl => ?_)
          refine lv_goto (tgt := 5) hx hb dX0_nextWaiting_96 (by decide) ?_
          exact ih5 _ _ ls (x_as I (rfl)) (lv_as (lv_sub (l' := [(0, .ref o), (1, .int v), (2, .int (oI (xNx σ g v j))), (3, .int (nI (j + 1)))]) hl [3, 4, 1, 0] rfl) (by rw [show xNx σ g v (j + 1) = xNx σ g v j from smo_d (by simp [xNw, c25, c33])]))
        · refine lv_iconst (v := 1) hx hb dX0_nextWaiting_36 (by decide) ?_
          refine lv_goto (tgt := 41) hx hb dX0_nextWaiting_37 (by decide) ?_
          refine lv_istore (lv' := [(4, .int 1), (0, .ref o), (1, .int v), (2, .int (oI (xNx σ g v j))), (3, .int (nI j))]) hx hb dX0_nextWaiting_41 hl (by decide) rfl (fun ls hl => ?_)
          refine lv_iload hx hb dX0_nextWaiting_43 (lv_at hl 0 rfl) ?_
          refine lv_if_eq (tgt := 91) hx hb dX0_nextWaiting_45 (by decide) (fun h => absurd h (by decide)) (fun _ => ?_)
          refine lv_iload_n hx hb dX0_nextWaiting_48 rfl (lv_at hl 3 rfl) ?_
          refine lv_if_lt (tgt := 87) hx hb dX0_nextWaiting_49 (by decide) (fun c49 => ?_) (fun c49 => ?_)
          · have hz := oI_lt (fun b h => by have := smo_lt h; omega) c49
            refine lv_iload_n hx hb dX0_nextWaiting_87 rfl (lv_at hl 4 rfl) ?_
            refine lv_goto (tgt := 92) hx hb dX0_nextWaiting_88 (by decide) ?_
            refine lv_istore_n (lv' := [(2, .int (nI j)), (4, .int 1), (0, .ref o), (1, .int v), (3, .int (nI j))]) hx hb dX0_nextWaiting_92 rfl hl (by decide) rfl (fun ls hl => ?_)
            refine lv_iinc (v := nI (j + 1)) (lv' := [(3, .int (nI (j + 1))), (2, .int (nI j)), (4, .int 1), (0, .ref o), (1, .int v)]) hx hb dX0_nextWaiting_93 hl (k := 4) rfl (nI_1 _) (by decide) rfl (fun ls hl => ?_)
            refine lv_goto (tgt := 5) hx hb dX0_nextWaiting_96 (by decide) ?_
            exact ih5 _ _ ls (x_as I (rfl)) (lv_as (lv_sub (l' := [(0, .ref o), (1, .int v), (2, .int (nI j)), (3, .int (nI (j + 1)))]) hl [3, 4, 1, 0] rfl) (by rw [show xNx σ g v (j + 1) = some j from smo_a (by simp [xNw, c25, c33]) hz]; rfl))
          · obtain ⟨b, hb'⟩ := oI_ge c49
            have hbl := smo_lt hb'
            refine lv_aload_n hx hb dX0_nextWaiting_52 rfl (lv_at hl 1 rfl) ?_
            refine x_get E hK I 8 rfl q147 rfl dX0_nextWaiting_53 ?_
            refine lv_iload_n hx hb dX0_nextWaiting_56 rfl (lv_at hl 4 rfl) ?_
            refine g_lget (i := j) hC hg E hK hA hX I (by omega) ⟨Nat.le_of_ble_eq_true rfl, Nat.le_of_ble_eq_true rfl⟩ ⟨Nat.le_refl 0, Nat.le_refl 0⟩ hl.1 (Nat.le_of_ble_eq_true rfl) dX0_nextWaiting_57 (fun H locs I => ?_)
            refine g_cast (i := j) E hK hX I hg (by omega) q260 dX0_nextWaiting_62 ?_
            refine gf_get (i := j) E hK I hg (by omega) 2 (by decide) q276 rfl dX0_nextWaiting_65 ?_
            refine lv_aload_n hx hb dX0_nextWaiting_68 rfl (lv_at hl 1 rfl) ?_
            refine x_get E hK I 8 rfl q147 rfl dX0_nextWaiting_69 ?_
            refine lv_iload_n hx hb dX0_nextWaiting_72 rfl (lv_at hl 3 rfl) ?_
            refine top_i (y := nI b) (by rw [hb']; rfl) ?_
            refine g_lget (i := b) hC hg E hK hA hX I (by omega) ⟨Nat.le_of_ble_eq_true rfl, Nat.le_of_ble_eq_true rfl⟩ ⟨Nat.le_refl 0, Nat.le_refl 0⟩ hl.1 (Nat.le_of_ble_eq_true rfl) dX0_nextWaiting_73 (fun H locs I => ?_)
            refine g_cast (i := b) E hK hX I hg (by omega) q260 dX0_nextWaiting_78 ?_
            refine gf_get (i := b) E hK I hg (by omega) 2 (by decide) q276 rfl dX0_nextWaiting_81 ?_
            refine lv_icmp_ge (tgt := 91) hx hb dX0_nextWaiting_84 (by decide) (fun c84 => ?_) (fun c84 => ?_)
            · refine lv_iload_n hx hb dX0_nextWaiting_91 rfl (lv_at hl 3 rfl) ?_
              refine lv_istore_n (lv' := [(2, .int (oI (xNx σ g v j))), (4, .int 1), (0, .ref o), (1, .int v), (3, .int (nI j))]) hx hb dX0_nextWaiting_92 rfl hl (by decide) rfl (fun ls hl => ?_)
              refine lv_iinc (v := nI (j + 1)) (lv' := [(3, .int (nI (j + 1))), (2, .int (oI (xNx σ g v j))), (4, .int 1), (0, .ref o), (1, .int v)]) hx hb dX0_nextWaiting_93 hl (k := 4) rfl (nI_1 _) (by decide) rfl (fun ls hl => ?_)
              refine lv_goto (tgt := 5) hx hb dX0_nextWaiting_96 (by decide) ?_
              exact ih5 _ _ ls (x_as I (rfl)) (lv_as (lv_sub (l' := [(0, .ref o), (1, .int v), (2, .int (oI (xNx σ g v j))), (3, .int (nI (j + 1)))]) hl [3, 4, 1, 0] rfl) (by rw [show xNx σ g v (j + 1) = xNx σ g v j from smo_c hb' (Int32.not_lt.mpr c84)]))
            · refine lv_iload_n hx hb dX0_nextWaiting_87 rfl (lv_at hl 4 rfl) ?_
              refine lv_goto (tgt := 92) hx hb dX0_nextWaiting_88 (by decide) ?_
              refine lv_istore_n (lv' := [(2, .int (nI j)), (4, .int 1), (0, .ref o), (1, .int v), (3, .int (nI j))]) hx hb dX0_nextWaiting_92 rfl hl (by decide) rfl (fun ls hl => ?_)
              refine lv_iinc (v := nI (j + 1)) (lv' := [(3, .int (nI (j + 1))), (2, .int (nI j)), (4, .int 1), (0, .ref o), (1, .int v)]) hx hb dX0_nextWaiting_93 hl (k := 4) rfl (nI_1 _) (by decide) rfl (fun ls hl => ?_)
              refine lv_goto (tgt := 5) hx hb dX0_nextWaiting_96 (by decide) ?_
              exact ih5 _ _ ls (x_as I (rfl)) (lv_as (lv_sub (l' := [(0, .ref o), (1, .int v), (2, .int (nI j)), (3, .int (nI (j + 1)))]) hl [3, 4, 1, 0] rfl) (by rw [show xNx σ g v (j + 1) = some j from smo_b (by simp [xNw, c25, c33]) hb' (Int32.not_le.mp c84)]; rfl))
  exact L5 0 (Nat.zero_le _) _ _ ls (x_as I (rfl)) (lv_as (lv_sub (l' := [(0, .ref o), (1, .int v), (2, .int (-9)), (3, .int 0)]) hl [2, 3, 1, 0] rfl) (rfl))
theorem dc_x_nextWaiting : yX0_nextWaiting.cls = RX0 ∧ yX0_nextWaiting.cls ≠ "java/lang/invoke/MethodHandle" ∧ yX0_nextWaiting.cls ≠ "java/lang/invoke/VarHandle" ∧ (parseMethodDescriptor yX0_nextWaiting.desc).map (fun d => d.parameters.length) = some 1 := by decide +kernel
theorem go_x_nextWaiting : GoodIn lw_all (wsV RX0 192 RX0 yX0_nextWaiting (ws_ yX0_nextWaiting cX0_nextWaiting 5 (some .int))) := lw_V q506 q508 qs15 q71 q509
theorem xSit_k {k : Nat} (h : k ≠ 9) (h2 : k ≠ 12) (h3 : k ≠ 11) (h4 : k ≠ 13) (h5 : k ≠ 14) (σ : Sg) (g : GS) (i q n : Nat) : xSit σ g i q n k = σ k := by
  unfold xSit
  by_cases hc : (xAt σ g i n).isSome = true
  · rw [if_pos hc, up_rk h3, up_rk h5, xSitS, up_rk h4, up_rk h3, xDoes_k h h2]
  · rw [if_neg hc, xDoes_k h h2]
/-- one who waits is asked again -/
def xLw1 (σ : Sg) (g : GS) (q T b : Nat) : Sg := if (xAt σ g b T).isSome then xSit σ g b q T else if nI q - g.2.2.2.2.2 2 b < xSit σ g b q T 2 0 then xSit σ g b q T else xOff (xSit σ g b q T) b 1 (nI q)
def xLw (g : GS) (q T : Nat) : Nat → Sg → Int32 → Sg
  | 0, σ, _ => σ
  | f + 1, σ, v => match xNx σ g v g.1 with
    | none => σ
    | some b => xLw g q T f (xLw1 σ g q T b) (v ||| (1 <<< (nI b &&& 31)))
theorem xLw_n {g : GS} {q T : Nat} {σ : Sg} {v : Int32} (h : xNx σ g v g.1 = none) : ∀ f, xLw g q T f σ v = σ
  | 0 => rfl
  | f + 1 => by simp [xLw, h]
theorem xLw_s {g : GS} {q T f b : Nat} {σ : Sg} {v : Int32} (h : xNx σ g v g.1 = some b) : xLw g q T (f + 1) σ v = xLw g q T f (xLw1 σ g q T b) (v ||| (1 <<< (nI b &&& 31))) := by simp [xLw, h]
theorem xOff_k {k : Nat} (h : k ≠ 11) (h2 : k ≠ 15) (σ : Sg) (i : Nat) (w x : Int32) : xOff σ i w x k = σ k := by rw [xOff, up_rk h2, up_rk h]
theorem xLw1_k {k : Nat} (h : k < 9 ∨ 15 < k) (σ : Sg) (g : GS) (q T b : Nat) : xLw1 σ g q T b k = σ k := by
  have h1 := xSit_k (k := k) (by omega) (by omega) (by omega) (by omega) (by omega) σ g b q T
  unfold xLw1
  split
  · exact h1
  · split
    · exact h1
    · rw [xOff_k (by omega) (by omega)]; exact h1
theorem xLw_k {g : GS} {q T k : Nat} (h : k < 9 ∨ 15 < k) : ∀ f (σ : Sg) (v : Int32), xLw g q T f σ v k = σ k
  | 0, _, _ => rfl
  | f + 1, σ, v => by
    cases hx : xNx σ g v g.1 with
    | none => rw [xLw_n hx]
    | some b => rw [xLw_s hx, xLw_k h f, xLw1_k h]
theorem xNw_bt {σ : Sg} {v : Int32} {b : Nat} (hb : b < 8) (h : xNw σ v b = true) : bt v b = false := by
  simp only [xNw, Bool.and_eq_true, decide_eq_true_eq] at h
  exact (bt_z (by omega)).mp h.2
theorem cnt_set {v : Int32} {b n : Nat} (hb : b < n) (hn : n ≤ 8) (h : bt v b = false) : cnt (fun j => !bt (v ||| (1 <<< (nI b &&& 31))) j) n < cnt (fun j => !bt v j) n := by
  refine cnt_lt (k := b) ?_ (by simp [h]) ?_ n hb
  · intro j hj
    rw [b_or] at hj
    revert hj
    cases bt v j <;> simp
  · show (!bt (v ||| (1 <<< (nI b &&& 31))) b) = false
    rw [bt_set (by omega) (by omega)]; simp
theorem xNx_0 {σ : Sg} {g : GS} {v : Int32} (hg : g.1 ≤ 8) (h : cnt (fun j => !bt v j) g.1 ≤ 0) : xNx σ g v g.1 = none := by
  cases hx : xNx σ g v g.1 with
  | none => rfl
  | some b =>
    have h1 := smo_lt hx
    have h2 := xNw_bt (by omega) (smo_p hx)
    have h3 := cnt_0 _ (Nat.le_zero.mp h) b h1
    rw [h2] at h3; simp at h3
theorem x_letWaiting (l : Launch) (D : va_G) (ty : Nat → ClassId) (o : Nat) (ad : Nat → Nat) (em : Nat) (g : GS) (ex : va_W) (Cy : (Nat → Prop) → State → Prop) (hC : CxOk (CxX em Cy)) (hg : gOk g) (σ : Sg) (q : Nat) (T : Nat) (hT : T ≤ 6) (h0 : σ 0 0 = nI T) : xKv l yX0_letWaiting cX0_letWaiting 4 8 D ty (CxX em Cy) o ad (gE ty o (ad 8) em g ex) σ [.int (nI q)] (fun τ => τ = xLw g q T 8 σ 0) := by
  refine Kv.of (by decide) (Nat.le_of_ble_eq_true rfl) ?_
  intro p e s m below meth c A ls args E hK hA hX hlk hr hnm I hl
  have hx := E.1
  have hb := E.2.1
  have hl : lv_has ls 4 [(0, .ref o), (1, .int (nI q))] := hl
  refine nameQ (fun Q hQ => ?_)
  have hg8 := hg.1
  obtain ⟨Fn, hFn⟩ : ∃ z, z = xLw g q T 8 σ 0 := ⟨_, rfl⟩
  have L8 : ∀ (f : Nat) (σ : Sg) (v : Int32), σ 0 0 = nI T → cnt (fun j => !bt v j) g.1 ≤ f → xLw g q T f σ v = Fn → ∀ (H : Heap) (locs : List Loc) (ls : Array Slot), gI s D A (gW ty o ad em g ex σ) H locs → lv_has ls 4 [(0, .ref o), (1, .int (nI q)), (2, .int v), (3, .int (oI (xNx σ g v g.1)))] → W p l e (rmL 8) s m args below meth c H locs 0 0 Q (F0 m 8 ls []) := by
    intro f
    induction f with
    | zero =>
      intro σ v h0 hc hF H locs ls I hl
      have hz := xNx_0 (σ := σ) hg8 hc
      refine lv_iload_n hx hb dX0_letWaiting_8 rfl (lv_at hl 3 rfl) ?_
      refine lv_if_lt (tgt := 80) hx hb dX0_letWaiting_9 (by decide) (fun c9 => ?_) (fun c9 => absurd c9 (not_not_intro (by rw [hz]; decide)))
      subst hQ
      exact r_v E hlk hr I (Nat.le_refl 0) (Nat.le_refl 0) dX0_letWaiting_80 (((xLw_n hz 0).symm.trans hF).trans hFn)
    | succ f ih =>
      intro σ v h0 hc hF H locs ls I hl
      refine lv_iload_n hx hb dX0_letWaiting_8 rfl (lv_at hl 3 rfl) ?_
      refine lv_if_lt (tgt := 80) hx hb dX0_letWaiting_9 (by decide) (fun c9 => ?_) (fun c9 => ?_)
      · have hz := oI_lt (fun b h => by have := smo_lt h; omega) c9
        subst hQ
        exact r_v E hlk hr I (Nat.le_refl 0) (Nat.le_refl 0) dX0_letWaiting_80 (((xLw_n hz (f + 1)).symm.trans hF).trans hFn)
      · obtain ⟨b, hb'⟩ := oI_ge c9
        have hbl := smo_lt hb'
        refine lv_iload_n hx hb dX0_letWaiting_12 rfl (lv_at hl 2 rfl) ?_
        refine lv_iconst (v := 1) hx hb dX0_letWaiting_13 (by decide) ?_
        refine lv_iload_n hx hb dX0_letWaiting_14 rfl (lv_at hl 3 rfl) ?_
        refine top_i (y := nI b) (by rw [hb']; rfl) ?_
        refine lv_ishl hx hb dX0_letWaiting_15 ?_
        refine lv_ior hx hb dX0_letWaiting_16 ?_
        refine lv_istore_n (lv' := [(2, .int (v ||| (1 <<< ((nI b) &&& 31)))), (0, .ref o), (1, .int (nI q)), (3, .int (oI (xNx σ g v g.1)))]) hx hb dX0_letWaiting_17 rfl hl (by decide) rfl (fun ls hl => ?_)
        refine lv_aload_n hx hb dX0_letWaiting_18 rfl (lv_at hl 1 rfl) ?_
        refine lv_aload_n hx hb dX0_letWaiting_19 rfl (lv_at hl 1 rfl) ?_
        refine x_get E hK I 8 rfl q147 rfl dX0_letWaiting_20 ?_
        refine lv_iload_n hx hb dX0_letWaiting_23 rfl (lv_at hl 3 rfl) ?_
        refine top_i (y := nI b) (by rw [hb']; rfl) ?_
        refine g_lget (i := b) hC hg E hK hA hX I hbl ⟨Nat.le_of_ble_eq_true rfl, Nat.le_of_ble_eq_true rfl⟩ ⟨Nat.le_refl 0, Nat.le_refl 0⟩ hl.1 (Nat.le_of_ble_eq_true rfl) dX0_letWaiting_24 (fun H locs I => ?_)
        refine g_cast (i := b) E hK hX I hg hbl q260 dX0_letWaiting_29 ?_
        refine lv_iload_n hx hb dX0_letWaiting_32 rfl (lv_at hl 2 rfl) ?_
        refine x_ci hC E hK hA hX I (x_sitsDown l D ty o ad em g ex Cy hC hg σ b q hbl T hT h0) go_x_sitsDown dc_x_sitsDown ⟨Nat.le_of_ble_eq_true rfl, Nat.le_of_ble_eq_true rfl⟩ ⟨Nat.le_refl 0, Nat.le_refl 0⟩ hl.1 (Nat.le_of_ble_eq_true rfl) rfl dX0_letWaiting_33 (fun r33 σ33 H locs hp I => ?_)
        refine top_i (y := bI (xAt σ g b T).isSome) hp.1 ?_
        have I := x_as I hp.2
        refine b_ne (tgt := 71) hx hb dX0_letWaiting_36 (by decide) (fun c36 => ?_) (fun c36 => ?_)
        · refine lv_aload_n hx hb dX0_letWaiting_71 rfl (lv_at hl 1 rfl) ?_
          refine lv_iload_n hx hb dX0_letWaiting_72 rfl (lv_at hl 0 rfl) ?_
          refine x_ci hC E hK hA hX I (x_nextWaiting l D ty o ad em g ex Cy hC hg (xSit σ g b q T) (v ||| (1 <<< ((nI b) &&& 31)))) go_x_nextWaiting dc_x_nextWaiting ⟨Nat.le_of_ble_eq_true rfl, Nat.le_of_ble_eq_true rfl⟩ ⟨Nat.le_refl 0, Nat.le_refl 0⟩ hl.1 (Nat.le_of_ble_eq_true rfl) rfl dX0_letWaiting_73 (fun r73 σ73 H locs hp I => ?_)
          refine top_i (y := oI (xNx (xSit σ g b q T) g (v ||| (1 <<< ((nI b) &&& 31))) g.1)) hp.1 ?_
          have I := x_as I hp.2
          refine lv_istore_n (lv' := [(3, .int (oI (xNx (xSit σ g b q T) g (v ||| (1 <<< ((nI b) &&& 31))) g.1))), (2, .int (v ||| (1 <<< ((nI b) &&& 31)))), (0, .ref o), (1, .int (nI q))]) hx hb dX0_letWaiting_76 rfl hl (by decide) rfl (fun ls hl => ?_)
          refine lv_goto (tgt := 8) hx hb dX0_letWaiting_77 (by decide) ?_
          have h1 : xLw1 σ g q T b = (xSit σ g b q T) := by simp [xLw1, c36]
          exact ih (xSit σ g b q T) (v ||| (1 <<< ((nI b) &&& 31))) (by rw [← h1, xLw1_k (by decide)]; exact h0) (by have := cnt_set hbl hg8 (xNw_bt (by omega) (smo_p hb')); omega) (by rw [xLw_s hb', h1] at hF; exact hF) _ _ ls I (lv_sub (l' := [(0, .ref o), (1, .int (nI q)), (2, .int (v ||| (1 <<< ((nI b) &&& 31)))), (3, .int (oI (xNx (xSit σ g b q T) g (v ||| (1 <<< ((nI b) &&& 31))) g.1)))]) hl [2, 3, 1, 0] rfl)
        · refine lv_iload_n hx hb dX0_letWaiting_39 rfl (lv_at hl 2 rfl) ?_
          refine lv_aload_n hx hb dX0_letWaiting_40 rfl (lv_at hl 1 rfl) ?_
          refine x_get E hK I 8 rfl q147 rfl dX0_letWaiting_41 ?_
          refine lv_iload_n hx hb dX0_letWaiting_44 rfl (lv_at hl 3 rfl) ?_
          refine top_i (y := nI b) (by rw [hb']; rfl) ?_
          refine g_lget (i := b) hC hg E hK hA hX I hbl ⟨Nat.le_of_ble_eq_true rfl, Nat.le_of_ble_eq_true rfl⟩ ⟨Nat.le_refl 0, Nat.le_refl 0⟩ hl.1 (Nat.le_of_ble_eq_true rfl) dX0_letWaiting_45 (fun H locs I => ?_)
          refine g_cast (i := b) E hK hX I hg hbl q260 dX0_letWaiting_50 ?_
          refine gf_get (i := b) E hK I hg hbl 2 (by decide) q276 rfl dX0_letWaiting_53 ?_
          refine lv_isub hx hb dX0_letWaiting_56 ?_
          refine lv_aload_n hx hb dX0_letWaiting_57 rfl (lv_at hl 1 rfl) ?_
          refine x_get E hK I 2 rfl q140 rfl dX0_letWaiting_58 ?_
          refine lv_icmp_lt (tgt := 71) hx hb dX0_letWaiting_61 (by decide) (fun c61 => ?_) (fun c61 => ?_)
          · refine lv_aload_n hx hb dX0_letWaiting_71 rfl (lv_at hl 1 rfl) ?_
            refine lv_iload_n hx hb dX0_letWaiting_72 rfl (lv_at hl 0 rfl) ?_
            refine x_ci hC E hK hA hX I (x_nextWaiting l D ty o ad em g ex Cy hC hg (xSit σ g b q T) (v ||| (1 <<< ((nI b) &&& 31)))) go_x_nextWaiting dc_x_nextWaiting ⟨Nat.le_of_ble_eq_true rfl, Nat.le_of_ble_eq_true rfl⟩ ⟨Nat.le_refl 0, Nat.le_refl 0⟩ hl.1 (Nat.le_of_ble_eq_true rfl) rfl dX0_letWaiting_73 (fun r73 σ73 H locs hp I => ?_)
            refine top_i (y := oI (xNx (xSit σ g b q T) g (v ||| (1 <<< ((nI b) &&& 31))) g.1)) hp.1 ?_
            have I := x_as I hp.2
            refine lv_istore_n (lv' := [(3, .int (oI (xNx (xSit σ g b q T) g (v ||| (1 <<< ((nI b) &&& 31))) g.1))), (2, .int (v ||| (1 <<< ((nI b) &&& 31)))), (0, .ref o), (1, .int (nI q))]) hx hb dX0_letWaiting_76 rfl hl (by decide) rfl (fun ls hl => ?_)
            refine lv_goto (tgt := 8) hx hb dX0_letWaiting_77 (by decide) ?_
            have h1 : xLw1 σ g q T b = (xSit σ g b q T) := by simp [xLw1, c36, c61]
            exact ih (xSit σ g b q T) (v ||| (1 <<< ((nI b) &&& 31))) (by rw [← h1, xLw1_k (by decide)]; exact h0) (by have := cnt_set hbl hg8 (xNw_bt (by omega) (smo_p hb')); omega) (by rw [xLw_s hb', h1] at hF; exact hF) _ _ ls I (lv_sub (l' := [(0, .ref o), (1, .int (nI q)), (2, .int (v ||| (1 <<< ((nI b) &&& 31)))), (3, .int (oI (xNx (xSit σ g b q T) g (v ||| (1 <<< ((nI b) &&& 31))) g.1)))]) hl [2, 3, 1, 0] rfl)
          · refine lv_aload_n hx hb dX0_letWaiting_64 rfl (lv_at hl 1 rfl) ?_
            refine lv_iload_n hx hb dX0_letWaiting_65 rfl (lv_at hl 3 rfl) ?_
            refine top_i (y := nI b) (by rw [hb']; rfl) ?_
            refine lv_iconst (v := 1) hx hb dX0_letWaiting_66 (by decide) ?_
            refine lv_iload_n hx hb dX0_letWaiting_67 rfl (lv_at hl 2 rfl) ?_
            refine x_cv hC E hK hA hX I (x_goesOff l D ty o ad (gE ty o (ad 8) em g ex) (CxX em Cy) hC (xSit σ g b q T) b 1 (nI q) (by omega)) go_x_goesOff dc_x_goesOff ⟨Nat.le_of_ble_eq_true rfl, Nat.le_of_ble_eq_true rfl⟩ ⟨Nat.le_refl 0, Nat.le_refl 0⟩ hl.1 (Nat.le_of_ble_eq_true rfl) rfl dX0_letWaiting_68 (fun σ68 H locs hp I => ?_)
            have I := x_as I hp
            refine lv_aload_n hx hb dX0_letWaiting_71 rfl (lv_at hl 1 rfl) ?_
            refine lv_iload_n hx hb dX0_letWaiting_72 rfl (lv_at hl 0 rfl) ?_
            refine x_ci hC E hK hA hX I (x_nextWaiting l D ty o ad em g ex Cy hC hg (xOff (xSit σ g b q T) b 1 (nI q)) (v ||| (1 <<< ((nI b) &&& 31)))) go_x_nextWaiting dc_x_nextWaiting ⟨Nat.le_of_ble_eq_true rfl, Nat.le_of_ble_eq_true rfl⟩ ⟨Nat.le_refl 0, Nat.le_refl 0⟩ hl.1 (Nat.le_of_ble_eq_true rfl) rfl dX0_letWaiting_73 (fun r73 σ73 H locs hp I => ?_)
            refine top_i (y := oI (xNx (xOff (xSit σ g b q T) b 1 (nI q)) g (v ||| (1 <<< ((nI b) &&& 31))) g.1)) hp.1 ?_
            have I := x_as I hp.2
            refine lv_istore_n (lv' := [(3, .int (oI (xNx (xOff (xSit σ g b q T) b 1 (nI q)) g (v ||| (1 <<< ((nI b) &&& 31))) g.1))), (2, .int (v ||| (1 <<< ((nI b) &&& 31)))), (0, .ref o), (1, .int (nI q))]) hx hb dX0_letWaiting_76 rfl hl (by decide) rfl (fun ls hl => ?_)
            refine lv_goto (tgt := 8) hx hb dX0_letWaiting_77 (by decide) ?_
            have h1 : xLw1 σ g q T b = (xOff (xSit σ g b q T) b 1 (nI q)) := by simp [xLw1, c36, c61]
            exact ih (xOff (xSit σ g b q T) b 1 (nI q)) (v ||| (1 <<< ((nI b) &&& 31))) (by rw [← h1, xLw1_k (by decide)]; exact h0) (by have := cnt_set hbl hg8 (xNw_bt (by omega) (smo_p hb')); omega) (by rw [xLw_s hb', h1] at hF; exact hF) _ _ ls I (lv_sub (l' := [(0, .ref o), (1, .int (nI q)), (2, .int (v ||| (1 <<< ((nI b) &&& 31)))), (3, .int (oI (xNx (xOff (xSit σ g b q T) b 1 (nI q)) g (v ||| (1 <<< ((nI b) &&& 31))) g.1)))]) hl [2, 3, 1, 0] rfl)
  refine lv_iconst (v := 0) hx hb dX0_letWaiting_0 (by decide) ?_
  refine lv_istore_n (lv' := [(2, .int 0), (0, .ref o), (1, .int (nI q))]) hx hb dX0_letWaiting_1 rfl hl (by decide) rfl (fun ls hl => ?_)
  refine lv_aload_n hx hb dX0_letWaiting_2 rfl (lv_at hl 1 rfl) ?_
  refine lv_iload_n hx hb dX0_letWaiting_3 rfl (lv_at hl 0 rfl) ?_
  refine x_ci hC E hK hA hX I (x_nextWaiting l D ty o ad em g ex Cy hC hg σ 0) go_x_nextWaiting dc_x_nextWaiting ⟨Nat.le_of_ble_eq_true rfl, Nat.le_of_ble_eq_true rfl⟩ ⟨Nat.le_refl 0, Nat.le_refl 0⟩ hl.1 (Nat.le_of_ble_eq_true rfl) rfl dX0_letWaiting_4 (fun r4 σ4 H locs hp I => ?_)
  refine top_i (y := oI (xNx σ g 0 g.1)) hp.1 ?_
  have I := x_as I hp.2
  refine lv_istore_n (lv' := [(3, .int (oI (xNx σ g 0 g.1))), (2, .int 0), (0, .ref o), (1, .int (nI q))]) hx hb dX0_letWaiting_7 rfl hl (by decide) rfl (fun ls hl => ?_)
  exact L8 8 σ 0 h0 (Nat.le_trans (cnt_n _ _) hg8) hFn.symm _ _ ls I (lv_sub (l' := [(0, .ref o), (1, .int (nI q)), (2, .int 0), (3, .int (oI (xNx σ g 0 g.1)))]) hl [2, 3, 1, 0] rfl)
theorem dc_x_letWaiting : yX0_letWaiting.cls = RX0 ∧ yX0_letWaiting.cls ≠ "java/lang/invoke/MethodHandle" ∧ yX0_letWaiting.cls ≠ "java/lang/invoke/VarHandle" ∧ (parseMethodDescriptor yX0_letWaiting.desc).map (fun d => d.parameters.length) = some 1 := by decide +kernel
theorem go_x_letWaiting : GoodIn lw_all (wsV RX0 219 RX0 yX0_letWaiting (ws_ yX0_letWaiting cX0_letWaiting 4 none)) := lw_V q502 q504 qs14 q71 q505
