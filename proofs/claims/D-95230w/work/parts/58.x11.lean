set_option maxRecDepth 100000
set_option maxHeartbeats 4000000
def xHit (σ : Sg) (g : GS) (i t j : Nat) : Bool := decide (σ 16 j = nI t) && !decide (g.2.2.2.2.2 2 j + gSt g j false ≤ g.2.2.2.2.2 2 i) && decide (g.2.2.2.2.2 2 j < g.2.2.2.2.2 2 i + gSt g i false)
/-- may guest i have table t beside the first j -/
def xCl (σ : Sg) (g : GS) (i t : Nat) : Nat → Bool
  | 0 => !decide (σ 6 t < g.2.2.2.2.2 1 i)
  | j + 1 => xCl σ g i t j && !xHit σ g i t j
theorem xCl_t {σ : Sg} {g : GS} {i t j : Nat} (h : xHit σ g i t j = false) : bI (xCl σ g i t j) &&& 1 = bI (xCl σ g i t (j + 1)) := by
  rw [xCl, h]; cases xCl σ g i t j <;> decide
theorem xCl_f {σ : Sg} {g : GS} {i t j : Nat} (h : xHit σ g i t j = true) : bI (xCl σ g i t j) &&& 0 = bI (xCl σ g i t (j + 1)) := by
  rw [xCl, h]; cases xCl σ g i t j <;> decide
theorem iMin6 {n : Nat} (h : n ≤ 8) : iMin 6 (nI n) = nI (min 6 n) := (by decide +kernel : ∀ n, n < 9 → iMin 6 (nI n) = nI (min 6 n)) n (by omega)
def xTf (g : GS) (F : Int32 → Sg → Sg) (i : Nat) (v : Int32) (t : Nat) (σ : Sg) : Sg := if xCl σ g i t i then F (v + gCo g i (gSt g i false)) (up σ 16 i (nI t)) else σ
/-- all plans from guest i on; r guests are left -/
def xTp (g : GS) (T : Nat) : Nat → Nat → Int32 → Sg → Sg
  | 0, _, v, σ => if v ≤ σ 18 0 then σ else xCpy (up σ 18 0 v) 16 17
  | r + 1, i, v, σ => xTp g T r (i + 1) v (up (fo (xTf g (xTp g T r (i + 1)) i v) T σ) 16 i (-9))
theorem xTp_k {k : Nat} (h : k < 16 ∨ 18 < k) (g : GS) (T : Nat) : ∀ (r i : Nat) (v : Int32) (σ : Sg), xTp g T r i v σ k = σ k
  | 0, i, v, σ => by
    unfold xTp
    split
    · rfl
    · rw [xCpy_k (by omega), up_rk (by omega)]
  | r + 1, i, v, σ => by
    rw [xTp, xTp_k h g T r, up_rk (by omega)]
    refine fo_k (fun t s => ?_) _ _
    unfold xTf
    split
    · rw [xTp_k h g T r, up_rk (by omega)]
    · rfl
theorem xTf_k {k : Nat} (h : k < 16 ∨ 18 < k) (g : GS) (T r i : Nat) (v : Int32) (t : Nat) (σ : Sg) : xTf g (xTp g T r (i + 1)) i v t σ k = σ k := by
  unfold xTf
  split
  · rw [xTp_k h g T r, up_rk (by omega)]
  · rfl
theorem x_isClear (l : Launch) (D : va_G) (ty : Nat → ClassId) (o : Nat) (ad : Nat → Nat) (em : Nat) (g : GS) (ex : va_W) (Cy : (Nat → Prop) → State → Prop) (hC : CxOk (CxX em Cy)) (hg : gOk g) (σ : Sg) (i : Nat) (t : Nat) (hi : i < g.1) (h6 : i < 6) (ht : t < 6) : xKi l yX0_isClear cX0_isClear 7 .boolean 5 D ty (CxX em Cy) o ad (gE ty o (ad 8) em g ex) σ [.int (nI i), .int (nI t)] (fun r τ => r = bI (xCl σ g i t i) ∧ τ = σ) := by
  refine Ki.of (by decide) (Nat.le_of_ble_eq_true rfl) ?_
  intro p e s m below meth c A ls args E hK hA hX hlk hr I hl
  have hx := E.1
  have hb := E.2.1
  have hl : lv_has ls 7 [(0, .ref o), (1, .int (nI i)), (2, .int (nI t))] := hl
  refine nameQ (fun Q hQ => ?_)
  have hg8 := hg.1
  refine lv_aload_n hx hb dX0_isClear_0 rfl (lv_at hl 0 rfl) ?_
  refine x_get E hK I 8 rfl q147 rfl dX0_isClear_1 ?_
  refine lv_iload_n hx hb dX0_isClear_4 rfl (lv_at hl 1 rfl) ?_
  refine g_lget (i := i) hC hg E hK hA hX I hi ⟨Nat.le_of_ble_eq_true rfl, Nat.le_of_ble_eq_true rfl⟩ ⟨Nat.le_refl 0, Nat.le_refl 0⟩ hl.1 (Nat.le_of_ble_eq_true rfl) dX0_isClear_5 (fun H locs I => ?_)
  refine g_cast (i := i) E hK hX I hg hi q260 dX0_isClear_10 ?_
  refine lv_astore_n (lv' := [(3, .ref (g.2.2.2.1 i)), (0, .ref o), (1, .int (nI i)), (2, .int (nI t))]) hx hb dX0_isClear_13 rfl hl (by decide) rfl (fun ls hl => ?_)
  refine lv_aload_n hx hb dX0_isClear_14 rfl (lv_at hl 1 rfl) ?_
  refine x_get E hK I 6 rfl q144 rfl dX0_isClear_15 ?_
  refine lv_iload_n hx hb dX0_isClear_18 rfl (lv_at hl 3 rfl) ?_
  refine x_ald (i := t) E hK I 1 rfl rfl rfl dX0_isClear_19 (by simp only [xLn]; omega) ?_
  refine lv_aload_n hx hb dX0_isClear_20 rfl (lv_at hl 0 rfl) ?_
  refine gf_get (i := i) E hK I hg hi 1 (by decide) q274 rfl dX0_isClear_21 ?_
  refine lv_icmp_lt (tgt := 31) hx hb dX0_isClear_24 (by decide) (fun c24 => ?_) (fun c24 => ?_)
  · refine lv_iconst (v := 0) hx hb dX0_isClear_31 (by decide) ?_
    refine top_i (y := bI (xCl σ g i t 0)) (by simp [xCl, c24, bI]) ?_
    refine lv_istore (lv' := [(4, .int (bI (xCl σ g i t 0))), (3, .ref (g.2.2.2.1 i)), (0, .ref o), (1, .int (nI i)), (2, .int (nI t))]) hx hb dX0_isClear_32 hl (by decide) rfl (fun ls hl => ?_)
    refine lv_iconst (v := 0) hx hb dX0_isClear_34 (by decide) ?_
    refine lv_istore (lv' := [(5, .int 0), (4, .int (bI (xCl σ g i t 0))), (3, .ref (g.2.2.2.1 i)), (0, .ref o), (1, .int (nI i)), (2, .int (nI t))]) hx hb dX0_isClear_35 hl (by decide) rfl (fun ls hl => ?_)
    have L37 : ∀ j, j ≤ i → ∀ (H : Heap) (locs : List Loc) (ls : Array Slot), gI s D A (gW ty o ad em g ex σ) H locs → lv_has ls 7 [(0, .ref o), (1, .int (nI i)), (2, .int (nI t)), (3, .ref (g.2.2.2.1 i)), (4, .int (bI (xCl σ g i t j))), (5, .int (nI j))] → W p l e (rmL 5) s m args below meth c H locs 0 0 Q (F0 m 37 ls []) := by
      refine dn_ind i ?_ ?_
      · intro H locs ls I hl
        refine lv_iload hx hb dX0_isClear_37 (lv_at hl 5 rfl) ?_
        refine lv_iload_n hx hb dX0_isClear_39 rfl (lv_at hl 1 rfl) ?_
        refine lv_icmp_ge (tgt := 123) hx hb dX0_isClear_40 (by decide) (fun c40 => ?_) (fun c40 => absurd c40 (fun h => h (Int32.le_refl _)))
        refine lv_iload hx hb dX0_isClear_123 (lv_at hl 4 rfl) ?_
        subst hQ
        exact r_z (b := (xCl σ g i t i)) E hlk hr I (Nat.le_refl 0) (Nat.le_refl 0) dX0_isClear_125 rfl (⟨rfl, rfl⟩)
      · intro j hj ih37 H locs ls I hl
        refine lv_iload hx hb dX0_isClear_37 (lv_at hl 5 rfl) ?_
        refine lv_iload_n hx hb dX0_isClear_39 rfl (lv_at hl 1 rfl) ?_
        refine lv_icmp_ge (tgt := 123) hx hb dX0_isClear_40 (by decide) (fun c40 => absurd c40 (nI_ge hj (by omega))) (fun c40 => ?_)
        refine lv_aload_n hx hb dX0_isClear_43 rfl (lv_at hl 0 rfl) ?_
        refine x_get E hK I 8 rfl q147 rfl dX0_isClear_44 ?_
        refine lv_iload hx hb dX0_isClear_47 (lv_at hl 5 rfl) ?_
        refine g_lget (i := j) hC hg E hK hA hX I (by omega) ⟨Nat.le_of_ble_eq_true rfl, Nat.le_of_ble_eq_true rfl⟩ ⟨Nat.le_refl 0, Nat.le_refl 0⟩ hl.1 (Nat.le_of_ble_eq_true rfl) dX0_isClear_49 (fun H locs I => ?_)
        refine g_cast (i := j) E hK hX I hg (by omega) q260 dX0_isClear_54 ?_
        refine lv_astore (lv' := [(6, .ref (g.2.2.2.1 j)), (0, .ref o), (1, .int (nI i)), (2, .int (nI t)), (3, .ref (g.2.2.2.1 i)), (4, .int (bI (xCl σ g i t j))), (5, .int (nI j))]) hx hb dX0_isClear_57 hl (by decide) rfl (fun ls hl => ?_)
        refine lv_iload hx hb dX0_isClear_59 (lv_at hl 5 rfl) ?_
        refine lv_aload_n hx hb dX0_isClear_61 rfl (lv_at hl 1 rfl) ?_
        refine x_get E hK I 16 rfl q155 rfl dX0_isClear_62 ?_
        refine lv_iload hx hb dX0_isClear_65 (lv_at hl 6 rfl) ?_
        refine x_ald (i := j) E hK I 8 rfl rfl rfl dX0_isClear_67 (by simp only [xLn]; omega) ?_
        refine lv_iload_n hx hb dX0_isClear_68 rfl (lv_at hl 3 rfl) ?_
        refine lv_icmp_ne (tgt := 109) hx hb dX0_isClear_69 (by decide) (fun c69 => ?_) (fun c69 => ?_)
        · refine lv_iconst (v := 1) hx hb dX0_isClear_109 (by decide) ?_
          refine lv_goto (tgt := 114) hx hb dX0_isClear_110 (by decide) ?_
          refine lv_iand hx hb dX0_isClear_114 ?_
          refine top_i (y := bI (xCl σ g i t (j + 1))) (xCl_t (by simp [xHit, c69])) ?_
          refine lv_istore (lv' := [(4, .int (bI (xCl σ g i t (j + 1)))), (6, .ref (g.2.2.2.1 j)), (0, .ref o), (1, .int (nI i)), (2, .int (nI t)), (3, .ref (g.2.2.2.1 i)), (5, .int (nI j))]) hx hb dX0_isClear_115 hl (by decide) rfl (fun ls hl => ?_)
          refine lv_iinc (v := nI (j + 1)) (lv' := [(5, .int (nI (j + 1))), (4, .int (bI (xCl σ g i t (j + 1)))), (6, .ref (g.2.2.2.1 j)), (0, .ref o), (1, .int (nI i)), (2, .int (nI t)), (3, .ref (g.2.2.2.1 i))]) hx hb dX0_isClear_117 hl (k := 6) rfl (nI_1 _) (by decide) rfl (fun ls hl => ?_)
          refine lv_goto (tgt := 37) hx hb dX0_isClear_120 (by decide) ?_
          exact ih37 _ _ ls (x_as I (rfl)) (lv_as (lv_sub (l' := [(0, .ref o), (1, .int (nI i)), (2, .int (nI t)), (3, .ref (g.2.2.2.1 i)), (4, .int (bI (xCl σ g i t (j + 1)))), (5, .int (nI (j + 1)))]) hl [3, 4, 5, 6, 1, 0] rfl) (rfl))
        · refine lv_aload_n hx hb dX0_isClear_72 rfl (lv_at hl 4 rfl) ?_
          refine gf_get (i := i) E hK I hg hi 2 (by decide) q276 rfl dX0_isClear_73 ?_
          refine lv_aload hx hb dX0_isClear_76 (lv_at hl 0 rfl) ?_
          refine gf_get (i := j) E hK I hg (by omega) 2 (by decide) q276 rfl dX0_isClear_78 ?_
          refine lv_aload hx hb dX0_isClear_81 (lv_at hl 0 rfl) ?_
          refine lv_iconst (v := 0) hx hb dX0_isClear_83 (by decide) ?_
          refine g_stays (i := j) q518 hC hg E hK hA hX I (by omega) false ⟨Nat.le_of_ble_eq_true rfl, Nat.le_of_ble_eq_true rfl⟩ ⟨Nat.le_refl 0, Nat.le_refl 0⟩ hl.1 (Nat.le_of_ble_eq_true rfl) dX0_isClear_84 (fun H locs I => ?_)
          refine lv_iadd hx hb dX0_isClear_87 ?_
          refine lv_icmp_ge (tgt := 109) hx hb dX0_isClear_88 (by decide) (fun c88 => ?_) (fun c88 => ?_)
          · refine lv_iconst (v := 1) hx hb dX0_isClear_109 (by decide) ?_
            refine lv_goto (tgt := 114) hx hb dX0_isClear_110 (by decide) ?_
            refine lv_iand hx hb dX0_isClear_114 ?_
            refine top_i (y := bI (xCl σ g i t (j + 1))) (xCl_t (by simp [xHit, c69, c88])) ?_
            refine lv_istore (lv' := [(4, .int (bI (xCl σ g i t (j + 1)))), (6, .ref (g.2.2.2.1 j)), (0, .ref o), (1, .int (nI i)), (2, .int (nI t)), (3, .ref (g.2.2.2.1 i)), (5, .int (nI j))]) hx hb dX0_isClear_115 hl (by decide) rfl (fun ls hl => ?_)
            refine lv_iinc (v := nI (j + 1)) (lv' := [(5, .int (nI (j + 1))), (4, .int (bI (xCl σ g i t (j + 1)))), (6, .ref (g.2.2.2.1 j)), (0, .ref o), (1, .int (nI i)), (2, .int (nI t)), (3, .ref (g.2.2.2.1 i))]) hx hb dX0_isClear_117 hl (k := 6) rfl (nI_1 _) (by decide) rfl (fun ls hl => ?_)
            refine lv_goto (tgt := 37) hx hb dX0_isClear_120 (by decide) ?_
            exact ih37 _ _ ls (x_as I (rfl)) (lv_as (lv_sub (l' := [(0, .ref o), (1, .int (nI i)), (2, .int (nI t)), (3, .ref (g.2.2.2.1 i)), (4, .int (bI (xCl σ g i t (j + 1)))), (5, .int (nI (j + 1)))]) hl [3, 4, 5, 6, 1, 0] rfl) (rfl))
          · refine lv_aload hx hb dX0_isClear_91 (lv_at hl 0 rfl) ?_
            refine gf_get (i := j) E hK I hg (by omega) 2 (by decide) q276 rfl dX0_isClear_93 ?_
            refine lv_aload_n hx hb dX0_isClear_96 rfl (lv_at hl 4 rfl) ?_
            refine gf_get (i := i) E hK I hg hi 2 (by decide) q276 rfl dX0_isClear_97 ?_
            refine lv_aload_n hx hb dX0_isClear_100 rfl (lv_at hl 4 rfl) ?_
            refine lv_iconst (v := 0) hx hb dX0_isClear_101 (by decide) ?_
            refine g_stays (i := i) q518 hC hg E hK hA hX I hi false ⟨Nat.le_of_ble_eq_true rfl, Nat.le_of_ble_eq_true rfl⟩ ⟨Nat.le_refl 0, Nat.le_refl 0⟩ hl.1 (Nat.le_of_ble_eq_true rfl) dX0_isClear_102 (fun H locs I => ?_)
            refine lv_iadd hx hb dX0_isClear_105 ?_
            refine lv_icmp_lt (tgt := 113) hx hb dX0_isClear_106 (by decide) (fun c106 => ?_) (fun c106 => ?_)
            · refine lv_iconst (v := 0) hx hb dX0_isClear_113 (by decide) ?_
              refine lv_iand hx hb dX0_isClear_114 ?_
              refine top_i (y := bI (xCl σ g i t (j + 1))) (xCl_f (by simp [xHit, c69, c88, c106])) ?_
              refine lv_istore (lv' := [(4, .int (bI (xCl σ g i t (j + 1)))), (6, .ref (g.2.2.2.1 j)), (0, .ref o), (1, .int (nI i)), (2, .int (nI t)), (3, .ref (g.2.2.2.1 i)), (5, .int (nI j))]) hx hb dX0_isClear_115 hl (by decide) rfl (fun ls hl => ?_)
              refine lv_iinc (v := nI (j + 1)) (lv' := [(5, .int (nI (j + 1))), (4, .int (bI (xCl σ g i t (j + 1)))), (6, .ref (g.2.2.2.1 j)), (0, .ref o), (1, .int (nI i)), (2, .int (nI t)), (3, .ref (g.2.2.2.1 i))]) hx hb dX0_isClear_117 hl (k := 6) rfl (nI_1 _) (by decide) rfl (fun ls hl => ?_)
              refine lv_goto (tgt := 37) hx hb dX0_isClear_120 (by decide) ?_
              exact ih37 _ _ ls (x_as I (rfl)) (lv_as (lv_sub (l' := [(0, .ref o), (1, .int (nI i)), (2, .int (nI t)), (3, .ref (g.2.2.2.1 i)), (4, .int (bI (xCl σ g i t (j + 1)))), (5, .int (nI (j + 1)))]) hl [3, 4, 5, 6, 1, 0] rfl) (rfl))
            · refine lv_iconst (v := 1) hx hb dX0_isClear_109 (by decide) ?_
              refine lv_goto (tgt := 114) hx hb dX0_isClear_110 (by decide) ?_
              refine lv_iand hx hb dX0_isClear_114 ?_
              refine top_i (y := bI (xCl σ g i t (j + 1))) (xCl_t (by simp [xHit, c69, c88, c106])) ?_
              refine lv_istore (lv' := [(4, .int (bI (xCl σ g i t (j + 1)))), (6, .ref (g.2.2.2.1 j)), (0, .ref o), (1, .int (nI i)), (2, .int (nI t)), (3, .ref (g.2.2.2.1 i)), (5, .int (nI j))]) hx hb dX0_isClear_115 hl (by decide) rfl (fun ls hl => ?_)
              refine lv_iinc (v := nI (j + 1)) (lv' := [(5, .int (nI (j + 1))), (4, .int (bI (xCl σ g i t (j + 1)))), (6, .ref (g.2.2.2.1 j)), (0, .ref o), (1, .int (nI i)), (2, .int (nI t)), (3, .ref (g.2.2.2.1 i))]) hx hb dX0_isClear_117 hl (k := 6) rfl (nI_1 _) (by decide) rfl (fun ls hl => ?_)
              refine lv_goto (tgt := 37) hx hb dX0_isClear_120 (by decide) ?_
              exact ih37 _ _ ls (x_as I (rfl)) (lv_as (lv_sub (l' := [(0, .ref o), (1, .int (nI i)), (2, .int (nI t)), (3, .ref (g.2.2.2.1 i)), (4, .int (bI (xCl σ g i t (j + 1)))), (5, .int (nI (j + 1)))]) hl [3, 4, 5, 6, 1, 0] rfl) (rfl))
    exact L37 0 (Nat.zero_le _) _ _ ls (x_as I (rfl)) (lv_as (lv_sub (l' := [(0, .ref o), (1, .int (nI i)), (2, .int (nI t)), (3, .ref (g.2.2.2.1 i)), (4, .int (bI (xCl σ g i t 0))), (5, .int 0)]) hl [3, 4, 5, 2, 1, 0] rfl) (rfl))
  · refine lv_iconst (v := 1) hx hb dX0_isClear_27 (by decide) ?_
    refine lv_goto (tgt := 32) hx hb dX0_isClear_28 (by decide) ?_
    refine top_i (y := bI (xCl σ g i t 0)) (by simp [xCl, c24, bI]) ?_
    refine lv_istore (lv' := [(4, .int (bI (xCl σ g i t 0))), (3, .ref (g.2.2.2.1 i)), (0, .ref o), (1, .int (nI i)), (2, .int (nI t))]) hx hb dX0_isClear_32 hl (by decide) rfl (fun ls hl => ?_)
    refine lv_iconst (v := 0) hx hb dX0_isClear_34 (by decide) ?_
    refine lv_istore (lv' := [(5, .int 0), (4, .int (bI (xCl σ g i t 0))), (3, .ref (g.2.2.2.1 i)), (0, .ref o), (1, .int (nI i)), (2, .int (nI t))]) hx hb dX0_isClear_35 hl (by decide) rfl (fun ls hl => ?_)
    have L37 : ∀ j, j ≤ i → ∀ (H : Heap) (locs : List Loc) (ls : Array Slot), gI s D A (gW ty o ad em g ex σ) H locs → lv_has ls 7 [(0, .ref o), (1, .int (nI i)), (2, .int (nI t)), (3, .ref (g.2.2.2.1 i)), (4, .int (bI (xCl σ g i t j))), (5, .int (nI j))] → W p l e (rmL 5) s m args below meth c H locs 0 0 Q (F0 m 37 ls []) := by
      refine dn_ind i ?_ ?_
      · intro H locs ls I hl
        refine lv_iload hx hb dX0_isClear_37 (lv_at hl 5 rfl) ?_
        refine lv_iload_n hx hb dX0_isClear_39 rfl (lv_at hl 1 rfl) ?_
        refine lv_icmp_ge (tgt := 123) hx hb dX0_isClear_40 (by decide) (fun c40 => ?_) (fun c40 => absurd c40 (fun h => h (Int32.le_refl _)))
        refine lv_iload hx hb dX0_isClear_123 (lv_at hl 4 rfl) ?_
        subst hQ
        exact r_z (b := (xCl σ g i t i)) E hlk hr I (Nat.le_refl 0) (Nat.le_refl 0) dX0_isClear_125 rfl (⟨rfl, rfl⟩)
      · intro j hj ih37 H locs ls I hl
        refine lv_iload hx hb dX0_isClear_37 (lv_at hl 5 rfl) ?_
        refine lv_iload_n hx hb dX0_isClear_39 rfl (lv_at hl 1 rfl) ?_
        refine lv_icmp_ge (tgt := 123) hx hb dX0_isClear_40 (by decide) (fun c40 => absurd c40 (nI_ge hj (by omega))) (fun c40 => ?_)
        refine lv_aload_n hx hb dX0_isClear_43 rfl (lv_at hl 0 rfl) ?_
        refine x_get E hK I 8 rfl q147 rfl dX0_isClear_44 ?_
        refine lv_iload hx hb dX0_isClear_47 (lv_at hl 5 rfl) ?_
        refine g_lget (i := j) hC hg E hK hA hX I (by omega) ⟨Nat.le_of_ble_eq_true rfl, Nat.le_of_ble_eq_true rfl⟩ ⟨Nat.le_refl 0, Nat.le_refl 0⟩ hl.1 (Nat.le_of_ble_eq_true rfl) dX0_isClear_49 (fun H locs I => ?_)
        refine g_cast (i := j) E hK hX I hg (by omega) q260 dX0_isClear_54 ?_
        refine lv_astore (lv' := [(6, .ref (g.2.2.2.1 j)), (0, .ref o), (1, .int (nI i)), (2, .int (nI t)), (3, .ref (g.2.2.2.1 i)), (4, .int (bI (xCl σ g i t j))), (5, .int (nI j))]) hx hb dX0_isClear_57 hl (by decide) rfl (fun ls hl => ?_)
        refine lv_iload hx hb dX0_isClear_59 (lv_at hl 5 rfl) ?_
        refine lv_aload_n hx hb dX0_isClear_61 rfl (lv_at hl 1 rfl) ?_
        refine x_get E hK I 16 rfl q155 rfl dX0_isClear_62 ?_
        refine lv_iload hx hb dX0_isClear_65 (lv_at hl 6 rfl) ?_
        refine x_ald (i := j) E hK I 8 rfl rfl rfl dX0_isClear_67 (by simp only [xLn]; omega) ?_
        refine lv_iload_n hx hb dX0_isClear_68 rfl (lv_at hl 3 rfl) ?_
        refine lv_icmp_ne (tgt := 109) hx hb dX0_isClear_69 (by decide) (fun c69 => ?_) (fun c69 => ?_)
        · refine lv_iconst (v := 1) hx hb dX0_isClear_109 (by decide) ?_
          refine lv_goto (tgt := 114) hx hb dX0_isClear_110 (by decide) ?_
          refine lv_iand hx hb dX0_isClear_114 ?_
          refine top_i (y := bI (xCl σ g i t (j + 1))) (xCl_t (by simp [xHit, c69])) ?_
          refine lv_istore (lv' := [(4, .int (bI (xCl σ g i t (j + 1)))), (6, .ref (g.2.2.2.1 j)), (0, .ref o), (1, .int (nI i)), (2, .int (nI t)), (3, .ref (g.2.2.2.1 i)), (5, .int (nI j))]) hx hb dX0_isClear_115 hl (by decide) rfl (fun ls hl => ?_)
          refine lv_iinc (v := nI (j + 1)) (lv' := [(5, .int (nI (j + 1))), (4, .int (bI (xCl σ g i t (j + 1)))), (6, .ref (g.2.2.2.1 j)), (0, .ref o), (1, .int (nI i)), (2, .int (nI t)), (3, .ref (g.2.2.2.1 i))]) hx hb dX0_isClear_117 hl (k := 6) rfl (nI_1 _) (by decide) rfl (fun ls hl => ?_)
          refine lv_goto (tgt := 37) hx hb dX0_isClear_120 (by decide) ?_
          exact ih37 _ _ ls (x_as I (rfl)) (lv_as (lv_sub (l' := [(0, .ref o), (1, .int (nI i)), (2, .int (nI t)), (3, .ref (g.2.2.2.1 i)), (4, .int (bI (xCl σ g i t (j + 1)))), (5, .int (nI (j + 1)))]) hl [3, 4, 5, 6, 1, 0] rfl) (rfl))
        · refine lv_aload_n hx hb dX0_isClear_72 rfl (lv_at hl 4 rfl) ?_
          refine gf_get (i := i) E hK I hg hi 2 (by decide) q276 rfl dX0_isClear_73 ?_
          refine lv_aload hx hb dX0_isClear_76 (lv_at hl 0 rfl) ?_
          refine gf_get (i := j) E hK I hg (by omega) 2 (by decide) q276 rfl dX0_isClear_78 ?_
          refine lv_aload hx hb dX0_isClear_81 (lv_at hl 0 rfl) ?_
          refine lv_iconst (v := 0) hx hb dX0_isClear_83 (by decide) ?_
          refine g_stays (i := j) q518 hC hg E hK hA hX I (by omega) false ⟨Nat.le_of_ble_eq_true rfl, Nat.le_of_ble_eq_true rfl⟩ ⟨Nat.le_refl 0, Nat.le_refl 0⟩ hl.1 (Nat.le_of_ble_eq_true rfl) dX0_isClear_84 (fun H locs I => ?_)
          refine lv_iadd hx hb dX0_isClear_87 ?_
          refine lv_icmp_ge (tgt := 109) hx hb dX0_isClear_88 (by decide) (fun c88 => ?_) (fun c88 => ?_)
          · refine lv_iconst (v := 1) hx hb dX0_isClear_109 (by decide) ?_
            refine lv_goto (tgt := 114) hx hb dX0_isClear_110 (by decide) ?_
            refine lv_iand hx hb dX0_isClear_114 ?_
            refine top_i (y := bI (xCl σ g i t (j + 1))) (xCl_t (by simp [xHit, c69, c88])) ?_
            refine lv_istore (lv' := [(4, .int (bI (xCl σ g i t (j + 1)))), (6, .ref (g.2.2.2.1 j)), (0, .ref o), (1, .int (nI i)), (2, .int (nI t)), (3, .ref (g.2.2.2.1 i)), (5, .int (nI j))]) hx hb dX0_isClear_115 hl (by decide) rfl (fun ls hl => ?_)
            refine lv_iinc (v := nI (j + 1)) (lv' := [(5, .int (nI (j + 1))), (4, .int (bI (xCl σ g i t (j + 1)))), (6, .ref (g.2.2.2.1 j)), (0, .ref o), (1, .int (nI i)), (2, .int (nI t)), (3, .ref (g.2.2.2.1 i))]) hx hb dX0_isClear_117 hl (k := 6) rfl (nI_1 _) (by decide) rfl (fun ls hl => ?_)
            refine lv_goto (tgt := 37) hx hb dX0_isClear_120 (by decide) ?_
            exact ih37 _ _ ls (x_as I (rfl)) (lv_as (lv_sub (l' := [(0, .ref o), (1, .int (nI i)), (2, .int (nI t)), (3, .ref (g.2.2.2.1 i)), (4, .int (bI (xCl σ g i t (j + 1)))), (5, .int (nI (j + 1)))]) hl [3, 4, 5, 6, 1, 0] rfl) (rfl))
          · refine lv_aload hx hb dX0_isClear_91 (lv_at hl 0 rfl) ?_
            refine gf_get (i := j) E hK I hg (by omega) 2 (by decide) q276 rfl dX0_isClear_93 ?_
            refine lv_aload_n hx hb dX0_isClear_96 rfl (lv_at hl 4 rfl) ?_
            refine gf_get (i := i) E hK I hg hi 2 (by decide) q276 rfl dX0_isClear_97 ?_
            refine lv_aload_n hx hb dX0_isClear_100 rfl (lv_at hl 4 rfl) ?_
            refine lv_iconst (v := 0) hx hb dX0_isClear_101 (by decide) ?_
            refine g_stays (i := i) q518 hC hg E hK hA hX I hi false ⟨Nat.le_of_ble_eq_true rfl, Nat.le_of_ble_eq_true rfl⟩ ⟨Nat.le_refl 0, Nat.le_refl 0⟩ hl.1 (Nat.le_of_ble_eq_true rfl) dX0_isClear_102 (fun H locs I => ?_)
            refine lv_iadd hx hb dX0_isClear_105 ?_
            refine lv_icmp_lt (tgt := 113) hx hb dX0_isClear_106 (by decide) (fun c106 => ?_) (fun c106 => ?_)
            · refine lv_iconst (v := 0) hx hb dX0_isClear_113 (by decide) ?_
              refine lv_iand hx hb dX0_isClear_114 ?_
              refine top_i (y := bI (xCl σ g i t (j + 1))) (xCl_f (by simp [xHit, c69, c88, c106])) ?_
              refine lv_istore (lv' := [(4, .int (bI (xCl σ g i t (j + 1)))), (6, .ref (g.2.2.2.1 j)), (0, .ref o), (1, .int (nI i)), (2, .int (nI t)), (3, .ref (g.2.2.2.1 i)), (5, .int (nI j))]) hx hb dX0_isClear_115 hl (by decide) rfl (fun ls hl => ?_)
              refine lv_iinc (v := nI (j + 1)) (lv' := [(5, .int (nI (j + 1))), (4, .int (bI (xCl σ g i t (j + 1)))), (6, .ref (g.2.2.2.1 j)), (0, .ref o), (1, .int (nI i)), (2, .int (nI t)), (3, .ref (g.2.2.2.1 i))]) hx hb dX0_isClear_117 hl (k := 6) rfl (nI_1 _) (by decide) rfl (fun ls hl => ?_)
              refine lv_goto (tgt := 37) hx hb dX0_isClear_120 (by decide) ?_
              exact ih37 _ _ ls (x_as I (rfl)) (lv_as (lv_sub (l' := [(0, .ref o), (1, .int (nI i)), (2, .int (nI t)), (3, .ref (g.2.2.2.1 i)), (4, .int (bI (xCl σ g i t (j + 1)))), (5, .int (nI (j + 1)))]) hl [3, 4, 5, 6, 1, 0] rfl) (rfl))
            · refine lv_iconst (v := 1) hx hb dX0_isClear_109 (by decide) ?_
              refine lv_goto (tgt := 114) hx hb dX0_isClear_110 (by decide) ?_
              refine lv_iand hx hb dX0_isClear_114 ?_
              refine top_i (y := bI (xCl σ g i t (j + 1))) (xCl_t (by simp [xHit, c69, c88, c106])) ?_
              refine lv_istore (lv' := [(4, .int (bI (xCl σ g i t (j + 1)))), (6, .ref (g.2.2.2.1 j)), (0, .ref o), (1, .int (nI i)), (2, .int (nI t)), (3, .ref (g.2.2.2.1 i)), (5, .int (nI j))]) hx hb dX0_isClear_115 hl (by decide) rfl (fun ls hl => ?_)
              refine lv_iinc (v := nI (j + 1)) (lv' := [(5, .int (nI (j + 1))), (4, .int (bI (xCl σ g i t (j + 1)))), (6, .ref (g.2.2.2.1 j)), (0, .ref o), (1, .int (nI i)), (2, .int (nI t)), (3, .ref (g.2.2.2.1 i))]) hx hb dX0_isClear_117 hl (k := 6) rfl (nI_1 _) (by decide) rfl (fun ls hl => ?_)
              refine lv_goto (tgt := 37) hx hb dX0_isClear_120 (by decide) ?_
              exact ih37 _ _ ls (x_as I (rfl)) (lv_as (lv_sub (l' := [(0, .ref o), (1, .int (nI i)), (2, .int (nI t)), (3, .ref (g.2.2.2.1 i)), (4, .int (bI (xCl σ g i t (j + 1)))), (5, .int (nI (j + 1)))]) hl [3, 4, 5, 6, 1, 0] rfl) (rfl))
    exact L37 0 (Nat.zero_le _) _ _ ls (x_as I (rfl)) (lv_as (lv_sub (l' := [(0, .ref o), (1, .int (nI i)), (2, .int (nI t)), (3, .ref (g.2.2.2.1 i)), (4, .int (bI (xCl σ g i t 0))), (5, .int 0)]) hl [3, 4, 5, 2, 1, 0] rfl) (rfl))
theorem dc_x_isClear : yX0_isClear.cls = RX0 ∧ yX0_isClear.cls ≠ "java/lang/invoke/MethodHandle" ∧ yX0_isClear.cls ≠ "java/lang/invoke/VarHandle" ∧ (parseMethodDescriptor yX0_isClear.desc).map (fun d => d.parameters.length) = some 2 := by decide +kernel
theorem go_x_isClear : GoodIn lw_all (wsV RX0 252 RX0 yX0_isClear (ws_ yX0_isClear cX0_isClear 7 (some .boolean))) := lw_V q580 q582 qs24 q71 q583
theorem x_tp0 (l : Launch) (D : va_G) (ty : Nat → ClassId) (o : Nat) (ad : Nat → Nat) (em : Nat) (g : GS) (ex : va_W) (Cy : (Nat → Prop) → State → Prop) (hC : CxOk (CxX em Cy)) (hg : gOk g) (σ : Sg) (i : Nat) (v : Int32) (hn : i + 0 = min 6 g.1) (T : Nat) (hT : T ≤ 6) (h0 : σ 0 0 = nI T) : xKv l yX0_tryPlan cX0_tryPlan 5 7 D ty (CxX em Cy) o ad (gE ty o (ad 8) em g ex) σ [.int (nI i), .int v] (fun τ => τ = xTp g T 0 i v σ) := by
  refine Kv.of (by decide) (Nat.le_of_ble_eq_true rfl) ?_
  intro p e s m below meth c A ls args E hK hA hX hlk hr hnm I hl
  have hx := E.1
  have hb := E.2.1
  have hl : lv_has ls 5 [(0, .ref o), (1, .int (nI i)), (2, .int v)] := hl
  refine nameQ (fun Q hQ => ?_)
  have hg8 := hg.1
  have hi : i ≤ 6 ∧ i ≤ g.1 := by omega
  refine lv_iload_n hx hb dX0_tryPlan_0 rfl (lv_at hl 1 rfl) ?_
  refine lv_bipush (v := 6) hx hb dX0_tryPlan_1 (by decide) ?_
  refine lv_aload_n hx hb dX0_tryPlan_3 rfl (lv_at hl 0 rfl) ?_
  refine x_get E hK I 8 rfl q147 rfl dX0_tryPlan_4 ?_
  refine g_size hC E hK hA hX I ⟨Nat.le_of_ble_eq_true rfl, Nat.le_of_ble_eq_true rfl⟩ ⟨Nat.le_refl 0, Nat.le_refl 0⟩ hl.1 (Nat.le_of_ble_eq_true rfl) dX0_tryPlan_7 (fun H locs I => ?_)
  refine va_mmin hx hb (E.2.2.1.trans hl.1.symm) E.2.2.2.1 (E.2.2.2.2 _ q574) (E.2.2.2.2 _ q394) (E.2.2.2.2 _ q89) (E.2.2.2.2 _ q395) (Nat.le_of_ble_eq_true rfl) (Nat.le_of_ble_eq_true rfl) (Nat.le_refl 0) (Nat.le_refl 0) dX0_tryPlan_12 ?_
  refine top_i (y := (iMin 6 (nI g.1))) rfl ?_
  refine top_i (y := nI (min 6 g.1)) (iMin6 hg8) ?_
  refine lv_icmp_ne (tgt := 47) hx hb dX0_tryPlan_15 (by decide) (fun c15 => absurd c15 (not_not_intro (by rw [← hn]; rfl))) (fun c15 => ?_)
  refine lv_iload_n hx hb dX0_tryPlan_18 rfl (lv_at hl 2 rfl) ?_
  refine lv_aload_n hx hb dX0_tryPlan_19 rfl (lv_at hl 0 rfl) ?_
  refine x_get E hK I 18 rfl q157 rfl dX0_tryPlan_20 ?_
  refine lv_icmp_le (tgt := 46) hx hb dX0_tryPlan_23 (by decide) (fun c23 => ?_) (fun c23 => ?_)
  · subst hQ
    exact r_v E hlk hr I (Nat.le_refl 0) (Nat.le_refl 0) dX0_tryPlan_46 (by simp [xTp, c23])
  · refine lv_aload_n hx hb dX0_tryPlan_26 rfl (lv_at hl 0 rfl) ?_
    refine lv_iload_n hx hb dX0_tryPlan_27 rfl (lv_at hl 2 rfl) ?_
    refine x_put E hK I 18 rfl rfl q157 rfl rfl rfl dX0_tryPlan_28 (fun H locs I => ?_)
    refine lv_aload_n hx hb dX0_tryPlan_31 rfl (lv_at hl 0 rfl) ?_
    refine x_get E hK I 16 rfl q155 rfl dX0_tryPlan_32 ?_
    refine lv_iconst (v := 0) hx hb dX0_tryPlan_35 (by decide) ?_
    refine lv_aload_n hx hb dX0_tryPlan_36 rfl (lv_at hl 0 rfl) ?_
    refine x_get E hK I 17 rfl q156 rfl dX0_tryPlan_37 ?_
    refine lv_iconst (v := 0) hx hb dX0_tryPlan_40 (by decide) ?_
    refine lv_bipush (v := 6) hx hb dX0_tryPlan_41 (by decide) ?_
    refine x_copy E hK I 8 9 rfl rfl rfl rfl hl.1 (Nat.le_of_ble_eq_true rfl) (Nat.le_of_ble_eq_true rfl) (Nat.le_of_ble_eq_true rfl) dX0_tryPlan_43 (fun H locs I => ?_)
    subst hQ
    exact r_v E hlk hr I (Nat.le_refl 0) (Nat.le_refl 0) dX0_tryPlan_46 (by simp [xTp, c23])
theorem dc_x_tp0 : yX0_tryPlan.cls = RX0 ∧ yX0_tryPlan.cls ≠ "java/lang/invoke/MethodHandle" ∧ yX0_tryPlan.cls ≠ "java/lang/invoke/VarHandle" ∧ (parseMethodDescriptor yX0_tryPlan.desc).map (fun d => d.parameters.length) = some 2 := by decide +kernel
theorem go_x_tp0 : GoodIn lw_all (wsV RX0 256 RX0 yX0_tryPlan (ws_ yX0_tryPlan cX0_tryPlan 5 none)) := lw_V q575 q577 qs23 q71 q578
theorem x_tp1 (l : Launch) (D : va_G) (ty : Nat → ClassId) (o : Nat) (ad : Nat → Nat) (em : Nat) (g : GS) (ex : va_W) (Cy : (Nat → Prop) → State → Prop) (hC : CxOk (CxX em Cy)) (hg : gOk g) (σ : Sg) (i : Nat) (v : Int32) (hn : i + 1 = min 6 g.1) (T : Nat) (hT : T ≤ 6) (h0 : σ 0 0 = nI T) : xKv l yX0_tryPlan cX0_tryPlan 5 8 D ty (CxX em Cy) o ad (gE ty o (ad 8) em g ex) σ [.int (nI i), .int v] (fun τ => τ = xTp g T 1 i v σ) := by
  refine Kv.of (by decide) (Nat.le_of_ble_eq_true rfl) ?_
  intro p e s m below meth c A ls args E hK hA hX hlk hr hnm I hl
  have hx := E.1
  have hb := E.2.1
  have hl : lv_has ls 5 [(0, .ref o), (1, .int (nI i)), (2, .int v)] := hl
  refine nameQ (fun Q hQ => ?_)
  have hg8 := hg.1
  have hi : i ≤ 6 ∧ i ≤ g.1 := by omega
  refine lv_iload_n hx hb dX0_tryPlan_0 rfl (lv_at hl 1 rfl) ?_
  refine lv_bipush (v := 6) hx hb dX0_tryPlan_1 (by decide) ?_
  refine lv_aload_n hx hb dX0_tryPlan_3 rfl (lv_at hl 0 rfl) ?_
  refine x_get E hK I 8 rfl q147 rfl dX0_tryPlan_4 ?_
  refine g_size hC E hK hA hX I ⟨Nat.le_of_ble_eq_true rfl, Nat.le_of_ble_eq_true rfl⟩ ⟨Nat.le_refl 0, Nat.le_refl 0⟩ hl.1 (Nat.le_of_ble_eq_true rfl) dX0_tryPlan_7 (fun H locs I => ?_)
  refine va_mmin hx hb (E.2.2.1.trans hl.1.symm) E.2.2.2.1 (E.2.2.2.2 _ q574) (E.2.2.2.2 _ q394) (E.2.2.2.2 _ q89) (E.2.2.2.2 _ q395) (Nat.le_of_ble_eq_true rfl) (Nat.le_of_ble_eq_true rfl) (Nat.le_refl 0) (Nat.le_refl 0) dX0_tryPlan_12 ?_
  refine top_i (y := (iMin 6 (nI g.1))) rfl ?_
  refine top_i (y := nI (min 6 g.1)) (iMin6 hg8) ?_
  refine lv_icmp_ne (tgt := 47) hx hb dX0_tryPlan_15 (by decide) (fun c15 => ?_) (fun c15 => absurd c15 (fun h => by have := (nI_i (by omega) (by omega)).mp h; omega))
  refine lv_aload_n hx hb dX0_tryPlan_47 rfl (lv_at hl 0 rfl) ?_
  refine x_get E hK I 8 rfl q147 rfl dX0_tryPlan_48 ?_
  refine lv_iload_n hx hb dX0_tryPlan_51 rfl (lv_at hl 1 rfl) ?_
  refine g_lget (i := i) hC hg E hK hA hX I (by omega) ⟨Nat.le_of_ble_eq_true rfl, Nat.le_of_ble_eq_true rfl⟩ ⟨Nat.le_refl 0, Nat.le_refl 0⟩ hl.1 (Nat.le_of_ble_eq_true rfl) dX0_tryPlan_52 (fun H locs I => ?_)
  refine g_cast (i := i) E hK hX I hg (by omega) q260 dX0_tryPlan_57 ?_
  refine lv_astore_n (lv' := [(3, .ref (g.2.2.2.1 i)), (0, .ref o), (1, .int (nI i)), (2, .int v)]) hx hb dX0_tryPlan_60 rfl hl (by decide) rfl (fun ls hl => ?_)
  refine lv_iconst (v := 0) hx hb dX0_tryPlan_61 (by decide) ?_
  refine lv_istore (lv' := [(4, .int 0), (3, .ref (g.2.2.2.1 i)), (0, .ref o), (1, .int (nI i)), (2, .int v)]) hx hb dX0_tryPlan_62 hl (by decide) rfl (fun ls hl => ?_)
  have L64 : ∀ t, t ≤ T → ∀ (H : Heap) (locs : List Loc) (ls : Array Slot), gI s D A (gW ty o ad em g ex (fo (xTf g (xTp g T 0 (i + 1)) i v) t σ)) H locs → lv_has ls 5 [(0, .ref o), (1, .int (nI i)), (2, .int v), (3, .ref (g.2.2.2.1 i)), (4, .int (nI t))] → W p l e (rmL 8) s m args below meth c H locs 0 0 Q (F0 m 64 ls []) := by
    refine dn_ind T ?_ ?_
    · intro H locs ls I hl
      refine lv_iload hx hb dX0_tryPlan_64 (lv_at hl 4 rfl) ?_
      have h0t := (congrFun (fo_k (fun t s => xTf_k (by decide) g T 0 i v t s) T σ) 0).trans h0
      refine lv_aload_n hx hb dX0_tryPlan_66 rfl (lv_at hl 0 rfl) ?_
      refine x_get (v := .int (nI T)) E hK I 0 rfl q138 (congrArg Value.int (h0t)) dX0_tryPlan_67 ?_
      refine lv_icmp_ge (tgt := 115) hx hb dX0_tryPlan_70 (by decide) (fun c70 => ?_) (fun c70 => absurd c70 (fun h => h (Int32.le_refl _)))
      refine lv_aload_n hx hb dX0_tryPlan_115 rfl (lv_at hl 0 rfl) ?_
      refine x_get E hK I 16 rfl q155 rfl dX0_tryPlan_116 ?_
      refine lv_iload_n hx hb dX0_tryPlan_119 rfl (lv_at hl 1 rfl) ?_
      refine lv_bipush (v := (-9)) hx hb dX0_tryPlan_120 (by decide) ?_
      refine x_ast (i := i) E hK I 8 rfl rfl rfl dX0_tryPlan_122 (by simp only [xLn]; omega) (fun H locs I => ?_)
      refine lv_aload_n hx hb dX0_tryPlan_123 rfl (lv_at hl 0 rfl) ?_
      refine lv_iload_n hx hb dX0_tryPlan_124 rfl (lv_at hl 1 rfl) ?_
      refine lv_iconst (v := 1) hx hb dX0_tryPlan_125 (by decide) ?_
      refine lv_iadd hx hb dX0_tryPlan_126 ?_
      refine top_i (y := nI (i + 1)) (nI_1 _) ?_
      refine lv_iload_n hx hb dX0_tryPlan_127 rfl (lv_at hl 2 rfl) ?_
      refine x_cv hC E hK hA hX I (x_tp0 l D ty o ad em g ex Cy hC hg (up (fo (xTf g (xTp g T 0 (i + 1)) i v) T σ) 16 i (-9)) (i + 1) v (by omega) T hT (by rw [up_k (by decide)]; exact (congrFun (fo_k (fun t s => xTf_k (by decide) g T 0 i v t s) T σ) 0).trans h0)) go_x_tp0 dc_x_tp0 ⟨Nat.le_of_ble_eq_true rfl, Nat.le_of_ble_eq_true rfl⟩ ⟨Nat.le_refl 0, Nat.le_refl 0⟩ hl.1 (Nat.le_of_ble_eq_true rfl) rfl dX0_tryPlan_128 (fun σ128 H locs hp I => ?_)
      have I := x_as I hp
      subst hQ
      exact r_v E hlk hr I (Nat.le_refl 0) (Nat.le_refl 0) dX0_tryPlan_131 (rfl)
    · intro t ht ih64 H locs ls I hl
      refine lv_iload hx hb dX0_tryPlan_64 (lv_at hl 4 rfl) ?_
      have h0t := (congrFun (fo_k (fun t s => xTf_k (by decide) g T 0 i v t s) t σ) 0).trans h0
      refine lv_aload_n hx hb dX0_tryPlan_66 rfl (lv_at hl 0 rfl) ?_
      refine x_get (v := .int (nI T)) E hK I 0 rfl q138 (congrArg Value.int (h0t)) dX0_tryPlan_67 ?_
      refine lv_icmp_ge (tgt := 115) hx hb dX0_tryPlan_70 (by decide) (fun c70 => absurd c70 (nI_ge ht (by omega))) (fun c70 => ?_)
      refine lv_aload_n hx hb dX0_tryPlan_73 rfl (lv_at hl 0 rfl) ?_
      refine lv_iload_n hx hb dX0_tryPlan_74 rfl (lv_at hl 1 rfl) ?_
      refine lv_iload hx hb dX0_tryPlan_75 (lv_at hl 4 rfl) ?_
      refine x_ci hC E hK hA hX I (x_isClear l D ty o ad em g ex Cy hC hg (fo (xTf g (xTp g T 0 (i + 1)) i v) t σ) i t (by omega) (by omega) (by omega)) go_x_isClear dc_x_isClear ⟨Nat.le_of_ble_eq_true rfl, Nat.le_of_ble_eq_true rfl⟩ ⟨Nat.le_refl 0, Nat.le_refl 0⟩ hl.1 (Nat.le_of_ble_eq_true rfl) rfl dX0_tryPlan_77 (fun r77 σ77 H locs hp I => ?_)
      refine top_i (y := bI (xCl (fo (xTf g (xTp g T 0 (i + 1)) i v) t σ) g i t i)) hp.1 ?_
      have I := x_as I hp.2
      refine b_eq (tgt := 109) hx hb dX0_tryPlan_80 (by decide) (fun c80 => ?_) (fun c80 => ?_)
      · refine lv_iinc (v := nI (t + 1)) (lv' := [(4, .int (nI (t + 1))), (0, .ref o), (1, .int (nI i)), (2, .int v), (3, .ref (g.2.2.2.1 i))]) hx hb dX0_tryPlan_109 hl (k := 4) rfl (nI_1 _) (by decide) rfl (fun ls hl => ?_)
        refine lv_goto (tgt := 64) hx hb dX0_tryPlan_112 (by decide) ?_
        exact ih64 _ _ ls (x_as I (by show _ = xTf g _ i v t _; rw [xTf, c80]; rfl)) (lv_as (lv_sub (l' := [(0, .ref o), (1, .int (nI i)), (2, .int v), (3, .ref (g.2.2.2.1 i)), (4, .int (nI (t + 1)))]) hl [1, 2, 3, 4, 0] rfl) (rfl))
      · refine lv_aload_n hx hb dX0_tryPlan_83 rfl (lv_at hl 0 rfl) ?_
        refine x_get E hK I 16 rfl q155 rfl dX0_tryPlan_84 ?_
        refine lv_iload_n hx hb dX0_tryPlan_87 rfl (lv_at hl 1 rfl) ?_
        refine lv_iload hx hb dX0_tryPlan_88 (lv_at hl 4 rfl) ?_
        refine x_ast (i := i) E hK I 8 rfl rfl rfl dX0_tryPlan_90 (by simp only [xLn]; omega) (fun H locs I => ?_)
        refine lv_aload_n hx hb dX0_tryPlan_91 rfl (lv_at hl 0 rfl) ?_
        refine lv_iload_n hx hb dX0_tryPlan_92 rfl (lv_at hl 1 rfl) ?_
        refine lv_iconst (v := 1) hx hb dX0_tryPlan_93 (by decide) ?_
        refine lv_iadd hx hb dX0_tryPlan_94 ?_
        refine top_i (y := nI (i + 1)) (nI_1 _) ?_
        refine lv_iload_n hx hb dX0_tryPlan_95 rfl (lv_at hl 2 rfl) ?_
        refine lv_aload_n hx hb dX0_tryPlan_96 rfl (lv_at hl 3 rfl) ?_
        refine lv_aload_n hx hb dX0_tryPlan_97 rfl (lv_at hl 3 rfl) ?_
        refine lv_iconst (v := 0) hx hb dX0_tryPlan_98 (by decide) ?_
        refine g_stays (i := i) q518 hC hg E hK hA hX I (by omega) false ⟨Nat.le_of_ble_eq_true rfl, Nat.le_of_ble_eq_true rfl⟩ ⟨Nat.le_refl 0, Nat.le_refl 0⟩ hl.1 (Nat.le_of_ble_eq_true rfl) dX0_tryPlan_99 (fun H locs I => ?_)
        refine g_coin  (i := i) q535 hC hg E hK hA hX I (by omega) (gSt g i false) ⟨Nat.le_of_ble_eq_true rfl, Nat.le_of_ble_eq_true rfl⟩ ⟨Nat.le_refl 0, Nat.le_refl 0⟩ hl.1 (Nat.le_of_ble_eq_true rfl) dX0_tryPlan_102 (fun H locs I => ?_)
        refine lv_iadd hx hb dX0_tryPlan_105 ?_
        refine x_cv hC E hK hA hX I (x_tp0 l D ty o ad em g ex Cy hC hg (up (fo (xTf g (xTp g T 0 (i + 1)) i v) t σ) 16 i (nI t)) (i + 1) (v + (gCo g i (gSt g i false))) (by omega) T hT (by rw [up_k (by decide)]; exact (congrFun (fo_k (fun t s => xTf_k (by decide) g T 0 i v t s) t σ) 0).trans h0)) go_x_tp0 dc_x_tp0 ⟨Nat.le_of_ble_eq_true rfl, Nat.le_of_ble_eq_true rfl⟩ ⟨Nat.le_refl 0, Nat.le_refl 0⟩ hl.1 (Nat.le_of_ble_eq_true rfl) rfl dX0_tryPlan_106 (fun σ106 H locs hp I => ?_)
        have I := x_as I hp
        refine lv_iinc (v := nI (t + 1)) (lv' := [(4, .int (nI (t + 1))), (0, .ref o), (1, .int (nI i)), (2, .int v), (3, .ref (g.2.2.2.1 i))]) hx hb dX0_tryPlan_109 hl (k := 4) rfl (nI_1 _) (by decide) rfl (fun ls hl => ?_)
        refine lv_goto (tgt := 64) hx hb dX0_tryPlan_112 (by decide) ?_
        exact ih64 _ _ ls (x_as I (by show _ = xTf g _ i v t _; rw [xTf, c80]; rfl)) (lv_as (lv_sub (l' := [(0, .ref o), (1, .int (nI i)), (2, .int v), (3, .ref (g.2.2.2.1 i)), (4, .int (nI (t + 1)))]) hl [1, 2, 3, 4, 0] rfl) (rfl))
  exact L64 0 (Nat.zero_le _) _ _ ls (x_as I (rfl)) (lv_as (lv_sub (l' := [(0, .ref o), (1, .int (nI i)), (2, .int v), (3, .ref (g.2.2.2.1 i)), (4, .int 0)]) hl [2, 3, 4, 1, 0] rfl) (rfl))
theorem dc_x_tp1 : yX0_tryPlan.cls = RX0 ∧ yX0_tryPlan.cls ≠ "java/lang/invoke/MethodHandle" ∧ yX0_tryPlan.cls ≠ "java/lang/invoke/VarHandle" ∧ (parseMethodDescriptor yX0_tryPlan.desc).map (fun d => d.parameters.length) = some 2 := by decide +kernel
theorem go_x_tp1 : GoodIn lw_all (wsV RX0 256 RX0 yX0_tryPlan (ws_ yX0_tryPlan cX0_tryPlan 5 none)) := lw_V q575 q577 qs23 q71 q578
theorem x_tp2 (l : Launch) (D : va_G) (ty : Nat → ClassId) (o : Nat) (ad : Nat → Nat) (em : Nat) (g : GS) (ex : va_W) (Cy : (Nat → Prop) → State → Prop) (hC : CxOk (CxX em Cy)) (hg : gOk g) (σ : Sg) (i : Nat) (v : Int32) (hn : i + 2 = min 6 g.1) (T : Nat) (hT : T ≤ 6) (h0 : σ 0 0 = nI T) : xKv l yX0_tryPlan cX0_tryPlan 5 9 D ty (CxX em Cy) o ad (gE ty o (ad 8) em g ex) σ [.int (nI i), .int v] (fun τ => τ = xTp g T 2 i v σ) := by
  refine Kv.of (by decide) (Nat.le_of_ble_eq_true rfl) ?_
  intro p e s m below meth c A ls args E hK hA hX hlk hr hnm I hl
  have hx := E.1
  have hb := E.2.1
  have hl : lv_has ls 5 [(0, .ref o), (1, .int (nI i)), (2, .int v)] := hl
  refine nameQ (fun Q hQ => ?_)
  have hg8 := hg.1
  have hi : i ≤ 6 ∧ i ≤ g.1 := by omega
  refine lv_iload_n hx hb dX0_tryPlan_0 rfl (lv_at hl 1 rfl) ?_
  refine lv_bipush (v := 6) hx hb dX0_tryPlan_1 (by decide) ?_
  refine lv_aload_n hx hb dX0_tryPlan_3 rfl (lv_at hl 0 rfl) ?_
  refine x_get E hK I 8 rfl q147 rfl dX0_tryPlan_4 ?_
  refine g_size hC E hK hA hX I ⟨Nat.le_of_ble_eq_true rfl, Nat.le_of_ble_eq_true rfl⟩ ⟨Nat.le_refl 0, Nat.le_refl 0⟩ hl.1 (Nat.le_of_ble_eq_true rfl) dX0_tryPlan_7 (fun H locs I => ?_)
  refine va_mmin hx hb (E.2.2.1.trans hl.1.symm) E.2.2.2.1 (E.2.2.2.2 _ q574) (E.2.2.2.2 _ q394) (E.2.2.2.2 _ q89) (E.2.2.2.2 _ q395) (Nat.le_of_ble_eq_true rfl) (Nat.le_of_ble_eq_true rfl) (Nat.le_refl 0) (Nat.le_refl 0) dX0_tryPlan_12 ?_
  refine top_i (y := (iMin 6 (nI g.1))) rfl ?_
  refine top_i (y := nI (min 6 g.1)) (iMin6 hg8) ?_
  refine lv_icmp_ne (tgt := 47) hx hb dX0_tryPlan_15 (by decide) (fun c15 => ?_) (fun c15 => absurd c15 (fun h => by have := (nI_i (by omega) (by omega)).mp h; omega))
  refine lv_aload_n hx hb dX0_tryPlan_47 rfl (lv_at hl 0 rfl) ?_
  refine x_get E hK I 8 rfl q147 rfl dX0_tryPlan_48 ?_
  refine lv_iload_n hx hb dX0_tryPlan_51 rfl (lv_at hl 1 rfl) ?_
  refine g_lget (i := i) hC hg E hK hA hX I (by omega) ⟨Nat.le_of_ble_eq_true rfl, Nat.le_of_ble_eq_true rfl⟩ ⟨Nat.le_refl 0, Nat.le_refl 0⟩ hl.1 (Nat.le_of_ble_eq_true rfl) dX0_tryPlan_52 (fun H locs I => ?_)
  refine g_cast (i := i) E hK hX I hg (by omega) q260 dX0_tryPlan_57 ?_
  refine lv_astore_n (lv' := [(3, .ref (g.2.2.2.1 i)), (0, .ref o), (1, .int (nI i)), (2, .int v)]) hx hb dX0_tryPlan_60 rfl hl (by decide) rfl (fun ls hl => ?_)
  refine lv_iconst (v := 0) hx hb dX0_tryPlan_61 (by decide) ?_
  refine lv_istore (lv' := [(4, .int 0), (3, .ref (g.2.2.2.1 i)), (0, .ref o), (1, .int (nI i)), (2, .int v)]) hx hb dX0_tryPlan_62 hl (by decide) rfl (fun ls hl => ?_)
  have L64 : ∀ t, t ≤ T → ∀ (H : Heap) (locs : List Loc) (ls : Array Slot), gI s D A (gW ty o ad em g ex (fo (xTf g (xTp g T 1 (i + 1)) i v) t σ)) H locs → lv_has ls 5 [(0, .ref o), (1, .int (nI i)), (2, .int v), (3, .ref (g.2.2.2.1 i)), (4, .int (nI t))] → W p l e (rmL 9) s m args below meth c H locs 0 0 Q (F0 m 64 ls []) := by
    refine dn_ind T ?_ ?_
    · intro H locs ls I hl
      refine lv_iload hx hb dX0_tryPlan_64 (lv_at hl 4 rfl) ?_
      have h0t := (congrFun (fo_k (fun t s => xTf_k (by decide) g T 1 i v t s) T σ) 0).trans h0
      refine lv_aload_n hx hb dX0_tryPlan_66 rfl (lv_at hl 0 rfl) ?_
      refine x_get (v := .int (nI T)) E hK I 0 rfl q138 (congrArg Value.int (h0t)) dX0_tryPlan_67 ?_
      refine lv_icmp_ge (tgt := 115) hx hb dX0_tryPlan_70 (by decide) (fun c70 => ?_) (fun c70 => absurd c70 (fun h => h (Int32.le_refl _)))
      refine lv_aload_n hx hb dX0_tryPlan_115 rfl (lv_at hl 0 rfl) ?_
      refine x_get E hK I 16 rfl q155 rfl dX0_tryPlan_116 ?_
      refine lv_iload_n hx hb dX0_tryPlan_119 rfl (lv_at hl 1 rfl) ?_
      refine lv_bipush (v := (-9)) hx hb dX0_tryPlan_120 (by decide) ?_
      refine x_ast (i := i) E hK I 8 rfl rfl rfl dX0_tryPlan_122 (by simp only [xLn]; omega) (fun H locs I => ?_)
      refine lv_aload_n hx hb dX0_tryPlan_123 rfl (lv_at hl 0 rfl) ?_
      refine lv_iload_n hx hb dX0_tryPlan_124 rfl (lv_at hl 1 rfl) ?_
      refine lv_iconst (v := 1) hx hb dX0_tryPlan_125 (by decide) ?_
      refine lv_iadd hx hb dX0_tryPlan_126 ?_
      refine top_i (y := nI (i + 1)) (nI_1 _) ?_
      refine lv_iload_n hx hb dX0_tryPlan_127 rfl (lv_at hl 2 rfl) ?_
      refine x_cv hC E hK hA hX I (x_tp1 l D ty o ad em g ex Cy hC hg (up (fo (xTf g (xTp g T 1 (i + 1)) i v) T σ) 16 i (-9)) (i + 1) v (by omega) T hT (by rw [up_k (by decide)]; exact (congrFun (fo_k (fun t s => xTf_k (by decide) g T 1 i v t s) T σ) 0).trans h0)) go_x_tp1 dc_x_tp1 ⟨Nat.le_of_ble_eq_true rfl, Nat.le_of_ble_eq_true rfl⟩ ⟨Nat.le_refl 0, Nat.le_refl 0⟩ hl.1 (Nat.le_of_ble_eq_true rfl) rfl dX0_tryPlan_128 (fun σ128 H locs hp I => ?_)
      have I := x_as I hp
      subst hQ
      exact r_v E hlk hr I (Nat.le_refl 0) (Nat.le_refl 0) dX0_tryPlan_131 (rfl)
    · intro t ht ih64 H locs ls I hl
      refine lv_iload hx hb dX0_tryPlan_64 (lv_at hl 4 rfl) ?_
      have h0t := (congrFun (fo_k (fun t s => xTf_k (by decide) g T 1 i v t s) t σ) 0).trans h0
      refine lv_aload_n hx hb dX0_tryPlan_66 rfl (lv_at hl 0 rfl) ?_
      refine x_get (v := .int (nI T)) E hK I 0 rfl q138 (congrArg Value.int (h0t)) dX0_tryPlan_67 ?_
      refine lv_icmp_ge (tgt := 115) hx hb dX0_tryPlan_70 (by decide) (fun c70 => absurd c70 (nI_ge ht (by omega))) (fun c70 => ?_)
      refine lv_aload_n hx hb dX0_tryPlan_73 rfl (lv_at hl 0 rfl) ?_
      refine lv_iload_n hx hb dX0_tryPlan_74 rfl (lv_at hl 1 rfl) ?_
      refine lv_iload hx hb dX0_tryPlan_75 (lv_at hl 4 rfl) ?_
      refine x_ci hC E hK hA hX I (x_isClear l D ty o ad em g ex Cy hC hg (fo (xTf g (xTp g T 1 (i + 1)) i v) t σ) i t (by omega) (by omega) (by omega)) go_x_isClear dc_x_isClear ⟨Nat.le_of_ble_eq_true rfl, Nat.le_of_ble_eq_true rfl⟩ ⟨Nat.le_refl 0, Nat.le_refl 0⟩ hl.1 (Nat.le_of_ble_eq_true rfl) rfl dX0_tryPlan_77 (fun r77 σ77 H locs hp I => ?_)
      refine top_i (y := bI (xCl (fo (xTf g (xTp g T 1 (i + 1)) i v) t σ) g i t i)) hp.1 ?_
      have I := x_as I hp.2
      refine b_eq (tgt := 109) hx hb dX0_tryPlan_80 (by decide) (fun c80 => ?_) (fun c80 => ?_)
      · refine lv_iinc (v := nI (t + 1)) (lv' := [(4, .int (nI (t + 1))), (0, .ref o), (1, .int (nI i)), (2, .int v), (3, .ref (g.2.2.2.1 i))]) hx hb dX0_tryPlan_109 hl (k := 4) rfl (nI_1 _) (by decide) rfl (fun ls hl => ?_)
        refine lv_goto (tgt := 64) hx hb dX0_tryPlan_112 (by decide) ?_
        exact ih64 _ _ ls (x_as I (by show _ = xTf g _ i v t _; rw [xTf, c80]; rfl)) (lv_as (lv_sub (l' := [(0, .ref o), (1, .int (nI i)), (2, .int v), (3, .ref (g.2.2.2.1 i)), (4, .int (nI (t + 1)))]) hl [1, 2, 3, 4, 0] rfl) (rfl))
      · refine lv_aload_n hx hb dX0_tryPlan_83 rfl (lv_at hl 0 rfl) ?_
        refine x_get E hK I 16 rfl q155 rfl dX0_tryPlan_84 ?_
        refine lv_iload_n hx hb dX0_tryPlan_87 rfl (lv_at hl 1 rfl) ?_
        refine lv_iload hx hb dX0_tryPlan_88 (lv_at hl 4 rfl) ?_
        refine x_ast (i := i) E hK I 8 rfl rfl rfl dX0_tryPlan_90 (by simp only [xLn]; omega) (fun H locs I => ?_)
        refine lv_aload_n hx hb dX0_tryPlan_91 rfl (lv_at hl 0 rfl) ?_
        refine lv_iload_n hx hb dX0_tryPlan_92 rfl (lv_at hl 1 rfl) ?_
        refine lv_iconst (v := 1) hx hb dX0_tryPlan_93 (by decide) ?_
        refine lv_iadd hx hb dX0_tryPlan_94 ?_
        refine top_i (y := nI (i + 1)) (nI_1 _) ?_
        refine lv_iload_n hx hb dX0_tryPlan_95 rfl (lv_at hl 2 rfl) ?_
        refine lv_aload_n hx hb dX0_tryPlan_96 rfl (lv_at hl 3 rfl) ?_
        refine lv_aload_n hx hb dX0_tryPlan_97 rfl (lv_at hl 3 rfl) ?_
        refine lv_iconst (v := 0) hx hb dX0_tryPlan_98 (by decide) ?_
        refine g_stays (i := i) q518 hC hg E hK hA hX I (by omega) false ⟨Nat.le_of_ble_eq_true rfl, Nat.le_of_ble_eq_true rfl⟩ ⟨Nat.le_refl 0, Nat.le_refl 0⟩ hl.1 (Nat.le_of_ble_eq_true rfl) dX0_tryPlan_99 (fun H locs I => ?_)
        refine g_coin  (i := i) q535 hC hg E hK hA hX I (by omega) (gSt g i false) ⟨Nat.le_of_ble_eq_true rfl, Nat.le_of_ble_eq_true rfl⟩ ⟨Nat.le_refl 0, Nat.le_refl 0⟩ hl.1 (Nat.le_of_ble_eq_true rfl) dX0_tryPlan_102 (fun H locs I => ?_)
        refine lv_iadd hx hb dX0_tryPlan_105 ?_
        refine x_cv hC E hK hA hX I (x_tp1 l D ty o ad em g ex Cy hC hg (up (fo (xTf g (xTp g T 1 (i + 1)) i v) t σ) 16 i (nI t)) (i + 1) (v + (gCo g i (gSt g i false))) (by omega) T hT (by rw [up_k (by decide)]; exact (congrFun (fo_k (fun t s => xTf_k (by decide) g T 1 i v t s) t σ) 0).trans h0)) go_x_tp1 dc_x_tp1 ⟨Nat.le_of_ble_eq_true rfl, Nat.le_of_ble_eq_true rfl⟩ ⟨Nat.le_refl 0, Nat.le_refl 0⟩ hl.1 (Nat.le_of_ble_eq_true rfl) rfl dX0_tryPlan_106 (fun σ106 H locs hp I => ?_)
        have I := x_as I hp
        refine lv_iinc (v := nI (t + 1)) (lv' := [(4, .int (nI (t + 1))), (0, .ref o), (1, .int (nI i)), (2, .int v), (3, .ref (g.2.2.2.1 i))]) hx hb dX0_tryPlan_109 hl (k := 4) rfl (nI_1 _) (by decide) rfl (fun ls hl => ?_)
        refine lv_goto (tgt := 64) hx hb dX0_tryPlan_112 (by decide) ?_
        exact ih64 _ _ ls (x_as I (by show _ = xTf g _ i v t _; rw [xTf, c80]; rfl)) (lv_as (lv_sub (l' := [(0, .ref o), (1, .int (nI i)), (2, .int v), (3, .ref (g.2.2.2.1 i)), (4, .int (nI (t + 1)))]) hl [1, 2, 3, 4, 0] rfl) (rfl))
  exact L64 0 (Nat.zero_le _) _ _ ls (x_as I (rfl)) (lv_as (lv_sub (l' := [(0, .ref o), (1, .int (nI i)), (2, .int v), (3, .ref (g.2.2.2.1 i)), (4, .int 0)]) hl [2, 3, 4, 1, 0] rfl) (rfl))
theorem dc_x_tp2 : yX0_tryPlan.cls = RX0 ∧ yX0_tryPlan.cls ≠ "java/lang/invoke/MethodHandle" ∧ yX0_tryPlan.cls ≠ "java/lang/invoke/VarHandle" ∧ (parseMethodDescriptor yX0_tryPlan.desc).map (fun d => d.parameters.length) = some 2 := by decide +kernel
theorem go_x_tp2 : GoodIn lw_all (wsV RX0 256 RX0 yX0_tryPlan (ws_ yX0_tryPlan cX0_tryPlan 5 none)) := lw_V q575 q577 qs23 q71 q578
theorem x_tp3 (l : Launch) (D : va_G) (ty : Nat → ClassId) (o : Nat) (ad : Nat → Nat) (em : Nat) (g : GS) (ex : va_W) (Cy : (Nat → Prop) → State → Prop) (hC : CxOk (CxX em Cy)) (hg : gOk g) (σ : Sg) (i : Nat) (v : Int32) (hn : i + 3 = min 6 g.1) (T : Nat) (hT : T ≤ 6) (h0 : σ 0 0 = nI T) : xKv l yX0_tryPlan cX0_tryPlan 5 10 D ty (CxX em Cy) o ad (gE ty o (ad 8) em g ex) σ [.int (nI i), .int v] (fun τ => τ = xTp g T 3 i v σ) := by
  refine Kv.of (by decide) (Nat.le_of_ble_eq_true rfl) ?_
  intro p e s m below meth c A ls args E hK hA hX hlk hr hnm I hl
  have hx := E.1
  have hb := E.2.1
  have hl : lv_has ls 5 [(0, .ref o), (1, .int (nI i)), (2, .int v)] := hl
  refine nameQ (fun Q hQ => ?_)
  have hg8 := hg.1
  have hi : i ≤ 6 ∧ i ≤ g.1 := by omega
  refine lv_iload_n hx hb dX0_tryPlan_0 rfl (lv_at hl 1 rfl) ?_
  refine lv_bipush (v := 6) hx hb dX0_tryPlan_1 (by decide) ?_
  refine lv_aload_n hx hb dX0_tryPlan_3 rfl (lv_at hl 0 rfl) ?_
  refine x_get E hK I 8 rfl q147 rfl dX0_tryPlan_4 ?_
  refine g_size hC E hK hA hX I ⟨Nat.le_of_ble_eq_true rfl, Nat.le_of_ble_eq_true rfl⟩ ⟨Nat.le_refl 0, Nat.le_refl 0⟩ hl.1 (Nat.le_of_ble_eq_true rfl) dX0_tryPlan_7 (fun H locs I => ?_)
  refine va_mmin hx hb (E.2.2.1.trans hl.1.symm) E.2.2.2.1 (E.2.2.2.2 _ q574) (E.2.2.2.2 _ q394) (E.2.2.2.2 _ q89) (E.2.2.2.2 _ q395) (Nat.le_of_ble_eq_true rfl) (Nat.le_of_ble_eq_true rfl) (Nat.le_refl 0) (Nat.le_refl 0) dX0_tryPlan_12 ?_
  refine top_i (y := (iMin 6 (nI g.1))) rfl ?_
  refine top_i (y := nI (min 6 g.1)) (iMin6 hg8) ?_
  refine lv_icmp_ne (tgt := 47) hx hb dX0_tryPlan_15 (by decide) (fun c15 => ?_) (fun c15 => absurd c15 (fun h => by have := (nI_i (by omega) (by omega)).mp h; omega))
  refine lv_aload_n hx hb dX0_tryPlan_47 rfl (lv_at hl 0 rfl) ?_
  refine x_get E hK I 8 rfl q147 rfl dX0_tryPlan_48 ?_
  refine lv_iload_n hx hb dX0_tryPlan_51 rfl (lv_at hl 1 rfl) ?_
  refine g_lget (i := i) hC hg E hK hA hX I (by omega) ⟨Nat.le_of_ble_eq_true rfl, Nat.le_of_ble_eq_true rfl⟩ ⟨Nat.le_refl 0, Nat.le_refl 0⟩ hl.1 (Nat.le_of_ble_eq_true rfl) dX0_tryPlan_52 (fun H locs I => ?_)
  refine g_cast (i := i) E hK hX I hg (by omega) q260 dX0_tryPlan_57 ?_
  refine lv_astore_n (lv' := [(3, .ref (g.2.2.2.1 i)), (0, .ref o), (1, .int (nI i)), (2, .int v)]) hx hb dX0_tryPlan_60 rfl hl (by decide) rfl (fun ls hl => ?_)
  refine lv_iconst (v := 0) hx hb dX0_tryPlan_61 (by decide) ?_
  refine lv_istore (lv' := [(4, .int 0), (3, .ref (g.2.2.2.1 i)), (0, .ref o), (1, .int (nI i)), (2, .int v)]) hx hb dX0_tryPlan_62 hl (by decide) rfl (fun ls hl => ?_)
  have L64 : ∀ t, t ≤ T → ∀ (H : Heap) (locs : List Loc) (ls : Array Slot), gI s D A (gW ty o ad em g ex (fo (xTf g (xTp g T 2 (i + 1)) i v) t σ)) H locs → lv_has ls 5 [(0, .ref o), (1, .int (nI i)), (2, .int v), (3, .ref (g.2.2.2.1 i)), (4, .int (nI t))] → W p l e (rmL 10) s m args below meth c H locs 0 0 Q (F0 m 64 ls []) := by
    refine dn_ind T ?_ ?_
    · intro H locs ls I hl
      refine lv_iload hx hb dX0_tryPlan_64 (lv_at hl 4 rfl) ?_
      have h0t := (congrFun (fo_k (fun t s => xTf_k (by decide) g T 2 i v t s) T σ) 0).trans h0
      refine lv_aload_n hx hb dX0_tryPlan_66 rfl (lv_at hl 0 rfl) ?_
      refine x_get (v := .int (nI T)) E hK I 0 rfl q138 (congrArg Value.int (h0t)) dX0_tryPlan_67 ?_
      refine lv_icmp_ge (tgt := 115) hx hb dX0_tryPlan_70 (by decide) (fun c70 => ?_) (fun c70 => absurd c70 (fun h => h (Int32.le_refl _)))
      refine lv_aload_n hx hb dX0_tryPlan_115 rfl (lv_at hl 0 rfl) ?_
      refine x_get E hK I 16 rfl q155 rfl dX0_tryPlan_116 ?_
      refine lv_iload_n hx hb dX0_tryPlan_119 rfl (lv_at hl 1 rfl) ?_
      refine lv_bipush (v := (-9)) hx hb dX0_tryPlan_120 (by decide) ?_
      refine x_ast (i := i) E hK I 8 rfl rfl rfl dX0_tryPlan_122 (by simp only [xLn]; omega) (fun H locs I => ?_)
      refine lv_aload_n hx hb dX0_tryPlan_123 rfl (lv_at hl 0 rfl) ?_
      refine lv_iload_n hx hb dX0_tryPlan_124 rfl (lv_at hl 1 rfl) ?_
      refine lv_iconst (v := 1) hx hb dX0_tryPlan_125 (by decide) ?_
      refine lv_iadd hx hb dX0_tryPlan_126 ?_
      refine top_i (y := nI (i + 1)) (nI_1 _) ?_
      refine lv_iload_n hx hb dX0_tryPlan_127 rfl (lv_at hl 2 rfl) ?_
      refine x_cv hC E hK hA hX I (x_tp2 l D ty o ad em g ex Cy hC hg (up (fo (xTf g (xTp g T 2 (i + 1)) i v) T σ) 16 i (-9)) (i + 1) v (by omega) T hT (by rw [up_k (by decide)]; exact (congrFun (fo_k (fun t s => xTf_k (by decide) g T 2 i v t s) T σ) 0).trans h0)) go_x_tp2 dc_x_tp2 ⟨Nat.le_of_ble_eq_true rfl, Nat.le_of_ble_eq_true rfl⟩ ⟨Nat.le_refl 0, Nat.le_refl 0⟩ hl.1 (Nat.le_of_ble_eq_true rfl) rfl dX0_tryPlan_128 (fun σ128 H locs hp I => ?_)
      have I := x_as I hp
      subst hQ
      exact r_v E hlk hr I (Nat.le_refl 0) (Nat.le_refl 0) dX0_tryPlan_131 (rfl)
    · intro t ht ih64 H locs ls I hl
      refine lv_iload hx hb dX0_tryPlan_64 (lv_at hl 4 rfl) ?_
      have h0t := (congrFun (fo_k (fun t s => xTf_k (by decide) g T 2 i v t s) t σ) 0).trans h0
      refine lv_aload_n hx hb dX0_tryPlan_66 rfl (lv_at hl 0 rfl) ?_
      refine x_get (v := .int (nI T)) E hK I 0 rfl q138 (congrArg Value.int (h0t)) dX0_tryPlan_67 ?_
      refine lv_icmp_ge (tgt := 115) hx hb dX0_tryPlan_70 (by decide) (fun c70 => absurd c70 (nI_ge ht (by omega))) (fun c70 => ?_)
      refine lv_aload_n hx hb dX0_tryPlan_73 rfl (lv_at hl 0 rfl) ?_
      refine lv_iload_n hx hb dX0_tryPlan_74 rfl (lv_at hl 1 rfl) ?_
      refine lv_iload hx hb dX0_tryPlan_75 (lv_at hl 4 rfl) ?_
      refine x_ci hC E hK hA hX I (x_isClear l D ty o ad em g ex Cy hC hg (fo (xTf g (xTp g T 2 (i + 1)) i v) t σ) i t (by omega) (by omega) (by omega)) go_x_isClear dc_x_isClear ⟨Nat.le_of_ble_eq_true rfl, Nat.le_of_ble_eq_true rfl⟩ ⟨Nat.le_refl 0, Nat.le_refl 0⟩ hl.1 (Nat.le_of_ble_eq_true rfl) rfl dX0_tryPlan_77 (fun r77 σ77 H locs hp I => ?_)
      refine top_i (y := bI (xCl (fo (xTf g (xTp g T 2 (i + 1)) i v) t σ) g i t i)) hp.1 ?_
      have I := x_as I hp.2
      refine b_eq (tgt := 109) hx hb dX0_tryPlan_80 (by decide) (fun c80 => ?_) (fun c80 => ?_)
      · refine lv_iinc (v := nI (t + 1)) (lv' := [(4, .int (nI (t + 1))), (0, .ref o), (1, .int (nI i)), (2, .int v), (3, .ref (g.2.2.2.1 i))]) hx hb dX0_tryPlan_109 hl (k := 4) rfl (nI_1 _) (by decide) rfl (fun ls hl => ?_)
        refine lv_goto (tgt := 64) hx hb dX0_tryPlan_112 (by decide) ?_
        exact ih64 _ _ ls (x_as I (by show _ = xTf g _ i v t _; rw [xTf, c80]; rfl)) (lv_as (lv_sub (l' := [(0, .ref o), (1, .int (nI i)), (2, .int v), (3, .ref (g.2.2.2.1 i)), (4, .int (nI (t + 1)))]) hl [1, 2, 3, 4, 0] rfl) (rfl))
      · refine lv_aload_n hx hb dX0_tryPlan_83 rfl (lv_at hl 0 rfl) ?_
        refine x_get E hK I 16 rfl q155 rfl dX0_tryPlan_84 ?_
        refine lv_iload_n hx hb dX0_tryPlan_87 rfl (lv_at hl 1 rfl) ?_
        refine lv_iload hx hb dX0_tryPlan_88 (lv_at hl 4 rfl) ?_
        refine x_ast (i := i) E hK I 8 rfl rfl rfl dX0_tryPlan_90 (by simp only [xLn]; omega) (fun H locs I => ?_)
        refine lv_aload_n hx hb dX0_tryPlan_91 rfl (lv_at hl 0 rfl) ?_
        refine lv_iload_n hx hb dX0_tryPlan_92 rfl (lv_at hl 1 rfl) ?_
        refine lv_iconst (v := 1) hx hb dX0_tryPlan_93 (by decide) ?_
        refine lv_iadd hx hb dX0_tryPlan_94 ?_
        refine top_i (y := nI (i + 1)) (nI_1 _) ?_
        refine lv_iload_n hx hb dX0_tryPlan_95 rfl (lv_at hl 2 rfl) ?_
        refine lv_aload_n hx hb dX0_tryPlan_96 rfl (lv_at hl 3 rfl) ?_
        refine lv_aload_n hx hb dX0_tryPlan_97 rfl (lv_at hl 3 rfl) ?_
        refine lv_iconst (v := 0) hx hb dX0_tryPlan_98 (by decide) ?_
        refine g_stays (i := i) q518 hC hg E hK hA hX I (by omega) false ⟨Nat.le_of_ble_eq_true rfl, Nat.le_of_ble_eq_true rfl⟩ ⟨Nat.le_refl 0, Nat.le_refl 0⟩ hl.1 (Nat.le_of_ble_eq_true rfl) dX0_tryPlan_99 (fun H locs I => ?_)
        refine g_coin  (i := i) q535 hC hg E hK hA hX I (by omega) (gSt g i false) ⟨Nat.le_of_ble_eq_true rfl, Nat.le_of_ble_eq_true rfl⟩ ⟨Nat.le_refl 0, Nat.le_refl 0⟩ hl.1 (Nat.le_of_ble_eq_true rfl) dX0_tryPlan_102 (fun H locs I => ?_)
        refine lv_iadd hx hb dX0_tryPlan_105 ?_
        refine x_cv hC E hK hA hX I (x_tp2 l D ty o ad em g ex Cy hC hg (up (fo (xTf g (xTp g T 2 (i + 1)) i v) t σ) 16 i (nI t)) (i + 1) (v + (gCo g i (gSt g i false))) (by omega) T hT (by rw [up_k (by decide)]; exact (congrFun (fo_k (fun t s => xTf_k (by decide) g T 2 i v t s) t σ) 0).trans h0)) go_x_tp2 dc_x_tp2 ⟨Nat.le_of_ble_eq_true rfl, Nat.le_of_ble_eq_true rfl⟩ ⟨Nat.le_refl 0, Nat.le_refl 0⟩ hl.1 (Nat.le_of_ble_eq_true rfl) rfl dX0_tryPlan_106 (fun σ106 H locs hp I => ?_)
        have I := x_as I hp
        refine lv_iinc (v := nI (t + 1)) (lv' := [(4, .int (nI (t + 1))), (0, .ref o), (1, .int (nI i)), (2, .int v), (3, .ref (g.2.2.2.1 i))]) hx hb dX0_tryPlan_109 hl (k := 4) rfl (nI_1 _) (by decide) rfl (fun ls hl => ?_)
        refine lv_goto (tgt := 64) hx hb dX0_tryPlan_112 (by decide) ?_
        exact ih64 _ _ ls (x_as I (by show _ = xTf g _ i v t _; rw [xTf, c80]; rfl)) (lv_as (lv_sub (l' := [(0, .ref o), (1, .int (nI i)), (2, .int v), (3, .ref (g.2.2.2.1 i)), (4, .int (nI (t + 1)))]) hl [1, 2, 3, 4, 0] rfl) (rfl))
  exact L64 0 (Nat.zero_le _) _ _ ls (x_as I (rfl)) (lv_as (lv_sub (l' := [(0, .ref o), (1, .int (nI i)), (2, .int v), (3, .ref (g.2.2.2.1 i)), (4, .int 0)]) hl [2, 3, 4, 1, 0] rfl) (rfl))
theorem dc_x_tp3 : yX0_tryPlan.cls = RX0 ∧ yX0_tryPlan.cls ≠ "java/lang/invoke/MethodHandle" ∧ yX0_tryPlan.cls ≠ "java/lang/invoke/VarHandle" ∧ (parseMethodDescriptor yX0_tryPlan.desc).map (fun d => d.parameters.length) = some 2 := by decide +kernel
theorem go_x_tp3 : GoodIn lw_all (wsV RX0 256 RX0 yX0_tryPlan (ws_ yX0_tryPlan cX0_tryPlan 5 none)) := lw_V q575 q577 qs23 q71 q578
theorem x_tp4 (l : Launch) (D : va_G) (ty : Nat → ClassId) (o : Nat) (ad : Nat → Nat) (em : Nat) (g : GS) (ex : va_W) (Cy : (Nat → Prop) → State → Prop) (hC : CxOk (CxX em Cy)) (hg : gOk g) (σ : Sg) (i : Nat) (v : Int32) (hn : i + 4 = min 6 g.1) (T : Nat) (hT : T ≤ 6) (h0 : σ 0 0 = nI T) : xKv l yX0_tryPlan cX0_tryPlan 5 11 D ty (CxX em Cy) o ad (gE ty o (ad 8) em g ex) σ [.int (nI i), .int v] (fun τ => τ = xTp g T 4 i v σ) := by
  refine Kv.of (by decide) (Nat.le_of_ble_eq_true rfl) ?_
  intro p e s m below meth c A ls args E hK hA hX hlk hr hnm I hl
  have hx := E.1
  have hb := E.2.1
  have hl : lv_has ls 5 [(0, .ref o), (1, .int (nI i)), (2, .int v)] := hl
  refine nameQ (fun Q hQ => ?_)
  have hg8 := hg.1
  have hi : i ≤ 6 ∧ i ≤ g.1 := by omega
  refine lv_iload_n hx hb dX0_tryPlan_0 rfl (lv_at hl 1 rfl) ?_
  refine lv_bipush (v := 6) hx hb dX0_tryPlan_1 (by decide) ?_
  refine lv_aload_n hx hb dX0_tryPlan_3 rfl (lv_at hl 0 rfl) ?_
  refine x_get E hK I 8 rfl q147 rfl dX0_tryPlan_4 ?_
  refine g_size hC E hK hA hX I ⟨Nat.le_of_ble_eq_true rfl, Nat.le_of_ble_eq_true rfl⟩ ⟨Nat.le_refl 0, Nat.le_refl 0⟩ hl.1 (Nat.le_of_ble_eq_true rfl) dX0_tryPlan_7 (fun H locs I => ?_)
  refine va_mmin hx hb (E.2.2.1.trans hl.1.symm) E.2.2.2.1 (E.2.2.2.2 _ q574) (E.2.2.2.2 _ q394) (E.2.2.2.2 _ q89) (E.2.2.2.2 _ q395) (Nat.le_of_ble_eq_true rfl) (Nat.le_of_ble_eq_true rfl) (Nat.le_refl 0) (Nat.le_refl 0) dX0_tryPlan_12 ?_
  refine top_i (y := (iMin 6 (nI g.1))) rfl ?_
  refine top_i (y := nI (min 6 g.1)) (iMin6 hg8) ?_
  refine lv_icmp_ne (tgt := 47) hx hb dX0_tryPlan_15 (by decide) (fun c15 => ?_) (fun c15 => absurd c15 (fun h => by have := (nI_i (by omega) (by omega)).mp h; omega))
  refine lv_aload_n hx hb dX0_tryPlan_47 rfl (lv_at hl 0 rfl) ?_
  refine x_get E hK I 8 rfl q147 rfl dX0_tryPlan_48 ?_
  refine lv_iload_n hx hb dX0_tryPlan_51 rfl (lv_at hl 1 rfl) ?_
  refine g_lget (i := i) hC hg E hK hA hX I (by omega) ⟨Nat.le_of_ble_eq_true rfl, Nat.le_of_ble_eq_true rfl⟩ ⟨Nat.le_refl 0, Nat.le_refl 0⟩ hl.1 (Nat.le_of_ble_eq_true rfl) dX0_tryPlan_52 (fun H locs I => ?_)
  refine g_cast (i := i) E hK hX I hg (by omega) q260 dX0_tryPlan_57 ?_
  refine lv_astore_n (lv' := [(3, .ref (g.2.2.2.1 i)), (0, .ref o), (1, .int (nI i)), (2, .int v)]) hx hb dX0_tryPlan_60 rfl hl (by decide) rfl (fun ls hl => ?_)
  refine lv_iconst (v := 0) hx hb dX0_tryPlan_61 (by decide) ?_
  refine lv_istore (lv' := [(4, .int 0), (3, .ref (g.2.2.2.1 i)), (0, .ref o), (1, .int (nI i)), (2, .int v)]) hx hb dX0_tryPlan_62 hl (by decide) rfl (fun ls hl => ?_)
  have L64 : ∀ t, t ≤ T → ∀ (H : Heap) (locs : List Loc) (ls : Array Slot), gI s D A (gW ty o ad em g ex (fo (xTf g (xTp g T 3 (i + 1)) i v) t σ)) H locs → lv_has ls 5 [(0, .ref o), (1, .int (nI i)), (2, .int v), (3, .ref (g.2.2.2.1 i)), (4, .int (nI t))] → W p l e (rmL 11) s m args below meth c H locs 0 0 Q (F0 m 64 ls []) := by
    refine dn_ind T ?_ ?_
    · intro H locs ls I hl
      refine lv_iload hx hb dX0_tryPlan_64 (lv_at hl 4 rfl) ?_
      have h0t := (congrFun (fo_k (fun t s => xTf_k (by decide) g T 3 i v t s) T σ) 0).trans h0
      refine lv_aload_n hx hb dX0_tryPlan_66 rfl (lv_at hl 0 rfl) ?_
      refine x_get (v := .int (nI T)) E hK I 0 rfl q138 (congrArg Value.int (h0t)) dX0_tryPlan_67 ?_
      refine lv_icmp_ge (tgt := 115) hx hb dX0_tryPlan_70 (by decide) (fun c70 => ?_) (fun c70 => absurd c70 (fun h => h (Int32.le_refl _)))
      refine lv_aload_n hx hb dX0_tryPlan_115 rfl (lv_at hl 0 rfl) ?_
      refine x_get E hK I 16 rfl q155 rfl dX0_tryPlan_116 ?_
      refine lv_iload_n hx hb dX0_tryPlan_119 rfl (lv_at hl 1 rfl) ?_
      refine lv_bipush (v := (-9)) hx hb dX0_tryPlan_120 (by decide) ?_
      refine x_ast (i := i) E hK I 8 rfl rfl rfl dX0_tryPlan_122 (by simp only [xLn]; omega) (fun H locs I => ?_)
      refine lv_aload_n hx hb dX0_tryPlan_123 rfl (lv_at hl 0 rfl) ?_
      refine lv_iload_n hx hb dX0_tryPlan_124 rfl (lv_at hl 1 rfl) ?_
      refine lv_iconst (v := 1) hx hb dX0_tryPlan_125 (by decide) ?_
      refine lv_iadd hx hb dX0_tryPlan_126 ?_
      refine top_i (y := nI (i + 1)) (nI_1 _) ?_
      refine lv_iload_n hx hb dX0_tryPlan_127 rfl (lv_at hl 2 rfl) ?_
      refine x_cv hC E hK hA hX I (x_tp3 l D ty o ad em g ex Cy hC hg (up (fo (xTf g (xTp g T 3 (i + 1)) i v) T σ) 16 i (-9)) (i + 1) v (by omega) T hT (by rw [up_k (by decide)]; exact (congrFun (fo_k (fun t s => xTf_k (by decide) g T 3 i v t s) T σ) 0).trans h0)) go_x_tp3 dc_x_tp3 ⟨Nat.le_of_ble_eq_true rfl, Nat.le_of_ble_eq_true rfl⟩ ⟨Nat.le_refl 0, Nat.le_refl 0⟩ hl.1 (Nat.le_of_ble_eq_true rfl) rfl dX0_tryPlan_128 (fun σ128 H locs hp I => ?_)
      have I := x_as I hp
      subst hQ
      exact r_v E hlk hr I (Nat.le_refl 0) (Nat.le_refl 0) dX0_tryPlan_131 (rfl)
    · intro t ht ih64 H locs ls I hl
      refine lv_iload hx hb dX0_tryPlan_64 (lv_at hl 4 rfl) ?_
      have h0t := (congrFun (fo_k (fun t s => xTf_k (by decide) g T 3 i v t s) t σ) 0).trans h0
      refine lv_aload_n hx hb dX0_tryPlan_66 rfl (lv_at hl 0 rfl) ?_
      refine x_get (v := .int (nI T)) E hK I 0 rfl q138 (congrArg Value.int (h0t)) dX0_tryPlan_67 ?_
      refine lv_icmp_ge (tgt := 115) hx hb dX0_tryPlan_70 (by decide) (fun c70 => absurd c70 (nI_ge ht (by omega))) (fun c70 => ?_)
      refine lv_aload_n hx hb dX0_tryPlan_73 rfl (lv_at hl 0 rfl) ?_
      refine lv_iload_n hx hb dX0_tryPlan_74 rfl (lv_at hl 1 rfl) ?_
      refine lv_iload hx hb dX0_tryPlan_75 (lv_at hl 4 rfl) ?_
      refine x_ci hC E hK hA hX I (x_isClear l D ty o ad em g ex Cy hC hg (fo (xTf g (xTp g T 3 (i + 1)) i v) t σ) i t (by omega) (by omega) (by omega)) go_x_isClear dc_x_isClear ⟨Nat.le_of_ble_eq_true rfl, Nat.le_of_ble_eq_true rfl⟩ ⟨Nat.le_refl 0, Nat.le_refl 0⟩ hl.1 (Nat.le_of_ble_eq_true rfl) rfl dX0_tryPlan_77 (fun r77 σ77 H locs hp I => ?_)
      refine top_i (y := bI (xCl (fo (xTf g (xTp g T 3 (i + 1)) i v) t σ) g i t i)) hp.1 ?_
      have I := x_as I hp.2
      refine b_eq (tgt := 109) hx hb dX0_tryPlan_80 (by decide) (fun c80 => ?_) (fun c80 => ?_)
      · refine lv_iinc (v := nI (t + 1)) (lv' := [(4, .int (nI (t + 1))), (0, .ref o), (1, .int (nI i)), (2, .int v), (3, .ref (g.2.2.2.1 i))]) hx hb dX0_tryPlan_109 hl (k := 4) rfl (nI_1 _) (by decide) rfl (fun ls hl => ?_)
        refine lv_goto (tgt := 64) hx hb dX0_tryPlan_112 (by decide) ?_
        exact ih64 _ _ ls (x_as I (by show _ = xTf g _ i v t _; rw [xTf, c80]; rfl)) (lv_as (lv_sub (l' := [(0, .ref o), (1, .int (nI i)), (2, .int v), (3, .ref (g.2.2.2.1 i)), (4, .int (nI (t + 1)))]) hl [1, 2, 3, 4, 0] rfl) (rfl))
      · refine lv_aload_n hx hb dX0_tryPlan_83 rfl (lv_at hl 0 rfl) ?_
        refine x_get E hK I 16 rfl q155 rfl dX0_tryPlan_84 ?_
        refine lv_iload_n hx hb dX0_tryPlan_87 rfl (lv_at hl 1 rfl) ?_
        refine lv_iload hx hb dX0_tryPlan_88 (lv_at hl 4 rfl) ?_
        refine x_ast (i := i) E hK I 8 rfl rfl rfl dX0_tryPlan_90 (by simp only [xLn]; omega) (fun H locs I => ?_)
        refine lv_aload_n hx hb dX0_tryPlan_91 rfl (lv_at hl 0 rfl) ?_
        refine lv_iload_n hx hb dX0_tryPlan_92 rfl (lv_at hl 1 rfl) ?_
        refine lv_iconst (v := 1) hx hb dX0_tryPlan_93 (by decide) ?_
        refine lv_iadd hx hb dX0_tryPlan_94 ?_
        refine top_i (y := nI (i + 1)) (nI_1 _) ?_
        refine lv_iload_n hx hb dX0_tryPlan_95 rfl (lv_at hl 2 rfl) ?_
        refine lv_aload_n hx hb dX0_tryPlan_96 rfl (lv_at hl 3 rfl) ?_
        refine lv_aload_n hx hb dX0_tryPlan_97 rfl (lv_at hl 3 rfl) ?_
        refine lv_iconst (v := 0) hx hb dX0_tryPlan_98 (by decide) ?_
        refine g_stays (i := i) q518 hC hg E hK hA hX I (by omega) false ⟨Nat.le_of_ble_eq_true rfl, Nat.le_of_ble_eq_true rfl⟩ ⟨Nat.le_refl 0, Nat.le_refl 0⟩ hl.1 (Nat.le_of_ble_eq_true rfl) dX0_tryPlan_99 (fun H locs I => ?_)
        refine g_coin  (i := i) q535 hC hg E hK hA hX I (by omega) (gSt g i false) ⟨Nat.le_of_ble_eq_true rfl, Nat.le_of_ble_eq_true rfl⟩ ⟨Nat.le_refl 0, Nat.le_refl 0⟩ hl.1 (Nat.le_of_ble_eq_true rfl) dX0_tryPlan_102 (fun H locs I => ?_)
        refine lv_iadd hx hb dX0_tryPlan_105 ?_
        refine x_cv hC E hK hA hX I (x_tp3 l D ty o ad em g ex Cy hC hg (up (fo (xTf g (xTp g T 3 (i + 1)) i v) t σ) 16 i (nI t)) (i + 1) (v + (gCo g i (gSt g i false))) (by omega) T hT (by rw [up_k (by decide)]; exact (congrFun (fo_k (fun t s => xTf_k (by decide) g T 3 i v t s) t σ) 0).trans h0)) go_x_tp3 dc_x_tp3 ⟨Nat.le_of_ble_eq_true rfl, Nat.le_of_ble_eq_true rfl⟩ ⟨Nat.le_refl 0, Nat.le_refl 0⟩ hl.1 (Nat.le_of_ble_eq_true rfl) rfl dX0_tryPlan_106 (fun σ106 H locs hp I => ?_)
        have I := x_as I hp
        refine lv_iinc (v := nI (t + 1)) (lv' := [(4, .int (nI (t + 1))), (0, .ref o), (1, .int (nI i)), (2, .int v), (3, .ref (g.2.2.2.1 i))]) hx hb dX0_tryPlan_109 hl (k := 4) rfl (nI_1 _) (by decide) rfl (fun ls hl => ?_)
        refine lv_goto (tgt := 64) hx hb dX0_tryPlan_112 (by decide) ?_
        exact ih64 _ _ ls (x_as I (by show _ = xTf g _ i v t _; rw [xTf, c80]; rfl)) (lv_as (lv_sub (l' := [(0, .ref o), (1, .int (nI i)), (2, .int v), (3, .ref (g.2.2.2.1 i)), (4, .int (nI (t + 1)))]) hl [1, 2, 3, 4, 0] rfl) (rfl))
  exact L64 0 (Nat.zero_le _) _ _ ls (x_as I (rfl)) (lv_as (lv_sub (l' := [(0, .ref o), (1, .int (nI i)), (2, .int v), (3, .ref (g.2.2.2.1 i)), (4, .int 0)]) hl [2, 3, 4, 1, 0] rfl) (rfl))
theorem dc_x_tp4 : yX0_tryPlan.cls = RX0 ∧ yX0_tryPlan.cls ≠ "java/lang/invoke/MethodHandle" ∧ yX0_tryPlan.cls ≠ "java/lang/invoke/VarHandle" ∧ (parseMethodDescriptor yX0_tryPlan.desc).map (fun d => d.parameters.length) = some 2 := by decide +kernel
theorem go_x_tp4 : GoodIn lw_all (wsV RX0 256 RX0 yX0_tryPlan (ws_ yX0_tryPlan cX0_tryPlan 5 none)) := lw_V q575 q577 qs23 q71 q578
theorem x_tp5 (l : Launch) (D : va_G) (ty : Nat → ClassId) (o : Nat) (ad : Nat → Nat) (em : Nat) (g : GS) (ex : va_W) (Cy : (Nat → Prop) → State → Prop) (hC : CxOk (CxX em Cy)) (hg : gOk g) (σ : Sg) (i : Nat) (v : Int32) (hn : i + 5 = min 6 g.1) (T : Nat) (hT : T ≤ 6) (h0 : σ 0 0 = nI T) : xKv l yX0_tryPlan cX0_tryPlan 5 12 D ty (CxX em Cy) o ad (gE ty o (ad 8) em g ex) σ [.int (nI i), .int v] (fun τ => τ = xTp g T 5 i v σ) := by
  refine Kv.of (by decide) (Nat.le_of_ble_eq_true rfl) ?_
  intro p e s m below meth c A ls args E hK hA hX hlk hr hnm I hl
  have hx := E.1
  have hb := E.2.1
  have hl : lv_has ls 5 [(0, .ref o), (1, .int (nI i)), (2, .int v)] := hl
  refine nameQ (fun Q hQ => ?_)
  have hg8 := hg.1
  have hi : i ≤ 6 ∧ i ≤ g.1 := by omega
  refine lv_iload_n hx hb dX0_tryPlan_0 rfl (lv_at hl 1 rfl) ?_
  refine lv_bipush (v := 6) hx hb dX0_tryPlan_1 (by decide) ?_
  refine lv_aload_n hx hb dX0_tryPlan_3 rfl (lv_at hl 0 rfl) ?_
  refine x_get E hK I 8 rfl q147 rfl dX0_tryPlan_4 ?_
  refine g_size hC E hK hA hX I ⟨Nat.le_of_ble_eq_true rfl, Nat.le_of_ble_eq_true rfl⟩ ⟨Nat.le_refl 0, Nat.le_refl 0⟩ hl.1 (Nat.le_of_ble_eq_true rfl) dX0_tryPlan_7 (fun H locs I => ?_)
  refine va_mmin hx hb (E.2.2.1.trans hl.1.symm) E.2.2.2.1 (E.2.2.2.2 _ q574) (E.2.2.2.2 _ q394) (E.2.2.2.2 _ q89) (E.2.2.2.2 _ q395) (Nat.le_of_ble_eq_true rfl) (Nat.le_of_ble_eq_true rfl) (Nat.le_refl 0) (Nat.le_refl 0) dX0_tryPlan_12 ?_
  refine top_i (y := (iMin 6 (nI g.1))) rfl ?_
  refine top_i (y := nI (min 6 g.1)) (iMin6 hg8) ?_
  refine lv_icmp_ne (tgt := 47) hx hb dX0_tryPlan_15 (by decide) (fun c15 => ?_) (fun c15 => absurd c15 (fun h => by have := (nI_i (by omega) (by omega)).mp h; omega))
  refine lv_aload_n hx hb dX0_tryPlan_47 rfl (lv_at hl 0 rfl) ?_
  refine x_get E hK I 8 rfl q147 rfl dX0_tryPlan_48 ?_
  refine lv_iload_n hx hb dX0_tryPlan_51 rfl (lv_at hl 1 rfl) ?_
  refine g_lget (i := i) hC hg E hK hA hX I (by omega) ⟨Nat.le_of_ble_eq_true rfl, Nat.le_of_ble_eq_true rfl⟩ ⟨Nat.le_refl 0, Nat.le_refl 0⟩ hl.1 (Nat.le_of_ble_eq_true rfl) dX0_tryPlan_52 (fun H locs I => ?_)
  refine g_cast (i := i) E hK hX I hg (by omega) q260 dX0_tryPlan_57 ?_
  refine lv_astore_n (lv' := [(3, .ref (g.2.2.2.1 i)), (0, .ref o), (1, .int (nI i)), (2, .int v)]) hx hb dX0_tryPlan_60 rfl hl (by decide) rfl (fun ls hl => ?_)
  refine lv_iconst (v := 0) hx hb dX0_tryPlan_61 (by decide) ?_
  refine lv_istore (lv' := [(4, .int 0), (3, .ref (g.2.2.2.1 i)), (0, .ref o), (1, .int (nI i)), (2, .int v)]) hx hb dX0_tryPlan_62 hl (by decide) rfl (fun ls hl => ?_)
  have L64 : ∀ t, t ≤ T → ∀ (H : Heap) (locs : List Loc) (ls : Array Slot), gI s D A (gW ty o ad em g ex (fo (xTf g (xTp g T 4 (i + 1)) i v) t σ)) H locs → lv_has ls 5 [(0, .ref o), (1, .int (nI i)), (2, .int v), (3, .ref (g.2.2.2.1 i)), (4, .int (nI t))] → W p l e (rmL 12) s m args below meth c H locs 0 0 Q (F0 m 64 ls []) := by
    refine dn_ind T ?_ ?_
    · intro H locs ls I hl
      refine lv_iload hx hb dX0_tryPlan_64 (lv_at hl 4 rfl) ?_
      have h0t := (congrFun (fo_k (fun t s => xTf_k (by decide) g T 4 i v t s) T σ) 0).trans h0
      refine lv_aload_n hx hb dX0_tryPlan_66 rfl (lv_at hl 0 rfl) ?_
      refine x_get (v := .int (nI T)) E hK I 0 rfl q138 (congrArg Value.int (h0t)) dX0_tryPlan_67 ?_
      refine lv_icmp_ge (tgt := 115) hx hb dX0_tryPlan_70 (by decide) (fun c70 => ?_) (fun c70 => absurd c70 (fun h => h (Int32.le_refl _)))
      refine lv_aload_n hx hb dX0_tryPlan_115 rfl (lv_at hl 0 rfl) ?_
      refine x_get E hK I 16 rfl q155 rfl dX0_tryPlan_116 ?_
      refine lv_iload_n hx hb dX0_tryPlan_119 rfl (lv_at hl 1 rfl) ?_
      refine lv_bipush (v := (-9)) hx hb dX0_tryPlan_120 (by decide) ?_
      refine x_ast (i := i) E hK I 8 rfl rfl rfl dX0_tryPlan_122 (by simp only [xLn]; omega) (fun H locs I => ?_)
      refine lv_aload_n hx hb dX0_tryPlan_123 rfl (lv_at hl 0 rfl) ?_
      refine lv_iload_n hx hb dX0_tryPlan_124 rfl (lv_at hl 1 rfl) ?_
      refine lv_iconst (v := 1) hx hb dX0_tryPlan_125 (by decide) ?_
      refine lv_iadd hx hb dX0_tryPlan_126 ?_
      refine top_i (y := nI (i + 1)) (nI_1 _) ?_
      refine lv_iload_n hx hb dX0_tryPlan_127 rfl (lv_at hl 2 rfl) ?_
      refine x_cv hC E hK hA hX I (x_tp4 l D ty o ad em g ex Cy hC hg (up (fo (xTf g (xTp g T 4 (i + 1)) i v) T σ) 16 i (-9)) (i + 1) v (by omega) T hT (by rw [up_k (by decide)]; exact (congrFun (fo_k (fun t s => xTf_k (by decide) g T 4 i v t s) T σ) 0).trans h0)) go_x_tp4 dc_x_tp4 ⟨Nat.le_of_ble_eq_true rfl, Nat.le_of_ble_eq_true rfl⟩ ⟨Nat.le_refl 0, Nat.le_refl 0⟩ hl.1 (Nat.le_of_ble_eq_true rfl) rfl dX0_tryPlan_128 (fun σ128 H locs hp I => ?_)
      have I := x_as I hp
      subst hQ
      exact r_v E hlk hr I (Nat.le_refl 0) (Nat.le_refl 0) dX0_tryPlan_131 (rfl)
    · intro t ht ih64 H locs ls I hl
      refine lv_iload hx hb dX0_tryPlan_64 (lv_at hl 4 rfl) ?_
      have h0t := (congrFun (fo_k (fun t s => xTf_k (by decide) g T 4 i v t s) t σ) 0).trans h0
      refine lv_aload_n hx hb dX0_tryPlan_66 rfl (lv_at hl 0 rfl) ?_
      refine x_get (v := .int (nI T)) E hK I 0 rfl q138 (congrArg Value.int (h0t)) dX0_tryPlan_67 ?_
      refine lv_icmp_ge (tgt := 115) hx hb dX0_tryPlan_70 (by decide) (fun c70 => absurd c70 (nI_ge ht (by omega))) (fun c70 => ?_)
      refine lv_aload_n hx hb dX0_tryPlan_73 rfl (lv_at hl 0 rfl) ?_
      refine lv_iload_n hx hb dX0_tryPlan_74 rfl (lv_at hl 1 rfl) ?_
      refine lv_iload hx hb dX0_tryPlan_75 (lv_at hl 4 rfl) ?_
      refine x_ci hC E hK hA hX I (x_isClear l D ty o ad em g ex Cy hC hg (fo (xTf g (xTp g T 4 (i + 1)) i v) t σ) i t (by omega) (by omega) (by omega)) go_x_isClear dc_x_isClear ⟨Nat.le_of_ble_eq_true rfl, Nat.le_of_ble_eq_true rfl⟩ ⟨Nat.le_refl 0, Nat.le_refl 0⟩ hl.1 (Nat.le_of_ble_eq_true rfl) rfl dX0_tryPlan_77 (fun r77 σ77 H locs hp I => ?_)
      refine top_i (y := bI (xCl (fo (xTf g (xTp g T 4 (i + 1)) i v) t σ) g i t i)) hp.1 ?_
      have I := x_as I hp.2
      refine b_eq (tgt := 109) hx hb dX0_tryPlan_80 (by decide) (fun c80 => ?_) (fun c80 => ?_)
      · refine lv_iinc (v := nI (t + 1)) (lv' := [(4, .int (nI (t + 1))), (0, .ref o), (1, .int (nI i)), (2, .int v), (3, .ref (g.2.2.2.1 i))]) hx hb dX0_tryPlan_109 hl (k := 4) rfl (nI_1 _) (by decide) rfl (fun ls hl => ?_)
        refine lv_goto (tgt := 64) hx hb dX0_tryPlan_112 (by decide) ?_
        exact ih64 _ _ ls (x_as I (by show _ = xTf g _ i v t _; rw [xTf, c80]; rfl)) (lv_as (lv_sub (l' := [(0, .ref o), (1, .int (nI i)), (2, .int v), (3, .ref (g.2.2.2.1 i)), (4, .int (nI (t + 1)))]) hl [1, 2, 3, 4, 0] rfl) (rfl))
      · refine lv_aload_n hx hb dX0_tryPlan_83 rfl (lv_at hl 0 rfl) ?_
        refine x_get E hK I 16 rfl q155 rfl dX0_tryPlan_84 ?_
        refine lv_iload_n hx hb dX0_tryPlan_87 rfl (lv_at hl 1 rfl) ?_
        refine lv_iload hx hb dX0_tryPlan_88 (lv_at hl 4 rfl) ?_
        refine x_ast (i := i) E hK I 8 rfl rfl rfl dX0_tryPlan_90 (by simp only [xLn]; omega) (fun H locs I => ?_)
        refine lv_aload_n hx hb dX0_tryPlan_91 rfl (lv_at hl 0 rfl) ?_
        refine lv_iload_n hx hb dX0_tryPlan_92 rfl (lv_at hl 1 rfl) ?_
        refine lv_iconst (v := 1) hx hb dX0_tryPlan_93 (by decide) ?_
        refine lv_iadd hx hb dX0_tryPlan_94 ?_
        refine top_i (y := nI (i + 1)) (nI_1 _) ?_
        refine lv_iload_n hx hb dX0_tryPlan_95 rfl (lv_at hl 2 rfl) ?_
        refine lv_aload_n hx hb dX0_tryPlan_96 rfl (lv_at hl 3 rfl) ?_
        refine lv_aload_n hx hb dX0_tryPlan_97 rfl (lv_at hl 3 rfl) ?_
        refine lv_iconst (v := 0) hx hb dX0_tryPlan_98 (by decide) ?_
        refine g_stays (i := i) q518 hC hg E hK hA hX I (by omega) false ⟨Nat.le_of_ble_eq_true rfl, Nat.le_of_ble_eq_true rfl⟩ ⟨Nat.le_refl 0, Nat.le_refl 0⟩ hl.1 (Nat.le_of_ble_eq_true rfl) dX0_tryPlan_99 (fun H locs I => ?_)
        refine g_coin  (i := i) q535 hC hg E hK hA hX I (by omega) (gSt g i false) ⟨Nat.le_of_ble_eq_true rfl, Nat.le_of_ble_eq_true rfl⟩ ⟨Nat.le_refl 0, Nat.le_refl 0⟩ hl.1 (Nat.le_of_ble_eq_true rfl) dX0_tryPlan_102 (fun H locs I => ?_)
        refine lv_iadd hx hb dX0_tryPlan_105 ?_
        refine x_cv hC E hK hA hX I (x_tp4 l D ty o ad em g ex Cy hC hg (up (fo (xTf g (xTp g T 4 (i + 1)) i v) t σ) 16 i (nI t)) (i + 1) (v + (gCo g i (gSt g i false))) (by omega) T hT (by rw [up_k (by decide)]; exact (congrFun (fo_k (fun t s => xTf_k (by decide) g T 4 i v t s) t σ) 0).trans h0)) go_x_tp4 dc_x_tp4 ⟨Nat.le_of_ble_eq_true rfl, Nat.le_of_ble_eq_true rfl⟩ ⟨Nat.le_refl 0, Nat.le_refl 0⟩ hl.1 (Nat.le_of_ble_eq_true rfl) rfl dX0_tryPlan_106 (fun σ106 H locs hp I => ?_)
        have I := x_as I hp
        refine lv_iinc (v := nI (t + 1)) (lv' := [(4, .int (nI (t + 1))), (0, .ref o), (1, .int (nI i)), (2, .int v), (3, .ref (g.2.2.2.1 i))]) hx hb dX0_tryPlan_109 hl (k := 4) rfl (nI_1 _) (by decide) rfl (fun ls hl => ?_)
        refine lv_goto (tgt := 64) hx hb dX0_tryPlan_112 (by decide) ?_
        exact ih64 _ _ ls (x_as I (by show _ = xTf g _ i v t _; rw [xTf, c80]; rfl)) (lv_as (lv_sub (l' := [(0, .ref o), (1, .int (nI i)), (2, .int v), (3, .ref (g.2.2.2.1 i)), (4, .int (nI (t + 1)))]) hl [1, 2, 3, 4, 0] rfl) (rfl))
  exact L64 0 (Nat.zero_le _) _ _ ls (x_as I (rfl)) (lv_as (lv_sub (l' := [(0, .ref o), (1, .int (nI i)), (2, .int v), (3, .ref (g.2.2.2.1 i)), (4, .int 0)]) hl [2, 3, 4, 1, 0] rfl) (rfl))
theorem dc_x_tp5 : yX0_tryPlan.cls = RX0 ∧ yX0_tryPlan.cls ≠ "java/lang/invoke/MethodHandle" ∧ yX0_tryPlan.cls ≠ "java/lang/invoke/VarHandle" ∧ (parseMethodDescriptor yX0_tryPlan.desc).map (fun d => d.parameters.length) = some 2 := by decide +kernel
theorem go_x_tp5 : GoodIn lw_all (wsV RX0 256 RX0 yX0_tryPlan (ws_ yX0_tryPlan cX0_tryPlan 5 none)) := lw_V q575 q577 qs23 q71 q578
theorem x_tp6 (l : Launch) (D : va_G) (ty : Nat → ClassId) (o : Nat) (ad : Nat → Nat) (em : Nat) (g : GS) (ex : va_W) (Cy : (Nat → Prop) → State → Prop) (hC : CxOk (CxX em Cy)) (hg : gOk g) (σ : Sg) (i : Nat) (v : Int32) (hn : i + 6 = min 6 g.1) (T : Nat) (hT : T ≤ 6) (h0 : σ 0 0 = nI T) : xKv l yX0_tryPlan cX0_tryPlan 5 13 D ty (CxX em Cy) o ad (gE ty o (ad 8) em g ex) σ [.int (nI i), .int v] (fun τ => τ = xTp g T 6 i v σ) := by
  refine Kv.of (by decide) (Nat.le_of_ble_eq_true rfl) ?_
  intro p e s m below meth c A ls args E hK hA hX hlk hr hnm I hl
  have hx := E.1
  have hb := E.2.1
  have hl : lv_has ls 5 [(0, .ref o), (1, .int (nI i)), (2, .int v)] := hl
  refine nameQ (fun Q hQ => ?_)
  have hg8 := hg.1
  have hi : i ≤ 6 ∧ i ≤ g.1 := by omega
  refine lv_iload_n hx hb dX0_tryPlan_0 rfl (lv_at hl 1 rfl) ?_
  refine lv_bipush (v := 6) hx hb dX0_tryPlan_1 (by decide) ?_
  refine lv_aload_n hx hb dX0_tryPlan_3 rfl (lv_at hl 0 rfl) ?_
  refine x_get E hK I 8 rfl q147 rfl dX0_tryPlan_4 ?_
  refine g_size hC E hK hA hX I ⟨Nat.le_of_ble_eq_true rfl, Nat.le_of_ble_eq_true rfl⟩ ⟨Nat.le_refl 0, Nat.le_refl 0⟩ hl.1 (Nat.le_of_ble_eq_true rfl) dX0_tryPlan_7 (fun H locs I => ?_)
  refine va_mmin hx hb (E.2.2.1.trans hl.1.symm) E.2.2.2.1 (E.2.2.2.2 _ q574) (E.2.2.2.2 _ q394) (E.2.2.2.2 _ q89) (E.2.2.2.2 _ q395) (Nat.le_of_ble_eq_true rfl) (Nat.le_of_ble_eq_true rfl) (Nat.le_refl 0) (Nat.le_refl 0) dX0_tryPlan_12 ?_
  refine top_i (y := (iMin 6 (nI g.1))) rfl ?_
  refine top_i (y := nI (min 6 g.1)) (iMin6 hg8) ?_
  refine lv_icmp_ne (tgt := 47) hx hb dX0_tryPlan_15 (by decide) (fun c15 => ?_) (fun c15 => absurd c15 (fun h => by have := (nI_i (by omega) (by omega)).mp h; omega))
  refine lv_aload_n hx hb dX0_tryPlan_47 rfl (lv_at hl 0 rfl) ?_
  refine x_get E hK I 8 rfl q147 rfl dX0_tryPlan_48 ?_
  refine lv_iload_n hx hb dX0_tryPlan_51 rfl (lv_at hl 1 rfl) ?_
  refine g_lget (i := i) hC hg E hK hA hX I (by omega) ⟨Nat.le_of_ble_eq_true rfl, Nat.le_of_ble_eq_true rfl⟩ ⟨Nat.le_refl 0, Nat.le_refl 0⟩ hl.1 (Nat.le_of_ble_eq_true rfl) dX0_tryPlan_52 (fun H locs I => ?_)
  refine g_cast (i := i) E hK hX I hg (by omega) q260 dX0_tryPlan_57 ?_
  refine lv_astore_n (lv' := [(3, .ref (g.2.2.2.1 i)), (0, .ref o), (1, .int (nI i)), (2, .int v)]) hx hb dX0_tryPlan_60 rfl hl (by decide) rfl (fun ls hl => ?_)
  refine lv_iconst (v := 0) hx hb dX0_tryPlan_61 (by decide) ?_
  refine lv_istore (lv' := [(4, .int 0), (3, .ref (g.2.2.2.1 i)), (0, .ref o), (1, .int (nI i)), (2, .int v)]) hx hb dX0_tryPlan_62 hl (by decide) rfl (fun ls hl => ?_)
  have L64 : ∀ t, t ≤ T → ∀ (H : Heap) (locs : List Loc) (ls : Array Slot), gI s D A (gW ty o ad em g ex (fo (xTf g (xTp g T 5 (i + 1)) i v) t σ)) H locs → lv_has ls 5 [(0, .ref o), (1, .int (nI i)), (2, .int v), (3, .ref (g.2.2.2.1 i)), (4, .int (nI t))] → W p l e (rmL 13) s m args below meth c H locs 0 0 Q (F0 m 64 ls []) := by
    refine dn_ind T ?_ ?_
    · intro H locs ls I hl
      refine lv_iload hx hb dX0_tryPlan_64 (lv_at hl 4 rfl) ?_
      have h0t := (congrFun (fo_k (fun t s => xTf_k (by decide) g T 5 i v t s) T σ) 0).trans h0
      refine lv_aload_n hx hb dX0_tryPlan_66 rfl (lv_at hl 0 rfl) ?_
      refine x_get (v := .int (nI T)) E hK I 0 rfl q138 (congrArg Value.int (h0t)) dX0_tryPlan_67 ?_
      refine lv_icmp_ge (tgt := 115) hx hb dX0_tryPlan_70 (by decide) (fun c70 => ?_) (fun c70 => absurd c70 (fun h => h (Int32.le_refl _)))
      refine lv_aload_n hx hb dX0_tryPlan_115 rfl (lv_at hl 0 rfl) ?_
      refine x_get E hK I 16 rfl q155 rfl dX0_tryPlan_116 ?_
      refine lv_iload_n hx hb dX0_tryPlan_119 rfl (lv_at hl 1 rfl) ?_
      refine lv_bipush (v := (-9)) hx hb dX0_tryPlan_120 (by decide) ?_
      refine x_ast (i := i) E hK I 8 rfl rfl rfl dX0_tryPlan_122 (by simp only [xLn]; omega) (fun H locs I => ?_)
      refine lv_aload_n hx hb dX0_tryPlan_123 rfl (lv_at hl 0 rfl) ?_
      refine lv_iload_n hx hb dX0_tryPlan_124 rfl (lv_at hl 1 rfl) ?_
      refine lv_iconst (v := 1) hx hb dX0_tryPlan_125 (by decide) ?_
      refine lv_iadd hx hb dX0_tryPlan_126 ?_
      refine top_i (y := nI (i + 1)) (nI_1 _) ?_
      refine lv_iload_n hx hb dX0_tryPlan_127 rfl (lv_at hl 2 rfl) ?_
      refine x_cv hC E hK hA hX I (x_tp5 l D ty o ad em g ex Cy hC hg (up (fo (xTf g (xTp g T 5 (i + 1)) i v) T σ) 16 i (-9)) (i + 1) v (by omega) T hT (by rw [up_k (by decide)]; exact (congrFun (fo_k (fun t s => xTf_k (by decide) g T 5 i v t s) T σ) 0).trans h0)) go_x_tp5 dc_x_tp5 ⟨Nat.le_of_ble_eq_true rfl, Nat.le_of_ble_eq_true rfl⟩ ⟨Nat.le_refl 0, Nat.le_refl 0⟩ hl.1 (Nat.le_of_ble_eq_true rfl) rfl dX0_tryPlan_128 (fun σ128 H locs hp I => ?_)
      have I := x_as I hp
      subst hQ
      exact r_v E hlk hr I (Nat.le_refl 0) (Nat.le_refl 0) dX0_tryPlan_131 (rfl)
    · intro t ht ih64 H locs ls I hl
      refine lv_iload hx hb dX0_tryPlan_64 (lv_at hl 4 rfl) ?_
      have h0t := (congrFun (fo_k (fun t s => xTf_k (by decide) g T 5 i v t s) t σ) 0).trans h0
      refine lv_aload_n hx hb dX0_tryPlan_66 rfl (lv_at hl 0 rfl) ?_
      refine x_get (v := .int (nI T)) E hK I 0 rfl q138 (congrArg Value.int (h0t)) dX0_tryPlan_67 ?_
      refine lv_icmp_ge (tgt := 115) hx hb dX0_tryPlan_70 (by decide) (fun c70 => absurd c70 (nI_ge ht (by omega))) (fun c70 => ?_)
      refine lv_aload_n hx hb dX0_tryPlan_73 rfl (lv_at hl 0 rfl) ?_
      refine lv_iload_n hx hb dX0_tryPlan_74 rfl (lv_at hl 1 rfl) ?_
      refine lv_iload hx hb dX0_tryPlan_75 (lv_at hl 4 rfl) ?_
      refine x_ci hC E hK hA hX I (x_isClear l D ty o ad em g ex Cy hC hg (fo (xTf g (xTp g T 5 (i + 1)) i v) t σ) i t (by omega) (by omega) (by omega)) go_x_isClear dc_x_isClear ⟨Nat.le_of_ble_eq_true rfl, Nat.le_of_ble_eq_true rfl⟩ ⟨Nat.le_refl 0, Nat.le_refl 0⟩ hl.1 (Nat.le_of_ble_eq_true rfl) rfl dX0_tryPlan_77 (fun r77 σ77 H locs hp I => ?_)
      refine top_i (y := bI (xCl (fo (xTf g (xTp g T 5 (i + 1)) i v) t σ) g i t i)) hp.1 ?_
      have I := x_as I hp.2
      refine b_eq (tgt := 109) hx hb dX0_tryPlan_80 (by decide) (fun c80 => ?_) (fun c80 => ?_)
      · refine lv_iinc (v := nI (t + 1)) (lv' := [(4, .int (nI (t + 1))), (0, .ref o), (1, .int (nI i)), (2, .int v), (3, .ref (g.2.2.2.1 i))]) hx hb dX0_tryPlan_109 hl (k := 4) rfl (nI_1 _) (by decide) rfl (fun ls hl => ?_)
        refine lv_goto (tgt := 64) hx hb dX0_tryPlan_112 (by decide) ?_
        exact ih64 _ _ ls (x_as I (by show _ = xTf g _ i v t _; rw [xTf, c80]; rfl)) (lv_as (lv_sub (l' := [(0, .ref o), (1, .int (nI i)), (2, .int v), (3, .ref (g.2.2.2.1 i)), (4, .int (nI (t + 1)))]) hl [1, 2, 3, 4, 0] rfl) (rfl))
      · refine lv_aload_n hx hb dX0_tryPlan_83 rfl (lv_at hl 0 rfl) ?_
        refine x_get E hK I 16 rfl q155 rfl dX0_tryPlan_84 ?_
        refine lv_iload_n hx hb dX0_tryPlan_87 rfl (lv_at hl 1 rfl) ?_
        refine lv_iload hx hb dX0_tryPlan_88 (lv_at hl 4 rfl) ?_
        refine x_ast (i := i) E hK I 8 rfl rfl rfl dX0_tryPlan_90 (by simp only [xLn]; omega) (fun H locs I => ?_)
        refine lv_aload_n hx hb dX0_tryPlan_91 rfl (lv_at hl 0 rfl) ?_
        refine lv_iload_n hx hb dX0_tryPlan_92 rfl (lv_at hl 1 rfl) ?_
        refine lv_iconst (v := 1) hx hb dX0_tryPlan_93 (by decide) ?_
        refine lv_iadd hx hb dX0_tryPlan_94 ?_
        refine top_i (y := nI (i + 1)) (nI_1 _) ?_
        refine lv_iload_n hx hb dX0_tryPlan_95 rfl (lv_at hl 2 rfl) ?_
        refine lv_aload_n hx hb dX0_tryPlan_96 rfl (lv_at hl 3 rfl) ?_
        refine lv_aload_n hx hb dX0_tryPlan_97 rfl (lv_at hl 3 rfl) ?_
        refine lv_iconst (v := 0) hx hb dX0_tryPlan_98 (by decide) ?_
        refine g_stays (i := i) q518 hC hg E hK hA hX I (by omega) false ⟨Nat.le_of_ble_eq_true rfl, Nat.le_of_ble_eq_true rfl⟩ ⟨Nat.le_refl 0, Nat.le_refl 0⟩ hl.1 (Nat.le_of_ble_eq_true rfl) dX0_tryPlan_99 (fun H locs I => ?_)
        refine g_coin  (i := i) q535 hC hg E hK hA hX I (by omega) (gSt g i false) ⟨Nat.le_of_ble_eq_true rfl, Nat.le_of_ble_eq_true rfl⟩ ⟨Nat.le_refl 0, Nat.le_refl 0⟩ hl.1 (Nat.le_of_ble_eq_true rfl) dX0_tryPlan_102 (fun H locs I => ?_)
        refine lv_iadd hx hb dX0_tryPlan_105 ?_
        refine x_cv hC E hK hA hX I (x_tp5 l D ty o ad em g ex Cy hC hg (up (fo (xTf g (xTp g T 5 (i + 1)) i v) t σ) 16 i (nI t)) (i + 1) (v + (gCo g i (gSt g i false))) (by omega) T hT (by rw [up_k (by decide)]; exact (congrFun (fo_k (fun t s => xTf_k (by decide) g T 5 i v t s) t σ) 0).trans h0)) go_x_tp5 dc_x_tp5 ⟨Nat.le_of_ble_eq_true rfl, Nat.le_of_ble_eq_true rfl⟩ ⟨Nat.le_refl 0, Nat.le_refl 0⟩ hl.1 (Nat.le_of_ble_eq_true rfl) rfl dX0_tryPlan_106 (fun σ106 H locs hp I => ?_)
        have I := x_as I hp
        refine lv_iinc (v := nI (t + 1)) (lv' := [(4, .int (nI (t + 1))), (0, .ref o), (1, .int (nI i)), (2, .int v), (3, .ref (g.2.2.2.1 i))]) hx hb dX0_tryPlan_109 hl (k := 4) rfl (nI_1 _) (by decide) rfl (fun ls hl => ?_)
        refine lv_goto (tgt := 64) hx hb dX0_tryPlan_112 (by decide) ?_
        exact ih64 _ _ ls (x_as I (by show _ = xTf g _ i v t _; rw [xTf, c80]; rfl)) (lv_as (lv_sub (l' := [(0, .ref o), (1, .int (nI i)), (2, .int v), (3, .ref (g.2.2.2.1 i)), (4, .int (nI (t + 1)))]) hl [1, 2, 3, 4, 0] rfl) (rfl))
  exact L64 0 (Nat.zero_le _) _ _ ls (x_as I (rfl)) (lv_as (lv_sub (l' := [(0, .ref o), (1, .int (nI i)), (2, .int v), (3, .ref (g.2.2.2.1 i)), (4, .int 0)]) hl [2, 3, 4, 1, 0] rfl) (rfl))
theorem dc_x_tp6 : yX0_tryPlan.cls = RX0 ∧ yX0_tryPlan.cls ≠ "java/lang/invoke/MethodHandle" ∧ yX0_tryPlan.cls ≠ "java/lang/invoke/VarHandle" ∧ (parseMethodDescriptor yX0_tryPlan.desc).map (fun d => d.parameters.length) = some 2 := by decide +kernel
theorem go_x_tp6 : GoodIn lw_all (wsV RX0 256 RX0 yX0_tryPlan (ws_ yX0_tryPlan cX0_tryPlan 5 none)) := lw_V q575 q577 qs23 q71 q578
