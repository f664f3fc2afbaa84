set_option maxRecDepth 100000
set_option maxHeartbeats 4000000
theorem xGoes_k {k : Nat} (h : k < 9 ∨ 15 < k) (σ : Sg) (i : Nat) (x : Int32) (T : Nat) : xGoes σ i x T k = σ k := by
  rw [xGoes, up_rk (by omega), up_rk (by omega)]
  exact funext fun b => xclr_k (by omega) σ i T b
/-- the guests who sit in the sun when rain begins, as bits -/
def xUp (σ : Sg) : Nat → Int32
  | 0 => 0
  | t + 1 => xUp σ t ||| (if σ 5 t = 0 ∧ ¬ σ 9 t < 0 then 1 <<< (σ 9 t &&& 31) else 0)
def xRs1 (σ : Sg) (v : Int32) (t : Nat) : Int32 := if σ 9 t < 0 then σ 9 t else if ((v >>> (σ 9 t &&& 31)) &&& 1) = 1 then -9 else σ 9 t
def xRs (σ : Sg) (v : Int32) : Nat → Sg
  | 0 => σ
  | t + 1 => up (xRs σ v t) 9 t (xRs1 (xRs σ v t) v t)
def xMv1 (g : GS) (q T : Nat) (v : Int32) (σ : Sg) (i : Nat) : Sg := if ((v >>> (nI i &&& 31)) &&& 1) = 1 then (if (xAt σ g i T).isSome then xDoes σ g i T else xGoes (xDoes σ g i T) i (nI q) T) else σ
def xMv (g : GS) (q T : Nat) (v : Int32) (σ : Sg) : Nat → Sg
  | 0 => σ
  | i + 1 => xMv1 g q T v (xMv g q T v σ i) i
def xShut (σ : Sg) : Sg := up σ 10 0 (bI true)
def xRain (σ : Sg) (g : GS) (q T : Nat) : Sg := xMv g q T (xUp (xShut σ) T) (xRs (xShut σ) (xUp (xShut σ) T) T) g.1
theorem xRs_k {k : Nat} (h : k ≠ 9) (σ : Sg) (v : Int32) : ∀ t, xRs σ v t k = σ k
  | 0 => rfl
  | t + 1 => by rw [xRs, up_rk h, xRs_k h]
theorem xMv1_k {k : Nat} (h : k < 9 ∨ 15 < k) (g : GS) (q T : Nat) (v : Int32) (σ : Sg) (i : Nat) : xMv1 g q T v σ i k = σ k := by
  have h1 := xDoes_k (k := k) (by omega) (by omega) σ g i T
  unfold xMv1
  split
  · split
    · exact h1
    · rw [xGoes_k h]; exact h1
  · rfl
theorem xMv_k {k : Nat} (h : k < 9 ∨ 15 < k) (g : GS) (q T : Nat) (v : Int32) (σ : Sg) : ∀ i, xMv g q T v σ i k = σ k
  | 0 => rfl
  | i + 1 => by rw [xMv, xMv1_k h, xMv_k h]
theorem xRain_k {k : Nat} (h : k < 9 ∨ 15 < k) (σ : Sg) (g : GS) (q T : Nat) : xRain σ g q T k = σ k := by
  rw [xRain, xMv_k h, xRs_k (by omega), xShut, up_rk (by omega)]
/-- those who come now -/
def xCm1 (g : GS) (q T : Nat) (σ : Sg) (i : Nat) : Sg := if g.2.2.2.2.2 2 i = nI q ∧ σ 11 i = -1 then (if g.2.2.2.2.2 5 i ≤ nI (cnt (xTak σ) T) then (if (xAt σ g i T).isSome then xSit σ g i q T else xOff (xSit σ g i q T) i (if xSit σ g i q T 2 0 ≤ 0 then 1 else 4) (nI q)) else xOff σ i 2 (nI q)) else σ
def xCm (g : GS) (q T : Nat) (σ : Sg) : Nat → Sg
  | 0 => σ
  | i + 1 => xCm1 g q T (xCm g q T σ i) i
theorem xCm1_k {k : Nat} (h : k < 9 ∨ 15 < k) (g : GS) (q T : Nat) (σ : Sg) (i : Nat) : xCm1 g q T σ i k = σ k := by
  have h1 := xSit_k (k := k) (by omega) (by omega) (by omega) (by omega) (by omega) σ g i q T
  unfold xCm1
  split
  · split
    · split
      · exact h1
      · rw [xOff_k (by omega) (by omega)]; exact h1
    · rw [xOff_k (by omega) (by omega)]
  · rfl
theorem xCm_k {k : Nat} (h : k < 9 ∨ 15 < k) (g : GS) (q T : Nat) (σ : Sg) : ∀ i, xCm g q T σ i k = σ k
  | 0 => rfl
  | i + 1 => by rw [xCm, xCm1_k h, xCm_k h]
theorem x_beginRain (l : Launch) (D : va_G) (ty : Nat → ClassId) (o : Nat) (ad : Nat → Nat) (em : Nat) (g : GS) (ex : va_W) (Cy : (Nat → Prop) → State → Prop) (hC : CxOk (CxX em Cy)) (hg : gOk g) (σ : Sg) (q : Nat) (T : Nat) (hT : T ≤ 6) (h0 : σ 0 0 = nI T) : xKv l yX0_beginRain cX0_beginRain 4 7 D ty (CxX em Cy) o ad (gE ty o (ad 8) em g ex) σ [.int (nI q)] (fun τ => τ = xRain σ g q T) := by
  refine Kv.of (by decide) (Nat.le_of_ble_eq_true rfl) ?_
  intro p e s m below meth c A ls args E hK hA hX hlk hr hnm I hl
  have hx := E.1
  have hb := E.2.1
  have hl : lv_has ls 4 [(0, .ref o), (1, .int (nI q))] := hl
  refine nameQ (fun Q hQ => ?_)
  have hg8 := hg.1
  refine lv_aload_n hx hb dX0_beginRain_0 rfl (lv_at hl 0 rfl) ?_
  refine lv_iconst (v := 1) hx hb dX0_beginRain_1 (by decide) ?_
  refine x_put (v := bI true) E hK I 10 rfl rfl q149 rfl (bI_nar _) (bI_fit _) dX0_beginRain_2 (fun H locs I => ?_)
  obtain ⟨s1, hs1⟩ : ∃ z, z = up σ 10 0 (bI true) := ⟨_, rfl⟩
  have I := x_as I hs1.symm
  have h01 : s1 0 0 = nI T := by rw [hs1, up_k (by decide)]; exact h0
  refine lv_iconst (v := 0) hx hb dX0_beginRain_5 (by decide) ?_
  refine lv_istore_n (lv' := [(2, .int 0), (0, .ref o), (1, .int (nI q))]) hx hb dX0_beginRain_6 rfl hl (by decide) rfl (fun ls hl => ?_)
  refine lv_iconst (v := 0) hx hb dX0_beginRain_7 (by decide) ?_
  refine lv_istore_n (lv' := [(3, .int 0), (2, .int 0), (0, .ref o), (1, .int (nI q))]) hx hb dX0_beginRain_8 rfl hl (by decide) rfl (fun ls hl => ?_)
  have L9 : ∀ t, t ≤ T → ∀ (H : Heap) (locs : List Loc) (ls : Array Slot), gI s D A (gW ty o ad em g ex s1) H locs → lv_has ls 4 [(0, .ref o), (1, .int (nI q)), (2, .int (xUp s1 t)), (3, .int (nI t))] → W p l e (rmL 7) s m args below meth c H locs 0 0 Q (F0 m 9 ls []) := by
    refine dn_ind T ?_ ?_
    · intro H locs ls I hl
      refine lv_iload_n hx hb dX0_beginRain_9 rfl (lv_at hl 3 rfl) ?_
      refine lv_aload_n hx hb dX0_beginRain_10 rfl (lv_at hl 0 rfl) ?_
      refine x_get (v := .int (nI T)) E hK I 0 rfl q138 (congrArg Value.int (h01)) dX0_beginRain_11 ?_
      refine lv_icmp_ge (tgt := 56) hx hb dX0_beginRain_14 (by decide) (fun c14 => ?_) (fun c14 => absurd c14 (fun h => h (Int32.le_refl _)))
      refine lv_iconst (v := 0) hx hb dX0_beginRain_56 (by decide) ?_
      refine lv_istore_n (lv' := [(3, .int 0), (0, .ref o), (1, .int (nI q)), (2, .int (xUp s1 T))]) hx hb dX0_beginRain_57 rfl hl (by decide) rfl (fun ls hl => ?_)
      have L58 : ∀ t, t ≤ T → ∀ (H : Heap) (locs : List Loc) (ls : Array Slot), gI s D A (gW ty o ad em g ex (xRs s1 (xUp s1 T) t)) H locs → lv_has ls 4 [(0, .ref o), (1, .int (nI q)), (2, .int (xUp s1 T)), (3, .int (nI t))] → W p l e (rmL 7) s m args below meth c H locs 0 0 Q (F0 m 58 ls []) := by
        refine dn_ind T ?_ ?_
        · intro H locs ls I hl
          refine lv_iload_n hx hb dX0_beginRain_58 rfl (lv_at hl 3 rfl) ?_
          refine lv_aload_n hx hb dX0_beginRain_59 rfl (lv_at hl 0 rfl) ?_
          refine x_get (v := .int (nI T)) E hK I 0 rfl q138 (congrArg Value.int (by rw [xRs_k (by decide)]; exact h01)) dX0_beginRain_60 ?_
          refine lv_icmp_ge (tgt := 112) hx hb dX0_beginRain_63 (by decide) (fun c63 => ?_) (fun c63 => absurd c63 (fun h => h (Int32.le_refl _)))
          refine lv_iconst (v := 0) hx hb dX0_beginRain_112 (by decide) ?_
          refine lv_istore_n (lv' := [(3, .int 0), (0, .ref o), (1, .int (nI q)), (2, .int (xUp s1 T))]) hx hb dX0_beginRain_113 rfl hl (by decide) rfl (fun ls hl => ?_)
          obtain ⟨s2, hs2⟩ : ∃ z, z = xRs s1 (xUp s1 T) T := ⟨_, rfl⟩
          have I := x_as I hs2.symm
          have h02 : s2 0 0 = nI T := by rw [hs2, xRs_k (by decide)]; exact h01
          have L114 : ∀ i, i ≤ g.1 → ∀ (H : Heap) (locs : List Loc) (ls : Array Slot), gI s D A (gW ty o ad em g ex (xMv g q T (xUp s1 T) s2 i)) H locs → lv_has ls 4 [(0, .ref o), (1, .int (nI q)), (2, .int (xUp s1 T)), (3, .int (nI i))] → W p l e (rmL 7) s m args below meth c H locs 0 0 Q (F0 m 114 ls []) := by
            refine dn_ind g.1 ?_ ?_
            · intro H locs ls I hl
              refine lv_iload_n hx hb dX0_beginRain_114 rfl (lv_at hl 3 rfl) ?_
              refine lv_aload_n hx hb dX0_beginRain_115 rfl (lv_at hl 0 rfl) ?_
              refine x_get E hK I 8 rfl q147 rfl dX0_beginRain_116 ?_
              refine g_size hC E hK hA hX I ⟨Nat.le_of_ble_eq_true rfl, Nat.le_of_ble_eq_true rfl⟩ ⟨Nat.le_refl 0, Nat.le_refl 0⟩ hl.1 (Nat.le_of_ble_eq_true rfl) dX0_beginRain_119 (fun H locs I => ?_)
              refine lv_icmp_ge (tgt := 168) hx hb dX0_beginRain_124 (by decide) (fun c124 => ?_) (fun c124 => absurd c124 (fun h => h (Int32.le_refl _)))
              subst hQ
              exact r_v E hlk hr I (Nat.le_refl 0) (Nat.le_refl 0) dX0_beginRain_168 (by rw [hs2, hs1]; rfl)
            · intro i hi ih114 H locs ls I hl
              refine lv_iload_n hx hb dX0_beginRain_114 rfl (lv_at hl 3 rfl) ?_
              refine lv_aload_n hx hb dX0_beginRain_115 rfl (lv_at hl 0 rfl) ?_
              refine x_get E hK I 8 rfl q147 rfl dX0_beginRain_116 ?_
              refine g_size hC E hK hA hX I ⟨Nat.le_of_ble_eq_true rfl, Nat.le_of_ble_eq_true rfl⟩ ⟨Nat.le_refl 0, Nat.le_refl 0⟩ hl.1 (Nat.le_of_ble_eq_true rfl) dX0_beginRain_119 (fun H locs I => ?_)
              refine lv_icmp_ge (tgt := 168) hx hb dX0_beginRain_124 (by decide) (fun c124 => absurd c124 (nI_ge hi (by omega))) (fun c124 => ?_)
              refine lv_iload_n hx hb dX0_beginRain_127 rfl (lv_at hl 2 rfl) ?_
              refine lv_iload_n hx hb dX0_beginRain_128 rfl (lv_at hl 3 rfl) ?_
              refine lv_ishr hx hb dX0_beginRain_129 ?_
              refine lv_iconst (v := 1) hx hb dX0_beginRain_130 (by decide) ?_
              refine lv_iand hx hb dX0_beginRain_131 ?_
              refine lv_iconst (v := 1) hx hb dX0_beginRain_132 (by decide) ?_
              refine lv_icmp_ne (tgt := 162) hx hb dX0_beginRain_133 (by decide) (fun c133 => ?_) (fun c133 => ?_)
              · refine lv_iinc (v := nI (i + 1)) (lv' := [(3, .int (nI (i + 1))), (0, .ref o), (1, .int (nI q)), (2, .int (xUp s1 T))]) hx hb dX0_beginRain_162 hl (k := 3) rfl (nI_1 _) (by decide) rfl (fun ls hl => ?_)
                refine lv_goto (tgt := 114) hx hb dX0_beginRain_165 (by decide) ?_
                exact ih114 _ _ ls (x_as I (by simp [xMv, xMv1, c133])) (lv_as (lv_sub (l' := [(0, .ref o), (1, .int (nI q)), (2, .int (xUp s1 T)), (3, .int (nI (i + 1)))]) hl [1, 2, 3, 0] rfl) (rfl))
              · refine lv_aload_n hx hb dX0_beginRain_136 rfl (lv_at hl 0 rfl) ?_
                refine lv_aload_n hx hb dX0_beginRain_137 rfl (lv_at hl 0 rfl) ?_
                refine x_get E hK I 8 rfl q147 rfl dX0_beginRain_138 ?_
                refine lv_iload_n hx hb dX0_beginRain_141 rfl (lv_at hl 3 rfl) ?_
                refine g_lget (i := i) hC hg E hK hA hX I hi ⟨Nat.le_of_ble_eq_true rfl, Nat.le_of_ble_eq_true rfl⟩ ⟨Nat.le_refl 0, Nat.le_refl 0⟩ hl.1 (Nat.le_of_ble_eq_true rfl) dX0_beginRain_142 (fun H locs I => ?_)
                refine g_cast (i := i) E hK hX I hg hi q260 dX0_beginRain_147 ?_
                refine x_ci hC E hK hA hX I (x_doesSit l D ty o ad em g ex Cy hC hg (xMv g q T (xUp s1 T) s2 i) i hi T hT (by rw [xMv_k (by decide)]; exact h02)) go_x_doesSit dc_x_doesSit ⟨Nat.le_of_ble_eq_true rfl, Nat.le_of_ble_eq_true rfl⟩ ⟨Nat.le_refl 0, Nat.le_refl 0⟩ hl.1 (Nat.le_of_ble_eq_true rfl) rfl dX0_beginRain_150 (fun r150 σ150 H locs hp I => ?_)
                refine top_i (y := bI (xAt (xMv g q T (xUp s1 T) s2 i) g i T).isSome) hp.1 ?_
                have I := x_as I hp.2
                refine b_ne (tgt := 162) hx hb dX0_beginRain_153 (by decide) (fun c153 => ?_) (fun c153 => ?_)
                · refine lv_iinc (v := nI (i + 1)) (lv' := [(3, .int (nI (i + 1))), (0, .ref o), (1, .int (nI q)), (2, .int (xUp s1 T))]) hx hb dX0_beginRain_162 hl (k := 3) rfl (nI_1 _) (by decide) rfl (fun ls hl => ?_)
                  refine lv_goto (tgt := 114) hx hb dX0_beginRain_165 (by decide) ?_
                  exact ih114 _ _ ls (x_as I (by simp [xMv, xMv1, c133, c153])) (lv_as (lv_sub (l' := [(0, .ref o), (1, .int (nI q)), (2, .int (xUp s1 T)), (3, .int (nI (i + 1)))]) hl [1, 2, 3, 0] rfl) (rfl))
                · refine lv_aload_n hx hb dX0_beginRain_156 rfl (lv_at hl 0 rfl) ?_
                  refine lv_iload_n hx hb dX0_beginRain_157 rfl (lv_at hl 3 rfl) ?_
                  refine lv_iload_n hx hb dX0_beginRain_158 rfl (lv_at hl 1 rfl) ?_
                  refine x_cv hC E hK hA hX I (x_goes l D ty o ad (gE ty o (ad 8) em g ex) (CxX em Cy) hC (xDoes (xMv g q T (xUp s1 T) s2 i) g i T) i (nI q) (by omega) T hT (by rw [xDoes_k (by decide) (by decide), xMv_k (by decide)]; exact h02)) go_x_goes dc_x_goes ⟨Nat.le_of_ble_eq_true rfl, Nat.le_of_ble_eq_true rfl⟩ ⟨Nat.le_refl 0, Nat.le_refl 0⟩ hl.1 (Nat.le_of_ble_eq_true rfl) rfl dX0_beginRain_159 (fun σ159 H locs hp I => ?_)
                  have I := x_as I hp
                  refine lv_iinc (v := nI (i + 1)) (lv' := [(3, .int (nI (i + 1))), (0, .ref o), (1, .int (nI q)), (2, .int (xUp s1 T))]) hx hb dX0_beginRain_162 hl (k := 3) rfl (nI_1 _) (by decide) rfl (fun ls hl => ?_)
                  refine lv_goto (tgt := 114) hx hb dX0_beginRain_165 (by decide) ?_
                  exact ih114 _ _ ls (x_as I (by simp [xMv, xMv1, c133, c153])) (lv_as (lv_sub (l' := [(0, .ref o), (1, .int (nI q)), (2, .int (xUp s1 T)), (3, .int (nI (i + 1)))]) hl [1, 2, 3, 0] rfl) (rfl))
          exact L114 0 (Nat.zero_le _) _ _ ls (x_as I (rfl)) (lv_as (lv_sub (l' := [(0, .ref o), (1, .int (nI q)), (2, .int (xUp s1 T)), (3, .int 0)]) hl [1, 2, 3, 0] rfl) (rfl))
        · intro t ht ih58 H locs ls I hl
          refine lv_iload_n hx hb dX0_beginRain_58 rfl (lv_at hl 3 rfl) ?_
          refine lv_aload_n hx hb dX0_beginRain_59 rfl (lv_at hl 0 rfl) ?_
          refine x_get (v := .int (nI T)) E hK I 0 rfl q138 (congrArg Value.int (by rw [xRs_k (by decide)]; exact h01)) dX0_beginRain_60 ?_
          refine lv_icmp_ge (tgt := 112) hx hb dX0_beginRain_63 (by decide) (fun c63 => absurd c63 (nI_ge ht (by omega))) (fun c63 => ?_)
          refine lv_aload_n hx hb dX0_beginRain_66 rfl (lv_at hl 0 rfl) ?_
          refine x_get E hK I 9 rfl q148 rfl dX0_beginRain_67 ?_
          refine lv_iload_n hx hb dX0_beginRain_70 rfl (lv_at hl 3 rfl) ?_
          refine lv_aload_n hx hb dX0_beginRain_71 rfl (lv_at hl 0 rfl) ?_
          refine x_get E hK I 9 rfl q148 rfl dX0_beginRain_72 ?_
          refine lv_iload_n hx hb dX0_beginRain_75 rfl (lv_at hl 3 rfl) ?_
          refine x_ald (i := t) E hK I 2 rfl rfl rfl dX0_beginRain_76 (by simp only [xLn]; omega) ?_
          refine lv_if_lt (tgt := 99) hx hb dX0_beginRain_77 (by decide) (fun c77 => ?_) (fun c77 => ?_)
          · refine lv_aload_n hx hb dX0_beginRain_99 rfl (lv_at hl 0 rfl) ?_
            refine x_get E hK I 9 rfl q148 rfl dX0_beginRain_100 ?_
            refine lv_iload_n hx hb dX0_beginRain_103 rfl (lv_at hl 3 rfl) ?_
            refine x_ald (i := t) E hK I 2 rfl rfl rfl dX0_beginRain_104 (by simp only [xLn]; omega) ?_
            refine x_ast (i := t) E hK I 2 rfl rfl rfl dX0_beginRain_105 (by simp only [xLn]; omega) (fun H locs I => ?_)
            refine lv_iinc (v := nI (t + 1)) (lv' := [(3, .int (nI (t + 1))), (0, .ref o), (1, .int (nI q)), (2, .int (xUp s1 T))]) hx hb dX0_beginRain_106 hl (k := 3) rfl (nI_1 _) (by decide) rfl (fun ls hl => ?_)
            refine lv_goto (tgt := 58) hx hb dX0_beginRain_109 (by decide) ?_
            exact ih58 _ _ ls (x_as I (by simp [xRs, xRs1, c77])) (lv_as (lv_sub (l' := [(0, .ref o), (1, .int (nI q)), (2, .int (xUp s1 T)), (3, .int (nI (t + 1)))]) hl [1, 2, 3, 0] rfl) (rfl))
          · refine lv_iload_n hx hb dX0_beginRain_80 rfl (lv_at hl 2 rfl) ?_
            refine lv_aload_n hx hb dX0_beginRain_81 rfl (lv_at hl 0 rfl) ?_
            refine x_get E hK I 9 rfl q148 rfl dX0_beginRain_82 ?_
            refine lv_iload_n hx hb dX0_beginRain_85 rfl (lv_at hl 3 rfl) ?_
            refine x_ald (i := t) E hK I 2 rfl rfl rfl dX0_beginRain_86 (by simp only [xLn]; omega) ?_
            refine lv_ishr hx hb dX0_beginRain_87 ?_
            refine lv_iconst (v := 1) hx hb dX0_beginRain_88 (by decide) ?_
            refine lv_iand hx hb dX0_beginRain_89 ?_
            refine lv_iconst (v := 1) hx hb dX0_beginRain_90 (by decide) ?_
            refine lv_icmp_ne (tgt := 99) hx hb dX0_beginRain_91 (by decide) (fun c91 => ?_) (fun c91 => ?_)
            · refine lv_aload_n hx hb dX0_beginRain_99 rfl (lv_at hl 0 rfl) ?_
              refine x_get E hK I 9 rfl q148 rfl dX0_beginRain_100 ?_
              refine lv_iload_n hx hb dX0_beginRain_103 rfl (lv_at hl 3 rfl) ?_
              refine x_ald (i := t) E hK I 2 rfl rfl rfl dX0_beginRain_104 (by simp only [xLn]; omega) ?_
              refine x_ast (i := t) E hK I 2 rfl rfl rfl dX0_beginRain_105 (by simp only [xLn]; omega) (fun H locs I => ?_)
              refine lv_iinc (v := nI (t + 1)) (lv' := [(3, .int (nI (t + 1))), (0, .ref o), (1, .int (nI q)), (2, .int (xUp s1 T))]) hx hb dX0_beginRain_106 hl (k := 3) rfl (nI_1 _) (by decide) rfl (fun ls hl => ?_)
              refine lv_goto (tgt := 58) hx hb dX0_beginRain_109 (by decide) ?_
              exact ih58 _ _ ls (x_as I (by simp [xRs, xRs1, c77, c91])) (lv_as (lv_sub (l' := [(0, .ref o), (1, .int (nI q)), (2, .int (xUp s1 T)), (3, .int (nI (t + 1)))]) hl [1, 2, 3, 0] rfl) (rfl))
            · refine lv_bipush (v := (-9)) hx hb dX0_beginRain_94 (by decide) ?_
              refine lv_goto (tgt := 105) hx hb dX0_beginRain_96 (by decide) ?_
              refine x_ast (i := t) E hK I 2 rfl rfl rfl dX0_beginRain_105 (by simp only [xLn]; omega) (fun H locs I => ?_)
              refine lv_iinc (v := nI (t + 1)) (lv' := [(3, .int (nI (t + 1))), (0, .ref o), (1, .int (nI q)), (2, .int (xUp s1 T))]) hx hb dX0_beginRain_106 hl (k := 3) rfl (nI_1 _) (by decide) rfl (fun ls hl => ?_)
              refine lv_goto (tgt := 58) hx hb dX0_beginRain_109 (by decide) ?_
              exact ih58 _ _ ls (x_as I (by simp [xRs, xRs1, c77, c91])) (lv_as (lv_sub (l' := [(0, .ref o), (1, .int (nI q)), (2, .int (xUp s1 T)), (3, .int (nI (t + 1)))]) hl [1, 2, 3, 0] rfl) (rfl))
      exact L58 0 (Nat.zero_le _) _ _ ls (x_as I (rfl)) (lv_as (lv_sub (l' := [(0, .ref o), (1, .int (nI q)), (2, .int (xUp s1 T)), (3, .int 0)]) hl [1, 2, 3, 0] rfl) (rfl))
    · intro t ht ih9 H locs ls I hl
      refine lv_iload_n hx hb dX0_beginRain_9 rfl (lv_at hl 3 rfl) ?_
      refine lv_aload_n hx hb dX0_beginRain_10 rfl (lv_at hl 0 rfl) ?_
      refine x_get (v := .int (nI T)) E hK I 0 rfl q138 (congrArg Value.int (h01)) dX0_beginRain_11 ?_
      refine lv_icmp_ge (tgt := 56) hx hb dX0_beginRain_14 (by decide) (fun c14 => absurd c14 (nI_ge ht (by omega))) (fun c14 => ?_)
      refine lv_iload_n hx hb dX0_beginRain_17 rfl (lv_at hl 2 rfl) ?_
      refine lv_aload_n hx hb dX0_beginRain_18 rfl (lv_at hl 0 rfl) ?_
      refine x_get E hK I 5 rfl q143 rfl dX0_beginRain_19 ?_
      refine lv_iload_n hx hb dX0_beginRain_22 rfl (lv_at hl 3 rfl) ?_
      refine x_ald (i := t) E hK I 0 rfl rfl rfl dX0_beginRain_23 (by simp only [xLn]; omega) ?_
      refine lv_if_ne (tgt := 47) hx hb dX0_beginRain_24 (by decide) (fun c24 => ?_) (fun c24 => ?_)
      · refine lv_iconst (v := 0) hx hb dX0_beginRain_47 (by decide) ?_
        refine lv_ior hx hb dX0_beginRain_48 ?_
        refine lv_istore_n (lv' := [(2, .int ((xUp s1 t) ||| 0)), (0, .ref o), (1, .int (nI q)), (3, .int (nI t))]) hx hb dX0_beginRain_49 rfl hl (by decide) rfl (fun ls hl => ?_)
        refine lv_iinc (v := nI (t + 1)) (lv' := [(3, .int (nI (t + 1))), (2, .int ((xUp s1 t) ||| 0)), (0, .ref o), (1, .int (nI q))]) hx hb dX0_beginRain_50 hl (k := 3) rfl (nI_1 _) (by decide) rfl (fun ls hl => ?_)
        refine lv_goto (tgt := 9) hx hb dX0_beginRain_53 (by decide) ?_
        exact ih9 _ _ ls (x_as I (rfl)) (lv_as (lv_sub (l' := [(0, .ref o), (1, .int (nI q)), (2, .int ((xUp s1 t) ||| 0)), (3, .int (nI (t + 1)))]) hl [2, 3, 1, 0] rfl) (by simp [xUp, c24]))
      · refine lv_aload_n hx hb dX0_beginRain_27 rfl (lv_at hl 0 rfl) ?_
        refine x_get E hK I 9 rfl q148 rfl dX0_beginRain_28 ?_
        refine lv_iload_n hx hb dX0_beginRain_31 rfl (lv_at hl 3 rfl) ?_
        refine x_ald (i := t) E hK I 2 rfl rfl rfl dX0_beginRain_32 (by simp only [xLn]; omega) ?_
        refine lv_if_lt (tgt := 47) hx hb dX0_beginRain_33 (by decide) (fun c33 => ?_) (fun c33 => ?_)
        · refine lv_iconst (v := 0) hx hb dX0_beginRain_47 (by decide) ?_
          refine lv_ior hx hb dX0_beginRain_48 ?_
          refine lv_istore_n (lv' := [(2, .int ((xUp s1 t) ||| 0)), (0, .ref o), (1, .int (nI q)), (3, .int (nI t))]) hx hb dX0_beginRain_49 rfl hl (by decide) rfl (fun ls hl => ?_)
          refine lv_iinc (v := nI (t + 1)) (lv' := [(3, .int (nI (t + 1))), (2, .int ((xUp s1 t) ||| 0)), (0, .ref o), (1, .int (nI q))]) hx hb dX0_beginRain_50 hl (k := 3) rfl (nI_1 _) (by decide) rfl (fun ls hl => ?_)
          refine lv_goto (tgt := 9) hx hb dX0_beginRain_53 (by decide) ?_
          exact ih9 _ _ ls (x_as I (rfl)) (lv_as (lv_sub (l' := [(0, .ref o), (1, .int (nI q)), (2, .int ((xUp s1 t) ||| 0)), (3, .int (nI (t + 1)))]) hl [2, 3, 1, 0] rfl) (by simp [xUp, c24, c33]))
        · refine lv_iconst (v := 1) hx hb dX0_beginRain_36 (by decide) ?_
          refine lv_aload_n hx hb dX0_beginRain_37 rfl (lv_at hl 0 rfl) ?_
          refine x_get E hK I 9 rfl q148 rfl dX0_beginRain_38 ?_
          refine lv_iload_n hx hb dX0_beginRain_41 rfl (lv_at hl 3 rfl) ?_
          refine x_ald (i := t) E hK I 2 rfl rfl rfl dX0_beginRain_42 (by simp only [xLn]; omega) ?_
          refine lv_ishl hx hb dX0_beginRain_43 ?_
          refine lv_goto (tgt := 48) hx hb dX0_beginRain_44 (by decide) ?_
          refine lv_ior hx hb dX0_beginRain_48 ?_
          refine lv_istore_n (lv' := [(2, .int ((xUp s1 t) ||| (1 <<< ((s1 9 t) &&& 31)))), (0, .ref o), (1, .int (nI q)), (3, .int (nI t))]) hx hb dX0_beginRain_49 rfl hl (by decide) rfl (fun ls hl => ?_)
          refine lv_iinc (v := nI (t + 1)) (lv' := [(3, .int (nI (t + 1))), (2, .int ((xUp s1 t) ||| (1 <<< ((s1 9 t) &&& 31)))), (0, .ref o), (1, .int (nI q))]) hx hb dX0_beginRain_50 hl (k := 3) rfl (nI_1 _) (by decide) rfl (fun ls hl => ?_)
          refine lv_goto (tgt := 9) hx hb dX0_beginRain_53 (by decide) ?_
          exact ih9 _ _ ls (x_as I (rfl)) (lv_as (lv_sub (l' := [(0, .ref o), (1, .int (nI q)), (2, .int ((xUp s1 t) ||| (1 <<< ((s1 9 t) &&& 31)))), (3, .int (nI (t + 1)))]) hl [2, 3, 1, 0] rfl) (by simp [xUp, c24, c33]))
  exact L9 0 (Nat.zero_le _) _ _ ls (x_as I (rfl)) (lv_as (lv_sub (l' := [(0, .ref o), (1, .int (nI q)), (2, .int 0), (3, .int 0)]) hl [2, 3, 1, 0] rfl) (rfl))
theorem dc_x_beginRain : yX0_beginRain.cls = RX0 ∧ yX0_beginRain.cls ≠ "java/lang/invoke/MethodHandle" ∧ yX0_beginRain.cls ≠ "java/lang/invoke/VarHandle" ∧ (parseMethodDescriptor yX0_beginRain.desc).map (fun d => d.parameters.length) = some 1 := by decide +kernel
theorem go_x_beginRain : GoodIn lw_all (wsV RX0 215 RX0 yX0_beginRain (ws_ yX0_beginRain cX0_beginRain 4 none)) := lw_V q482 q484 qs9 q71 q485
theorem x_letCome (l : Launch) (D : va_G) (ty : Nat → ClassId) (o : Nat) (ad : Nat → Nat) (em : Nat) (g : GS) (ex : va_W) (Cy : (Nat → Prop) → State → Prop) (hC : CxOk (CxX em Cy)) (hg : gOk g) (σ : Sg) (q : Nat) (T : Nat) (hT : T ≤ 6) (h0 : σ 0 0 = nI T) : xKv l yX0_letCome cX0_letCome 4 8 D ty (CxX em Cy) o ad (gE ty o (ad 8) em g ex) σ [.int (nI q)] (fun τ => τ = xCm g q T σ g.1) := by
  refine Kv.of (by decide) (Nat.le_of_ble_eq_true rfl) ?_
  intro p e s m below meth c A ls args E hK hA hX hlk hr hnm I hl
  have hx := E.1
  have hb := E.2.1
  have hl : lv_has ls 4 [(0, .ref o), (1, .int (nI q))] := hl
  refine nameQ (fun Q hQ => ?_)
  have hg8 := hg.1
  refine lv_iconst (v := 0) hx hb dX0_letCome_0 (by decide) ?_
  refine lv_istore_n (lv' := [(2, .int 0), (0, .ref o), (1, .int (nI q))]) hx hb dX0_letCome_1 rfl hl (by decide) rfl (fun ls hl => ?_)
  have L2 : ∀ i, i ≤ g.1 → ∀ (H : Heap) (locs : List Loc) (ls : Array Slot), gI s D A (gW ty o ad em g ex (xCm g q T σ i)) H locs → lv_has ls 4 [(0, .ref o), (1, .int (nI q)), (2, .int (nI i))] → W p l e (rmL 8) s m args below meth c H locs 0 0 Q (F0 m 2 ls []) := by
    refine dn_ind g.1 ?_ ?_
    · intro H locs ls I hl
      refine lv_iload_n hx hb dX0_letCome_2 rfl (lv_at hl 2 rfl) ?_
      refine lv_aload_n hx hb dX0_letCome_3 rfl (lv_at hl 0 rfl) ?_
      refine x_get E hK I 8 rfl q147 rfl dX0_letCome_4 ?_
      refine g_size hC E hK hA hX I ⟨Nat.le_of_ble_eq_true rfl, Nat.le_of_ble_eq_true rfl⟩ ⟨Nat.le_refl 0, Nat.le_refl 0⟩ hl.1 (Nat.le_of_ble_eq_true rfl) dX0_letCome_7 (fun H locs I => ?_)
      refine lv_icmp_ge (tgt := 101) hx hb dX0_letCome_12 (by decide) (fun c12 => ?_) (fun c12 => absurd c12 (fun h => h (Int32.le_refl _)))
      subst hQ
      exact r_v E hlk hr I (Nat.le_refl 0) (Nat.le_refl 0) dX0_letCome_101 (rfl)
    · intro i hi ih2 H locs ls I hl
      refine lv_iload_n hx hb dX0_letCome_2 rfl (lv_at hl 2 rfl) ?_
      refine lv_aload_n hx hb dX0_letCome_3 rfl (lv_at hl 0 rfl) ?_
      refine x_get E hK I 8 rfl q147 rfl dX0_letCome_4 ?_
      refine g_size hC E hK hA hX I ⟨Nat.le_of_ble_eq_true rfl, Nat.le_of_ble_eq_true rfl⟩ ⟨Nat.le_refl 0, Nat.le_refl 0⟩ hl.1 (Nat.le_of_ble_eq_true rfl) dX0_letCome_7 (fun H locs I => ?_)
      refine lv_icmp_ge (tgt := 101) hx hb dX0_letCome_12 (by decide) (fun c12 => absurd c12 (nI_ge hi (by omega))) (fun c12 => ?_)
      refine lv_aload_n hx hb dX0_letCome_15 rfl (lv_at hl 0 rfl) ?_
      refine x_get E hK I 8 rfl q147 rfl dX0_letCome_16 ?_
      refine lv_iload_n hx hb dX0_letCome_19 rfl (lv_at hl 2 rfl) ?_
      refine g_lget (i := i) hC hg E hK hA hX I hi ⟨Nat.le_of_ble_eq_true rfl, Nat.le_of_ble_eq_true rfl⟩ ⟨Nat.le_refl 0, Nat.le_refl 0⟩ hl.1 (Nat.le_of_ble_eq_true rfl) dX0_letCome_20 (fun H locs I => ?_)
      refine g_cast (i := i) E hK hX I hg hi q260 dX0_letCome_25 ?_
      refine lv_astore_n (lv' := [(3, .ref (g.2.2.2.1 i)), (0, .ref o), (1, .int (nI q)), (2, .int (nI i))]) hx hb dX0_letCome_28 rfl hl (by decide) rfl (fun ls hl => ?_)
      refine lv_aload_n hx hb dX0_letCome_29 rfl (lv_at hl 0 rfl) ?_
      refine gf_get (i := i) E hK I hg hi 2 (by decide) q276 rfl dX0_letCome_30 ?_
      refine lv_iload_n hx hb dX0_letCome_33 rfl (lv_at hl 2 rfl) ?_
      refine lv_icmp_ne (tgt := 95) hx hb dX0_letCome_34 (by decide) (fun c34 => ?_) (fun c34 => ?_)
      · refine lv_iinc (v := nI (i + 1)) (lv' := [(2, .int (nI (i + 1))), (3, .ref (g.2.2.2.1 i)), (0, .ref o), (1, .int (nI q))]) hx hb dX0_letCome_95 hl (k := 3) rfl (nI_1 _) (by decide) rfl (fun ls hl => ?_)
        refine lv_goto (tgt := 2) hx hb dX0_letCome_98 (by decide) ?_
        exact ih2 _ _ ls (x_as I (by simp [xCm, xCm1, c34])) (lv_as (lv_sub (l' := [(0, .ref o), (1, .int (nI q)), (2, .int (nI (i + 1)))]) hl [2, 3, 0] rfl) (rfl))
      · refine lv_aload_n hx hb dX0_letCome_37 rfl (lv_at hl 1 rfl) ?_
        refine x_get E hK I 11 rfl q150 rfl dX0_letCome_38 ?_
        refine lv_iload_n hx hb dX0_letCome_41 rfl (lv_at hl 3 rfl) ?_
        refine x_ald (i := i) E hK I 3 rfl rfl rfl dX0_letCome_42 (by simp only [xLn]; omega) ?_
        refine lv_iconst (v := (-1)) hx hb dX0_letCome_43 (by decide) ?_
        refine lv_icmp_ne (tgt := 95) hx hb dX0_letCome_44 (by decide) (fun c44 => ?_) (fun c44 => ?_)
        · refine lv_iinc (v := nI (i + 1)) (lv' := [(2, .int (nI (i + 1))), (3, .ref (g.2.2.2.1 i)), (0, .ref o), (1, .int (nI q))]) hx hb dX0_letCome_95 hl (k := 3) rfl (nI_1 _) (by decide) rfl (fun ls hl => ?_)
          refine lv_goto (tgt := 2) hx hb dX0_letCome_98 (by decide) ?_
          exact ih2 _ _ ls (x_as I (by simp [xCm, xCm1, c34, c44])) (lv_as (lv_sub (l' := [(0, .ref o), (1, .int (nI q)), (2, .int (nI (i + 1)))]) hl [2, 3, 0] rfl) (rfl))
        · refine lv_aload_n hx hb dX0_letCome_47 rfl (lv_at hl 1 rfl) ?_
          refine x_ci hC E hK hA hX I (x_takenNow l D ty o ad (gE ty o (ad 8) em g ex) (CxX em Cy) hC (xCm g q T σ i) T hT (by rw [xCm_k (by decide)]; exact h0)) go_x_takenNow dc_x_takenNow ⟨Nat.le_of_ble_eq_true rfl, Nat.le_of_ble_eq_true rfl⟩ ⟨Nat.le_refl 0, Nat.le_refl 0⟩ hl.1 (Nat.le_of_ble_eq_true rfl) rfl dX0_letCome_48 (fun r48 σ48 H locs hp I => ?_)
          refine top_i (y := nI (cnt (xTak (xCm g q T σ i)) T)) hp.1 ?_
          have I := x_as I hp.2
          refine lv_aload_n hx hb dX0_letCome_51 rfl (lv_at hl 0 rfl) ?_
          refine gf_get (i := i) E hK I hg hi 5 (by decide) q281 rfl dX0_letCome_52 ?_
          refine lv_icmp_ge (tgt := 68) hx hb dX0_letCome_55 (by decide) (fun c55 => ?_) (fun c55 => ?_)
          · refine lv_aload_n hx hb dX0_letCome_68 rfl (lv_at hl 1 rfl) ?_
            refine lv_aload_n hx hb dX0_letCome_69 rfl (lv_at hl 0 rfl) ?_
            refine lv_iload_n hx hb dX0_letCome_70 rfl (lv_at hl 2 rfl) ?_
            refine x_ci hC E hK hA hX I (x_sitsDown l D ty o ad em g ex Cy hC hg (xCm g q T σ i) i q hi T hT (by rw [xCm_k (by decide)]; exact h0)) go_x_sitsDown dc_x_sitsDown ⟨Nat.le_of_ble_eq_true rfl, Nat.le_of_ble_eq_true rfl⟩ ⟨Nat.le_refl 0, Nat.le_refl 0⟩ hl.1 (Nat.le_of_ble_eq_true rfl) rfl dX0_letCome_71 (fun r71 σ71 H locs hp I => ?_)
            refine top_i (y := bI (xAt (xCm g q T σ i) g i T).isSome) hp.1 ?_
            have I := x_as I hp.2
            refine b_ne (tgt := 95) hx hb dX0_letCome_74 (by decide) (fun c74 => ?_) (fun c74 => ?_)
            · refine lv_iinc (v := nI (i + 1)) (lv' := [(2, .int (nI (i + 1))), (3, .ref (g.2.2.2.1 i)), (0, .ref o), (1, .int (nI q))]) hx hb dX0_letCome_95 hl (k := 3) rfl (nI_1 _) (by decide) rfl (fun ls hl => ?_)
              refine lv_goto (tgt := 2) hx hb dX0_letCome_98 (by decide) ?_
              exact ih2 _ _ ls (x_as I (by simp [xCm, xCm1, c34, c44, c55, c74])) (lv_as (lv_sub (l' := [(0, .ref o), (1, .int (nI q)), (2, .int (nI (i + 1)))]) hl [2, 3, 0] rfl) (rfl))
            · refine lv_aload_n hx hb dX0_letCome_77 rfl (lv_at hl 1 rfl) ?_
              refine lv_iload_n hx hb dX0_letCome_78 rfl (lv_at hl 3 rfl) ?_
              refine lv_aload_n hx hb dX0_letCome_79 rfl (lv_at hl 1 rfl) ?_
              refine x_get E hK I 2 rfl q140 rfl dX0_letCome_80 ?_
              refine lv_if_le (tgt := 90) hx hb dX0_letCome_83 (by decide) (fun c83 => ?_) (fun c83 => ?_)
              · refine lv_iconst (v := 1) hx hb dX0_letCome_90 (by decide) ?_
                refine lv_iload_n hx hb dX0_letCome_91 rfl (lv_at hl 2 rfl) ?_
                refine x_cv hC E hK hA hX I (x_goesOff l D ty o ad (gE ty o (ad 8) em g ex) (CxX em Cy) hC (xSit (xCm g q T σ i) g i q T) i 1 (nI q) (by omega)) go_x_goesOff dc_x_goesOff ⟨Nat.le_of_ble_eq_true rfl, Nat.le_of_ble_eq_true rfl⟩ ⟨Nat.le_refl 0, Nat.le_refl 0⟩ hl.1 (Nat.le_of_ble_eq_true rfl) rfl dX0_letCome_92 (fun σ92 H locs hp I => ?_)
                have I := x_as I hp
                refine lv_iinc (v := nI (i + 1)) (lv' := [(2, .int (nI (i + 1))), (3, .ref (g.2.2.2.1 i)), (0, .ref o), (1, .int (nI q))]) hx hb dX0_letCome_95 hl (k := 3) rfl (nI_1 _) (by decide) rfl (fun ls hl => ?_)
                refine lv_goto (tgt := 2) hx hb dX0_letCome_98 (by decide) ?_
                exact ih2 _ _ ls (x_as I (by simp [xCm, xCm1, c34, c44, c55, c74, c83])) (lv_as (lv_sub (l' := [(0, .ref o), (1, .int (nI q)), (2, .int (nI (i + 1)))]) hl [2, 3, 0] rfl) (rfl))
              · refine lv_iconst (v := 4) hx hb dX0_letCome_86 (by decide) ?_
                refine lv_goto (tgt := 91) hx hb dX0_letCome_87 (by decide) ?_
                refine lv_iload_n hx hb dX0_letCome_91 rfl (lv_at hl 2 rfl) ?_
                refine x_cv hC E hK hA hX I (x_goesOff l D ty o ad (gE ty o (ad 8) em g ex) (CxX em Cy) hC (xSit (xCm g q T σ i) g i q T) i 4 (nI q) (by omega)) go_x_goesOff dc_x_goesOff ⟨Nat.le_of_ble_eq_true rfl, Nat.le_of_ble_eq_true rfl⟩ ⟨Nat.le_refl 0, Nat.le_refl 0⟩ hl.1 (Nat.le_of_ble_eq_true rfl) rfl dX0_letCome_92 (fun σ92 H locs hp I => ?_)
                have I := x_as I hp
                refine lv_iinc (v := nI (i + 1)) (lv' := [(2, .int (nI (i + 1))), (3, .ref (g.2.2.2.1 i)), (0, .ref o), (1, .int (nI q))]) hx hb dX0_letCome_95 hl (k := 3) rfl (nI_1 _) (by decide) rfl (fun ls hl => ?_)
                refine lv_goto (tgt := 2) hx hb dX0_letCome_98 (by decide) ?_
                exact ih2 _ _ ls (x_as I (by simp [xCm, xCm1, c34, c44, c55, c74, c83])) (lv_as (lv_sub (l' := [(0, .ref o), (1, .int (nI q)), (2, .int (nI (i + 1)))]) hl [2, 3, 0] rfl) (rfl))
          · refine lv_aload_n hx hb dX0_letCome_58 rfl (lv_at hl 1 rfl) ?_
            refine lv_iload_n hx hb dX0_letCome_59 rfl (lv_at hl 3 rfl) ?_
            refine lv_iconst (v := 2) hx hb dX0_letCome_60 (by decide) ?_
            refine lv_iload_n hx hb dX0_letCome_61 rfl (lv_at hl 2 rfl) ?_
            refine x_cv hC E hK hA hX I (x_goesOff l D ty o ad (gE ty o (ad 8) em g ex) (CxX em Cy) hC (xCm g q T σ i) i 2 (nI q) (by omega)) go_x_goesOff dc_x_goesOff ⟨Nat.le_of_ble_eq_true rfl, Nat.le_of_ble_eq_true rfl⟩ ⟨Nat.le_refl 0, Nat.le_refl 0⟩ hl.1 (Nat.le_of_ble_eq_true rfl) rfl dX0_letCome_62 (fun σ62 H locs hp I => ?_)
            have I := x_as I hp
            refine lv_goto (tgt := 95) hx hb dX0_letCome_65 (by decide) ?_
            refine lv_iinc (v := nI (i + 1)) (lv' := [(2, .int (nI (i + 1))), (3, .ref (g.2.2.2.1 i)), (0, .ref o), (1, .int (nI q))]) hx hb dX0_letCome_95 hl (k := 3) rfl (nI_1 _) (by decide) rfl (fun ls hl => ?_)
            refine lv_goto (tgt := 2) hx hb dX0_letCome_98 (by decide) ?_
            exact ih2 _ _ ls (x_as I (by simp [xCm, xCm1, c34, c44, c55])) (lv_as (lv_sub (l' := [(0, .ref o), (1, .int (nI q)), (2, .int (nI (i + 1)))]) hl [2, 3, 0] rfl) (rfl))
  exact L2 0 (Nat.zero_le _) _ _ ls (x_as I (rfl)) (lv_as (lv_sub (l' := [(0, .ref o), (1, .int (nI q)), (2, .int 0)]) hl [1, 2, 0] rfl) (rfl))
theorem dc_x_letCome : yX0_letCome.cls = RX0 ∧ yX0_letCome.cls ≠ "java/lang/invoke/MethodHandle" ∧ yX0_letCome.cls ≠ "java/lang/invoke/VarHandle" ∧ (parseMethodDescriptor yX0_letCome.desc).map (fun d => d.parameters.length) = some 1 := by decide +kernel
theorem go_x_letCome : GoodIn lw_all (wsV RX0 222 RX0 yX0_letCome (ws_ yX0_letCome cX0_letCome 4 none)) := lw_V q523 q525 qs19 q71 q526
