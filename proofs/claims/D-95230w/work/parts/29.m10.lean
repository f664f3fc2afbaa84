set_option maxRecDepth 100000
set_option maxHeartbeats 4000000
theorem hun_lN : ∀ n, n ≤ 8 → hun n = lN (100 ^ n) := by decide +kernel
theorem hpow : ∀ n, n ≤ 8 → 0 < 100 ^ n ∧ 100 ^ n < 2 ^ 63 := by decide +kernel
def awA (n : Nat) (x d a b : Int32) : Nat := (awS n x d a b (2 ^ n)).toInt.natAbs
def awOK (x d a b : Int32) : Prop := ∀ n, n ≤ 8 → lAbs (awS n x d a b (2 ^ n)) = lN (awA n x d a b) ∧ awA n x d a b < 2 ^ 63
def nmR (n : Nat) (x d a b w : Int32) : Int64 := if w = 0 then awS n x d a b (2 ^ n) / lN (Nat.gcd (awA n x d a b) (100 ^ n)) else lN (100 ^ n) / lN (Nat.gcd (awA n x d a b) (100 ^ n))
theorem m_names (l : Launch) (D : va_G) (ty : Nat → ClassId) (o : Nat) (ad : Nat → Nat) (σ : Sg) (k : Int32) (x : Int32) (d : Int32) (a : Int32) (b : Int32) (w : Int32) (hO : mBook x d a b = true → awOK x d a b) : mKl l yX1_names cX1_names 7 3 D ty o ad σ [.int k, .int x, .int d, .int a, .int b, .int w] (fun r τ => r = (if wi k 0 8 && mBook x d a b && wi w 0 1 then nmR (k).toNatClampNeg x d a b w else (-9223372036854775808)) ∧ τ = σ) := by
  refine Kl.of (by decide) (Nat.le_of_ble_eq_true rfl) ?_
  intro p e s m below meth c A ls args E hK hA hX hlk hr I hl
  have hx := E.1
  have hb := E.2.1
  have hl : lv_has ls 7 [(0, .ref o), (1, .int k), (2, .int x), (3, .int d), (4, .int a), (5, .int b), (6, .int w)] := hl
  refine lv_iload_n hx hb dX1_names_0 rfl (lv_at hl 1 rfl) ?_
  refine lv_iconst (v := 0) hx hb dX1_names_1 (by decide) ?_
  refine lv_bipush (v := 8) hx hb dX1_names_2 (by decide) ?_
  refine c_Si E (m_within l k 0 8) go_m_within ⟨rfl, rfl⟩ dc_m_within ⟨Nat.le_of_ble_eq_true rfl, Nat.le_of_ble_eq_true rfl⟩ ⟨Nat.le_refl 0, Nat.le_refl 0⟩ hl.1 (Nat.le_of_ble_eq_true rfl) rfl dX1_names_4 (fun r4 hp => ?_)
  refine top_i (y := bI (wi k 0 8)) hp ?_
  refine b_eq (tgt := 32) hx hb dX1_names_7 (by decide) (fun c7 => ?_) (fun c7 => ?_)
  · refine lv_ldc2 (v := (-9223372036854775808)) hx hb E.2.2.2.1 (E.2.2.2.2 _ q1418) dX1_names_32 ?_
    exact r_l E hlk hr I (Nat.le_refl 0) (Nat.le_refl 0) dX1_names_35 (⟨by simp [c7], rfl⟩)
  · refine lv_iload_n hx hb dX1_names_10 rfl (lv_at hl 2 rfl) ?_
    refine lv_iload_n hx hb dX1_names_11 rfl (lv_at hl 3 rfl) ?_
    refine lv_iload hx hb dX1_names_12 (lv_at hl 4 rfl) ?_
    refine lv_iload hx hb dX1_names_14 (lv_at hl 5 rfl) ?_
    refine c_Si E (m_areNames l x d a b) go_m_areNames ⟨rfl, rfl⟩ dc_m_areNames ⟨Nat.le_of_ble_eq_true rfl, Nat.le_of_ble_eq_true rfl⟩ ⟨Nat.le_refl 0, Nat.le_refl 0⟩ hl.1 (Nat.le_of_ble_eq_true rfl) rfl dX1_names_16 (fun r16 hp => ?_)
    refine top_i (y := bI (mBook x d a b)) hp ?_
    refine b_eq (tgt := 32) hx hb dX1_names_19 (by decide) (fun c19 => ?_) (fun c19 => ?_)
    · refine lv_ldc2 (v := (-9223372036854775808)) hx hb E.2.2.2.1 (E.2.2.2.2 _ q1418) dX1_names_32 ?_
      exact r_l E hlk hr I (Nat.le_refl 0) (Nat.le_refl 0) dX1_names_35 (⟨by simp [c7, c19], rfl⟩)
    · refine lv_iload hx hb dX1_names_22 (lv_at hl 6 rfl) ?_
      refine lv_iconst (v := 0) hx hb dX1_names_24 (by decide) ?_
      refine lv_iconst (v := 1) hx hb dX1_names_25 (by decide) ?_
      refine c_Si E (m_within l w 0 1) go_m_within ⟨rfl, rfl⟩ dc_m_within ⟨Nat.le_of_ble_eq_true rfl, Nat.le_of_ble_eq_true rfl⟩ ⟨Nat.le_refl 0, Nat.le_refl 0⟩ hl.1 (Nat.le_of_ble_eq_true rfl) rfl dX1_names_26 (fun r26 hp => ?_)
      refine top_i (y := bI (wi w 0 1)) hp ?_
      refine b_ne (tgt := 36) hx hb dX1_names_29 (by decide) (fun c29 => ?_) (fun c29 => ?_)
      · obtain ⟨j, hj, ej⟩ := wi_nat (n := 8) (by decide) c7
        subst ej
        obtain ⟨hA1, hA2⟩ := hO c19 j hj
        refine lv_iload_n hx hb dX1_names_36 rfl (lv_at hl 1 rfl) ?_
        refine lv_iload_n hx hb dX1_names_37 rfl (lv_at hl 2 rfl) ?_
        refine lv_iload_n hx hb dX1_names_38 rfl (lv_at hl 3 rfl) ?_
        refine lv_iload hx hb dX1_names_39 (lv_at hl 4 rfl) ?_
        refine lv_iload hx hb dX1_names_41 (lv_at hl 5 rfl) ?_
        refine c_Sl E (m_awaited l j x d a b (by omega)) go_m_awaited ⟨rfl, rfl⟩ dc_m_awaited ⟨Nat.le_of_ble_eq_true rfl, Nat.le_of_ble_eq_true rfl⟩ ⟨Nat.le_refl 0, Nat.le_refl 0⟩ hl.1 (Nat.le_of_ble_eq_true rfl) rfl dX1_names_43 (fun r43 hp => ?_)
        refine top_l (y := awS j x d a b (2 ^ j)) hp ?_
        refine lv_iload_n hx hb dX1_names_46 rfl (lv_at hl 1 rfl) ?_
        refine c_Sl E (m_hundreds l j (by omega)) go_m_hundreds ⟨rfl, rfl⟩ dc_m_hundreds ⟨Nat.le_of_ble_eq_true rfl, Nat.le_of_ble_eq_true rfl⟩ ⟨Nat.le_refl 0, Nat.le_refl 0⟩ hl.1 (Nat.le_of_ble_eq_true rfl) rfl dX1_names_47 (fun r47 hp => ?_)
        refine top_l (y := hun j) hp ?_
        refine top_l (y := lN (100 ^ j)) (hun_lN j hj) ?_
        refine lv_iload hx hb dX1_names_50 (lv_at hl 6 rfl) ?_
        refine c_Sl E (m_share l (awS j x d a b (2 ^ j)) (100 ^ j) w (awA j x d a b) hA1 hA2 (hpow j hj).2 (hpow j hj).1) go_m_share ⟨rfl, rfl⟩ dc_m_share ⟨Nat.le_of_ble_eq_true rfl, Nat.le_of_ble_eq_true rfl⟩ ⟨Nat.le_refl 0, Nat.le_refl 0⟩ hl.1 (Nat.le_of_ble_eq_true rfl) rfl dX1_names_52 (fun r52 hp => ?_)
        refine top_l (y := (if w = 0 then (awS j x d a b (2 ^ j)) / lN (Nat.gcd (awA j x d a b) (100 ^ j)) else lN (100 ^ j) / lN (Nat.gcd (awA j x d a b) (100 ^ j)))) hp ?_
        exact r_l E hlk hr I (Nat.le_refl 0) (Nat.le_refl 0) dX1_names_55 (⟨by simp only [c7, c19, c29, Bool.and_self, if_true, nI_clamp (show j < 2 ^ 31 by omega)]; rfl, rfl⟩)
      · refine lv_ldc2 (v := (-9223372036854775808)) hx hb E.2.2.2.1 (E.2.2.2.2 _ q1418) dX1_names_32 ?_
        exact r_l E hlk hr I (Nat.le_refl 0) (Nat.le_refl 0) dX1_names_35 (⟨by simp [c7, c19, c29], rfl⟩)
theorem dc_m_names : yX1_names.cls = RX1 ∧ yX1_names.cls ≠ "java/lang/invoke/MethodHandle" ∧ yX1_names.cls ≠ "java/lang/invoke/VarHandle" ∧ (parseMethodDescriptor yX1_names.desc).map (fun d => d.parameters.length) = some 6 := by decide +kernel
def tkF (x d a b : Int32) (i : Nat) (z : Int32 × Int64) : Int32 × Int64 := if awS (i + 1) x d a b (2 ^ (i + 1)) * hun (7 - i) ≤ z.2 then z else (nI (i + 1), awS (i + 1) x d a b (2 ^ (i + 1)) * hun (7 - i))
theorem m_take (l : Launch) (D : va_G) (ty : Nat → ClassId) (o : Nat) (ad : Nat → Nat) (σ : Sg) (x : Int32) (d : Int32) (a : Int32) (b : Int32) : mKi l yX1_take cX1_take 11 .int 3 D ty o ad σ [.int x, .int d, .int a, .int b] (fun r τ => r = (if mBook x d a b then (fo (tkF x d a b) 8 (0, 0)).1 else (-2)) ∧ τ = σ) := by
  refine Ki.of (by decide) (Nat.le_of_ble_eq_true rfl) ?_
  intro p e s m below meth c A ls args E hK hA hX hlk hr I hl
  have hx := E.1
  have hb := E.2.1
  have hl : lv_has ls 11 [(0, .ref o), (1, .int x), (2, .int d), (3, .int a), (4, .int b)] := hl
  refine nameQ (fun Q hQ => ?_)
  refine lv_iload_n hx hb dX1_take_0 rfl (lv_at hl 1 rfl) ?_
  refine lv_iload_n hx hb dX1_take_1 rfl (lv_at hl 2 rfl) ?_
  refine lv_iload_n hx hb dX1_take_2 rfl (lv_at hl 3 rfl) ?_
  refine lv_iload hx hb dX1_take_3 (lv_at hl 4 rfl) ?_
  refine c_Si E (m_areNames l x d a b) go_m_areNames ⟨rfl, rfl⟩ dc_m_areNames ⟨Nat.le_of_ble_eq_true rfl, Nat.le_of_ble_eq_true rfl⟩ ⟨Nat.le_refl 0, Nat.le_refl 0⟩ hl.1 (Nat.le_of_ble_eq_true rfl) rfl dX1_take_5 (fun r5 hp => ?_)
  refine top_i (y := bI (mBook x d a b)) hp ?_
  refine b_ne (tgt := 14) hx hb dX1_take_8 (by decide) (fun c8 => ?_) (fun c8 => ?_)
  · refine lv_iconst (v := 0) hx hb dX1_take_14 (by decide) ?_
    refine lv_istore (lv' := [(5, .int 0), (0, .ref o), (1, .int x), (2, .int d), (3, .int a), (4, .int b)]) hx hb dX1_take_15 hl (by decide) rfl (fun ls hl => ?_)
    refine lv_lconst (v := 0) hx hb dX1_take_17 (by decide) ?_
    refine lv_lstore (lv' := [(6, .long 0), (5, .int 0), (0, .ref o), (1, .int x), (2, .int d), (3, .int a), (4, .int b)]) hx hb dX1_take_18 hl (by decide) rfl (fun ls hl => ?_)
    refine lv_iconst (v := 1) hx hb dX1_take_20 (by decide) ?_
    refine lv_istore (lv' := [(8, .int 1), (6, .long 0), (5, .int 0), (0, .ref o), (1, .int x), (2, .int d), (3, .int a), (4, .int b)]) hx hb dX1_take_21 hl (by decide) rfl (fun ls hl => ?_)
    have L23 : ∀ i, i ≤ 8 → ∀ (H : Heap) (locs : List Loc) (ls : Array Slot), gI s D A (mW ty o ad σ) H locs → lv_has ls 11 [(0, .ref o), (1, .int x), (2, .int d), (3, .int a), (4, .int b), (5, .int ((fo (tkF x d a b) i (0, 0)).1)), (6, .long ((fo (tkF x d a b) i (0, 0)).2)), (8, .int (nI (i + 1)))] → W p l e (rmL 3) s m args below meth c H locs 0 0 Q (F0 m 23 ls []) := by
      refine dn_ind 8 ?_ ?_
      · intro H locs ls I hl
        refine lv_iload hx hb dX1_take_23 (lv_at hl 7 rfl) ?_
        refine lv_bipush (v := 8) hx hb dX1_take_25 (by decide) ?_
        refine lv_icmp_gt (tgt := 73) hx hb dX1_take_27 (by decide) (fun c27 => ?_) (fun c27 => absurd c27 (fun h => h (by decide)))
        refine lv_iload hx hb dX1_take_73 (lv_at hl 5 rfl) ?_
        subst hQ
        exact r_i E hlk hr I (Nat.le_refl 0) (Nat.le_refl 0) dX1_take_75 (⟨by simp only [c8, if_true], rfl⟩)
      · intro i hi ih23 H locs ls I hl
        refine lv_iload hx hb dX1_take_23 (lv_at hl 7 rfl) ?_
        refine lv_bipush (v := 8) hx hb dX1_take_25 (by decide) ?_
        refine lv_icmp_gt (tgt := 73) hx hb dX1_take_27 (by decide) (fun c27 => absurd c27 (nI_nlt (a := 8) (by omega) (by omega))) (fun c27 => ?_)
        refine lv_iload hx hb dX1_take_30 (lv_at hl 7 rfl) ?_
        refine lv_iload_n hx hb dX1_take_32 rfl (lv_at hl 1 rfl) ?_
        refine lv_iload_n hx hb dX1_take_33 rfl (lv_at hl 2 rfl) ?_
        refine lv_iload_n hx hb dX1_take_34 rfl (lv_at hl 3 rfl) ?_
        refine lv_iload hx hb dX1_take_35 (lv_at hl 4 rfl) ?_
        refine c_Sl E (m_awaited l (i + 1) x d a b (by omega)) go_m_awaited ⟨rfl, rfl⟩ dc_m_awaited ⟨Nat.le_of_ble_eq_true rfl, Nat.le_of_ble_eq_true rfl⟩ ⟨Nat.le_refl 0, Nat.le_refl 0⟩ hl.1 (Nat.le_of_ble_eq_true rfl) rfl dX1_take_37 (fun r37 hp => ?_)
        refine top_l (y := awS (i + 1) x d a b (2 ^ (i + 1))) hp ?_
        refine lv_bipush (v := 8) hx hb dX1_take_40 (by decide) ?_
        refine lv_iload hx hb dX1_take_42 (lv_at hl 7 rfl) ?_
        refine lv_isub hx hb dX1_take_44 ?_
        refine top_i (y := nI (7 - i)) ((pk_sub (a := 8) (b := i + 1) (by omega)).trans (by rw [show 8 - (i + 1) = 7 - i by omega])) ?_
        refine c_Sl E (m_hundreds l (7 - i) (by omega)) go_m_hundreds ⟨rfl, rfl⟩ dc_m_hundreds ⟨Nat.le_of_ble_eq_true rfl, Nat.le_of_ble_eq_true rfl⟩ ⟨Nat.le_refl 0, Nat.le_refl 0⟩ hl.1 (Nat.le_of_ble_eq_true rfl) rfl dX1_take_45 (fun r45 hp => ?_)
        refine top_l (y := hun (7 - i)) hp ?_
        refine lv_lmul hx hb dX1_take_48 ?_
        refine lv_lstore (lv' := [(9, .long ((awS (i + 1) x d a b (2 ^ (i + 1))) * (hun (7 - i)))), (0, .ref o), (1, .int x), (2, .int d), (3, .int a), (4, .int b), (5, .int ((fo (tkF x d a b) i (0, 0)).1)), (6, .long ((fo (tkF x d a b) i (0, 0)).2)), (8, .int (nI (i + 1)))]) hx hb dX1_take_49 hl (by decide) rfl (fun ls hl => ?_)
        refine lv_lload hx hb dX1_take_51 (lv_at hl 0 rfl) ?_
        refine lv_lload hx hb dX1_take_53 (lv_at hl 7 rfl) ?_
        refine l_le (tgt := 67) hx hb dX1_take_55 dX1_take_56 (by decide) (fun c56 => ?_) (fun c56 => ?_)
        · refine lv_iinc (v := nI ((i + 1) + 1)) (lv' := [(8, .int (nI ((i + 1) + 1))), (9, .long ((awS (i + 1) x d a b (2 ^ (i + 1))) * (hun (7 - i)))), (0, .ref o), (1, .int x), (2, .int d), (3, .int a), (4, .int b), (5, .int ((fo (tkF x d a b) i (0, 0)).1)), (6, .long ((fo (tkF x d a b) i (0, 0)).2))]) hx hb dX1_take_67 hl (k := 8) rfl (nI_1 _) (by decide) rfl (fun ls hl => ?_)
          refine lv_goto (tgt := 23) hx hb dX1_take_70 (by decide) ?_
          exact ih23 _ _ ls (m_as I (rfl)) (lv_as (lv_sub (l' := [(0, .ref o), (1, .int x), (2, .int d), (3, .int a), (4, .int b), (5, .int ((fo (tkF x d a b) i (0, 0)).1)), (6, .long ((fo (tkF x d a b) i (0, 0)).2)), (8, .int (nI ((i + 1) + 1)))]) hl [2, 3, 4, 5, 6, 7, 8, 0] rfl) (by simp [fo, tkF, c56]))
        · refine lv_lload hx hb dX1_take_59 (lv_at hl 0 rfl) ?_
          refine lv_lstore (lv' := [(6, .long ((awS (i + 1) x d a b (2 ^ (i + 1))) * (hun (7 - i)))), (9, .long ((awS (i + 1) x d a b (2 ^ (i + 1))) * (hun (7 - i)))), (0, .ref o), (1, .int x), (2, .int d), (3, .int a), (4, .int b), (5, .int ((fo (tkF x d a b) i (0, 0)).1)), (8, .int (nI (i + 1)))]) hx hb dX1_take_61 hl (by decide) rfl (fun ls hl => ?_)
          refine lv_iload hx hb dX1_take_63 (lv_at hl 8 rfl) ?_
          refine lv_istore (lv' := [(5, .int (nI (i + 1))), (6, .long ((awS (i + 1) x d a b (2 ^ (i + 1))) * (hun (7 - i)))), (9, .long ((awS (i + 1) x d a b (2 ^ (i + 1))) * (hun (7 - i)))), (0, .ref o), (1, .int x), (2, .int d), (3, .int a), (4, .int b), (8, .int (nI (i + 1)))]) hx hb dX1_take_65 hl (by decide) rfl (fun ls hl => ?_)
          refine lv_iinc (v := nI ((i + 1) + 1)) (lv' := [(8, .int (nI ((i + 1) + 1))), (5, .int (nI (i + 1))), (6, .long ((awS (i + 1) x d a b (2 ^ (i + 1))) * (hun (7 - i)))), (9, .long ((awS (i + 1) x d a b (2 ^ (i + 1))) * (hun (7 - i)))), (0, .ref o), (1, .int x), (2, .int d), (3, .int a), (4, .int b)]) hx hb dX1_take_67 hl (k := 8) rfl (nI_1 _) (by decide) rfl (fun ls hl => ?_)
          refine lv_goto (tgt := 23) hx hb dX1_take_70 (by decide) ?_
          exact ih23 _ _ ls (m_as I (rfl)) (lv_as (lv_sub (l' := [(0, .ref o), (1, .int x), (2, .int d), (3, .int a), (4, .int b), (5, .int (nI (i + 1))), (6, .long ((awS (i + 1) x d a b (2 ^ (i + 1))) * (hun (7 - i)))), (8, .int (nI ((i + 1) + 1)))]) hl [4, 5, 6, 7, 8, 1, 2, 0] rfl) (by simp [fo, tkF, c56]))
    exact L23 0 (Nat.zero_le _) _ _ ls (m_as I (rfl)) (lv_as (lv_sub (l' := [(0, .ref o), (1, .int x), (2, .int d), (3, .int a), (4, .int b), (5, .int 0), (6, .long 0), (8, .int 1)]) hl [3, 4, 5, 6, 7, 2, 1, 0] rfl) (rfl))
  · refine lv_bipush (v := (-2)) hx hb dX1_take_11 (by decide) ?_
    subst hQ
    exact r_i E hlk hr I (Nat.le_refl 0) (Nat.le_refl 0) dX1_take_13 (⟨by simp [c8], rfl⟩)
theorem dc_m_take : yX1_take.cls = RX1 ∧ yX1_take.cls ≠ "java/lang/invoke/MethodHandle" ∧ yX1_take.cls ≠ "java/lang/invoke/VarHandle" ∧ (parseMethodDescriptor yX1_take.desc).map (fun d => d.parameters.length) = some 4 := by decide +kernel
def zc (σ : Sg) (k n : Nat) : Sg := fun a b => if a = 4 then (if 40 * k ≤ b ∧ b < 40 * k + n then 0 else σ a b) else σ a b
theorem zc_0 (σ : Sg) (k : Nat) : σ = zc σ k 0 := by
  funext a b
  have : ¬ (40 * k ≤ b ∧ b < 40 * k + 0) := by omega
  simp only [zc, if_neg this, ite_self]
theorem zc_s (σ : Sg) (k n : Nat) : up (zc σ k n) 4 (40 * k + n) 0 = zc σ k (n + 1) := by
  funext a b
  by_cases ha : a = 4
  · subst ha
    by_cases hb : b = 40 * k + n
    · subst hb
      have : 40 * k ≤ 40 * k + n ∧ 40 * k + n < 40 * k + (n + 1) := by omega
      simp only [zc, if_pos this, up, if_true]
    · have : (40 * k ≤ b ∧ b < 40 * k + (n + 1)) = (40 * k ≤ b ∧ b < 40 * k + n) := by apply propext; omega
      simp only [zc, up, this, if_true, if_neg hb]
  · simp only [zc, up, if_neg ha]
theorem i40 (k i : Nat) : 40 * nI k + nI i = nI (40 * k + i) := by
  rw [show (40 : Int32) = nI 40 from rfl, pk_mul, nI_add]
def mNew (σ : Sg) (k : Nat) (a n : Int32) : Sg := zc (up (up (up σ 0 0 0) 2 k a) 3 k n) k 40
theorem m_sheet (l : Launch) (D : va_G) (ty : Nat → ClassId) (o : Nat) (ad : Nat → Nat) (σ : Sg) (k : Int32) (a : Int32) (n : Int32) : mKi l yX1_sheet cX1_sheet 5 .int 3 D ty o ad σ [.int k, .int a, .int n] (fun r τ => r = (if wi k 0 3 then (if wi a 0 2 then (if n ≤ 40 then (if 0 ≤ n then 1 else (-10) - 4) else (-2)) else (-2)) else (-1)) ∧ τ = if wi k 0 3 then (if wi a 0 2 then (if n ≤ 40 then (if 0 ≤ n then mNew σ (k).toNatClampNeg a n else up (up σ 0 0 0) 0 0 4) else up σ 0 0 0) else up σ 0 0 0) else up σ 0 0 0) := by
  refine Ki.of (by decide) (Nat.le_of_ble_eq_true rfl) ?_
  intro p e s m below meth c A ls args E hK hA hX hlk hr I hl
  have hx := E.1
  have hb := E.2.1
  have hl : lv_has ls 5 [(0, .ref o), (1, .int k), (2, .int a), (3, .int n)] := hl
  refine nameQ (fun Q hQ => ?_)
  refine lv_aload_n hx hb dX1_sheet_0 rfl (lv_at hl 0 rfl) ?_
  refine lv_iconst (v := 0) hx hb dX1_sheet_1 (by decide) ?_
  refine m_put E hK I 0 rfl rfl q1115 rfl rfl rfl dX1_sheet_2 (fun H locs I => ?_)
  refine lv_iload_n hx hb dX1_sheet_5 rfl (lv_at hl 1 rfl) ?_
  refine c_Si E (m_isSheet l k) go_m_isSheet ⟨rfl, rfl⟩ dc_m_isSheet ⟨Nat.le_of_ble_eq_true rfl, Nat.le_of_ble_eq_true rfl⟩ ⟨Nat.le_refl 0, Nat.le_refl 0⟩ hl.1 (Nat.le_of_ble_eq_true rfl) rfl dX1_sheet_6 (fun r6 hp => ?_)
  refine top_i (y := bI (wi k 0 3)) hp ?_
  refine b_ne (tgt := 14) hx hb dX1_sheet_9 (by decide) (fun c9 => ?_) (fun c9 => ?_)
  · obtain ⟨j, hj, ej⟩ := wi_nat (n := 3) (by decide) c9
    subst ej
    refine lv_iload_n hx hb dX1_sheet_14 rfl (lv_at hl 2 rfl) ?_
    refine c_Si E (m_isSort l a) go_m_isSort ⟨rfl, rfl⟩ dc_m_isSort ⟨Nat.le_of_ble_eq_true rfl, Nat.le_of_ble_eq_true rfl⟩ ⟨Nat.le_refl 0, Nat.le_refl 0⟩ hl.1 (Nat.le_of_ble_eq_true rfl) rfl dX1_sheet_15 (fun r15 hp => ?_)
    refine top_i (y := bI (wi a 0 2)) hp ?_
    refine b_eq (tgt := 27) hx hb dX1_sheet_18 (by decide) (fun c18 => ?_) (fun c18 => ?_)
    · refine lv_bipush (v := (-2)) hx hb dX1_sheet_27 (by decide) ?_
      subst hQ
      exact r_i E hlk hr I (Nat.le_refl 0) (Nat.le_refl 0) dX1_sheet_29 (⟨by simp [c9, c18], by simp [c9, c18]⟩)
    · refine lv_iload_n hx hb dX1_sheet_21 rfl (lv_at hl 3 rfl) ?_
      refine lv_bipush (v := 40) hx hb dX1_sheet_22 (by decide) ?_
      refine lv_icmp_le (tgt := 30) hx hb dX1_sheet_24 (by decide) (fun c24 => ?_) (fun c24 => ?_)
      · refine lv_iload_n hx hb dX1_sheet_30 rfl (lv_at hl 3 rfl) ?_
        refine lv_if_ge (tgt := 40) hx hb dX1_sheet_31 (by decide) (fun c31 => ?_) (fun c31 => ?_)
        · refine lv_aload_n hx hb dX1_sheet_40 rfl (lv_at hl 0 rfl) ?_
          refine m_get E hK I 2 rfl q1117 rfl dX1_sheet_41 ?_
          refine lv_iload_n hx hb dX1_sheet_44 rfl (lv_at hl 1 rfl) ?_
          refine lv_iload_n hx hb dX1_sheet_45 rfl (lv_at hl 2 rfl) ?_
          refine m_ast (i := j) E hK I 0 rfl rfl rfl dX1_sheet_46 (by simp only [mLn]; omega) (fun H locs I => ?_)
          refine lv_aload_n hx hb dX1_sheet_47 rfl (lv_at hl 0 rfl) ?_
          refine m_get E hK I 3 rfl q1118 rfl dX1_sheet_48 ?_
          refine lv_iload_n hx hb dX1_sheet_51 rfl (lv_at hl 1 rfl) ?_
          refine lv_iload_n hx hb dX1_sheet_52 rfl (lv_at hl 3 rfl) ?_
          refine m_ast (i := j) E hK I 1 rfl rfl rfl dX1_sheet_53 (by simp only [mLn]; omega) (fun H locs I => ?_)
          refine lv_iconst (v := 0) hx hb dX1_sheet_54 (by decide) ?_
          refine lv_istore (lv' := [(4, .int 0), (0, .ref o), (1, .int (nI j)), (2, .int a), (3, .int n)]) hx hb dX1_sheet_55 hl (by decide) rfl (fun ls hl => ?_)
          obtain ⟨s1, hs1⟩ : ∃ z, z = up (up (up σ 0 0 0) 2 j a) 3 j n := ⟨_, rfl⟩
          have I := m_as I hs1.symm
          have L57 : ∀ i, i ≤ 40 → ∀ (H : Heap) (locs : List Loc) (ls : Array Slot), gI s D A (mW ty o ad (zc s1 j i)) H locs → lv_has ls 5 [(0, .ref o), (1, .int (nI j)), (2, .int a), (3, .int n), (4, .int (nI i))] → W p l e (rmL 3) s m args below meth c H locs 0 0 Q (F0 m 57 ls []) := by
            refine dn_ind 40 ?_ ?_
            · intro H locs ls I hl
              refine lv_iload hx hb dX1_sheet_57 (lv_at hl 4 rfl) ?_
              refine lv_bipush (v := 40) hx hb dX1_sheet_59 (by decide) ?_
              refine top_i (y := nI 40) (by decide) ?_
              refine lv_icmp_ge (tgt := 83) hx hb dX1_sheet_61 (by decide) (fun c61 => ?_) (fun c61 => absurd c61 (fun h => h (Int32.le_refl _)))
              refine lv_iconst (v := 1) hx hb dX1_sheet_83 (by decide) ?_
              subst hQ
              exact r_i E hlk hr I (Nat.le_refl 0) (Nat.le_refl 0) dX1_sheet_84 (⟨by simp [c9, c18, c24, c31], by simp only [c9, c18, if_true, nI_clamp (show j < 2 ^ 31 by omega)]; simp [c24, c31, hs1, mNew]⟩)
            · intro i hi ih57 H locs ls I hl
              refine lv_iload hx hb dX1_sheet_57 (lv_at hl 4 rfl) ?_
              refine lv_bipush (v := 40) hx hb dX1_sheet_59 (by decide) ?_
              refine top_i (y := nI 40) (by decide) ?_
              refine lv_icmp_ge (tgt := 83) hx hb dX1_sheet_61 (by decide) (fun c61 => absurd c61 (nI_ge hi (by omega))) (fun c61 => ?_)
              refine lv_aload_n hx hb dX1_sheet_64 rfl (lv_at hl 0 rfl) ?_
              refine m_get E hK I 4 rfl q1119 rfl dX1_sheet_65 ?_
              refine lv_bipush (v := 40) hx hb dX1_sheet_68 (by decide) ?_
              refine lv_iload_n hx hb dX1_sheet_70 rfl (lv_at hl 1 rfl) ?_
              refine lv_imul hx hb dX1_sheet_71 ?_
              refine lv_iload hx hb dX1_sheet_72 (lv_at hl 4 rfl) ?_
              refine lv_iadd hx hb dX1_sheet_74 ?_
              refine top_i (y := nI (40 * j + i)) (i40 j i) ?_
              refine lv_iconst (v := 0) hx hb dX1_sheet_75 (by decide) ?_
              refine m_ast (i := (40 * j + i)) E hK I 2 rfl rfl rfl dX1_sheet_76 (by simp only [mLn]; omega) (fun H locs I => ?_)
              refine lv_iinc (v := nI (i + 1)) (lv' := [(4, .int (nI (i + 1))), (0, .ref o), (1, .int (nI j)), (2, .int a), (3, .int n)]) hx hb dX1_sheet_77 hl (k := 4) rfl (nI_1 _) (by decide) rfl (fun ls hl => ?_)
              refine lv_goto (tgt := 57) hx hb dX1_sheet_80 (by decide) ?_
              exact ih57 _ _ ls (m_as I (zc_s _ _ _)) (lv_as (lv_sub (l' := [(0, .ref o), (1, .int (nI j)), (2, .int a), (3, .int n), (4, .int (nI (i + 1)))]) hl [1, 2, 3, 4, 0] rfl) (rfl))
          exact L57 0 (Nat.zero_le _) _ _ ls (m_as I (zc_0 _ _)) (lv_as (lv_sub (l' := [(0, .ref o), (1, .int (nI j)), (2, .int a), (3, .int n), (4, .int 0)]) hl [1, 2, 3, 4, 0] rfl) (rfl))
        · refine lv_aload_n hx hb dX1_sheet_34 rfl (lv_at hl 0 rfl) ?_
          refine lv_iconst (v := 4) hx hb dX1_sheet_35 (by decide) ?_
          refine m_ci E hK hA I (m_fails l D ty o ad (up σ 0 0 0) 4) go_m_fails dc_m_fails ⟨Nat.le_of_ble_eq_true rfl, Nat.le_of_ble_eq_true rfl⟩ ⟨Nat.le_refl 0, Nat.le_refl 0⟩ hl.1 (Nat.le_of_ble_eq_true rfl) rfl dX1_sheet_36 (fun r36 σ36 H locs hp I => ?_)
          refine top_i (y := (-10) - 4) hp.1 ?_
          have I := m_as I hp.2
          subst hQ
          exact r_i E hlk hr I (Nat.le_refl 0) (Nat.le_refl 0) dX1_sheet_39 (⟨by simp [c9, c18, c24, c31], by simp [c9, c18, c24, c31]⟩)
      · refine lv_bipush (v := (-2)) hx hb dX1_sheet_27 (by decide) ?_
        subst hQ
        exact r_i E hlk hr I (Nat.le_refl 0) (Nat.le_refl 0) dX1_sheet_29 (⟨by simp [c9, c18, c24], by simp [c9, c18, c24]⟩)
  · refine lv_iconst (v := (-1)) hx hb dX1_sheet_12 (by decide) ?_
    subst hQ
    exact r_i E hlk hr I (Nat.le_refl 0) (Nat.le_refl 0) dX1_sheet_13 (⟨by simp [c9], by simp [c9]⟩)
theorem dc_m_sheet : yX1_sheet.cls = RX1 ∧ yX1_sheet.cls ≠ "java/lang/invoke/MethodHandle" ∧ yX1_sheet.cls ≠ "java/lang/invoke/VarHandle" ∧ (parseMethodDescriptor yX1_sheet.desc).map (fun d => d.parameters.length) = some 3 := by decide +kernel
theorem m_lose (l : Launch) (D : va_G) (ty : Nat → ClassId) (o : Nat) (ad : Nat → Nat) (σ : Sg) (k : Int32) : mKi l yX1_lose cX1_lose 3 .int 3 D ty o ad σ [.int k] (fun r τ => r = (if wi k 0 3 then (if σ 2 (k).toNatClampNeg = (-9) then 0 else 1) else (-1)) ∧ τ = if wi k 0 3 then up σ 2 (k).toNatClampNeg (-9) else σ) := by
  refine Ki.of (by decide) (Nat.le_of_ble_eq_true rfl) ?_
  intro p e s m below meth c A ls args E hK hA hX hlk hr I hl
  have hx := E.1
  have hb := E.2.1
  have hl : lv_has ls 3 [(0, .ref o), (1, .int k)] := hl
  refine lv_iload_n hx hb dX1_lose_0 rfl (lv_at hl 1 rfl) ?_
  refine c_Si E (m_isSheet l k) go_m_isSheet ⟨rfl, rfl⟩ dc_m_isSheet ⟨Nat.le_of_ble_eq_true rfl, Nat.le_of_ble_eq_true rfl⟩ ⟨Nat.le_refl 0, Nat.le_refl 0⟩ hl.1 (Nat.le_of_ble_eq_true rfl) rfl dX1_lose_1 (fun r1 hp => ?_)
  refine top_i (y := bI (wi k 0 3)) hp ?_
  refine b_ne (tgt := 9) hx hb dX1_lose_4 (by decide) (fun c4 => ?_) (fun c4 => ?_)
  · obtain ⟨j, hj, ej⟩ := wi_nat (n := 3) (by decide) c4
    subst ej
    refine lv_aload_n hx hb dX1_lose_9 rfl (lv_at hl 0 rfl) ?_
    refine m_get E hK I 2 rfl q1117 rfl dX1_lose_10 ?_
    refine lv_iload_n hx hb dX1_lose_13 rfl (lv_at hl 1 rfl) ?_
    refine m_ald (i := j) E hK I 0 rfl rfl rfl dX1_lose_14 (by simp only [mLn]; omega) ?_
    refine lv_bipush (v := (-9)) hx hb dX1_lose_15 (by decide) ?_
    refine lv_icmp_ne (tgt := 24) hx hb dX1_lose_17 (by decide) (fun c17 => ?_) (fun c17 => ?_)
    · refine lv_iconst (v := 1) hx hb dX1_lose_24 (by decide) ?_
      refine lv_istore_n (lv' := [(2, .int 1), (0, .ref o), (1, .int (nI j))]) hx hb dX1_lose_25 rfl hl (by decide) rfl (fun ls hl => ?_)
      refine lv_aload_n hx hb dX1_lose_26 rfl (lv_at hl 1 rfl) ?_
      refine m_get E hK I 2 rfl q1117 rfl dX1_lose_27 ?_
      refine lv_iload_n hx hb dX1_lose_30 rfl (lv_at hl 2 rfl) ?_
      refine lv_bipush (v := (-9)) hx hb dX1_lose_31 (by decide) ?_
      refine m_ast (i := j) E hK I 0 rfl rfl rfl dX1_lose_33 (by simp only [mLn]; omega) (fun H locs I => ?_)
      refine lv_iload_n hx hb dX1_lose_34 rfl (lv_at hl 0 rfl) ?_
      exact r_i E hlk hr I (Nat.le_refl 0) (Nat.le_refl 0) dX1_lose_35 (⟨by simp only [c4, if_true, nI_clamp (show j < 2 ^ 31 by omega)]; simp [c17], by simp only [c4, if_true, nI_clamp (show j < 2 ^ 31 by omega)]⟩)
    · refine lv_iconst (v := 0) hx hb dX1_lose_20 (by decide) ?_
      refine lv_goto (tgt := 25) hx hb dX1_lose_21 (by decide) ?_
      refine lv_istore_n (lv' := [(2, .int 0), (0, .ref o), (1, .int (nI j))]) hx hb dX1_lose_25 rfl hl (by decide) rfl (fun ls hl => ?_)
      refine lv_aload_n hx hb dX1_lose_26 rfl (lv_at hl 1 rfl) ?_
      refine m_get E hK I 2 rfl q1117 rfl dX1_lose_27 ?_
      refine lv_iload_n hx hb dX1_lose_30 rfl (lv_at hl 2 rfl) ?_
      refine lv_bipush (v := (-9)) hx hb dX1_lose_31 (by decide) ?_
      refine m_ast (i := j) E hK I 0 rfl rfl rfl dX1_lose_33 (by simp only [mLn]; omega) (fun H locs I => ?_)
      refine lv_iload_n hx hb dX1_lose_34 rfl (lv_at hl 0 rfl) ?_
      exact r_i E hlk hr I (Nat.le_refl 0) (Nat.le_refl 0) dX1_lose_35 (⟨by simp only [c4, if_true, nI_clamp (show j < 2 ^ 31 by omega)]; simp [c17], by simp only [c4, if_true, nI_clamp (show j < 2 ^ 31 by omega)]⟩)
  · refine lv_iconst (v := (-1)) hx hb dX1_lose_7 (by decide) ?_
    exact r_i E hlk hr I (Nat.le_refl 0) (Nat.le_refl 0) dX1_lose_8 (⟨by simp [c4], by simp [c4]⟩)
theorem dc_m_lose : yX1_lose.cls = RX1 ∧ yX1_lose.cls ≠ "java/lang/invoke/MethodHandle" ∧ yX1_lose.cls ≠ "java/lang/invoke/VarHandle" ∧ (parseMethodDescriptor yX1_lose.desc).map (fun d => d.parameters.length) = some 1 := by decide +kernel
def mLong (σ : Sg) : Prop := ∀ k, k < 4 → ∃ n : Nat, n ≤ 40 ∧ σ 3 k = nI n
theorem wi_idx {i : Int32} {n : Nat} (hn : n ≤ 40) (h : wi i 0 (nI n - 1) = true) : ∃ j : Nat, j < n ∧ i = nI j := by
  simp only [wi, Bool.and_eq_true, Bool.not_eq_true', decide_eq_false_iff_not] at h
  obtain ⟨j, hj, rfl⟩ := nI_of h.1
  refine ⟨j, ?_, rfl⟩
  rcases Nat.lt_or_ge j n with h3 | h3
  · exact h3
  · exfalso
    apply h.2
    cases n with
    | zero =>
      have h0 : (nI 0 - 1) = -1 := by decide
      rw [h0]
      exact Int32.lt_of_lt_of_le (by decide) (nI_pos' hj)
    | succ n => rw [nI_m1]; exact nI_lt (by omega) hj
def mPutV (s v : Int32) : Int32 := if s = 0 then v.toInt8.toInt32 else if s = 1 then v.toInt16.toInt32 else v
theorem m_put_ (l : Launch) (D : va_G) (ty : Nat → ClassId) (o : Nat) (ad : Nat → Nat) (σ : Sg) (k : Int32) (i : Int32) (v : Int32) (hL : mLong σ) : mKi l yX1_put cX1_put 4 .int 3 D ty o ad σ [.int k, .int i, .int v] (fun r τ => r = (if wi k 0 3 then (if σ 2 (k).toNatClampNeg = (-9) then (-10) - 1 else if wi i 0 (σ 3 (k).toNatClampNeg - 1) then 1 else (-10) - 3) else (-1)) ∧ τ = if wi k 0 3 then (if σ 2 (k).toNatClampNeg = (-9) then up (up σ 0 0 0) 0 0 1 else if wi i 0 (σ 3 (k).toNatClampNeg - 1) then up (up σ 0 0 0) 4 (40 * (k).toNatClampNeg + (i).toNatClampNeg) (mPutV (σ 2 (k).toNatClampNeg) v) else up (up σ 0 0 0) 0 0 3) else up σ 0 0 0) := by
  refine Ki.of (by decide) (Nat.le_of_ble_eq_true rfl) ?_
  intro p e s m below meth c A ls args E hK hA hX hlk hr I hl
  have hx := E.1
  have hb := E.2.1
  have hl : lv_has ls 4 [(0, .ref o), (1, .int k), (2, .int i), (3, .int v)] := hl
  refine lv_aload_n hx hb dX1_put_0 rfl (lv_at hl 0 rfl) ?_
  refine lv_iconst (v := 0) hx hb dX1_put_1 (by decide) ?_
  refine m_put E hK I 0 rfl rfl q1115 rfl rfl rfl dX1_put_2 (fun H locs I => ?_)
  refine lv_iload_n hx hb dX1_put_5 rfl (lv_at hl 1 rfl) ?_
  refine c_Si E (m_isSheet l k) go_m_isSheet ⟨rfl, rfl⟩ dc_m_isSheet ⟨Nat.le_of_ble_eq_true rfl, Nat.le_of_ble_eq_true rfl⟩ ⟨Nat.le_refl 0, Nat.le_refl 0⟩ hl.1 (Nat.le_of_ble_eq_true rfl) rfl dX1_put_6 (fun r6 hp => ?_)
  refine top_i (y := bI (wi k 0 3)) hp ?_
  refine b_ne (tgt := 14) hx hb dX1_put_9 (by decide) (fun c9 => ?_) (fun c9 => ?_)
  · obtain ⟨j, hj, ej⟩ := wi_nat (n := 3) (by decide) c9
    subst ej
    refine lv_aload_n hx hb dX1_put_14 rfl (lv_at hl 0 rfl) ?_
    refine m_get E hK I 2 rfl q1117 rfl dX1_put_15 ?_
    refine lv_iload_n hx hb dX1_put_18 rfl (lv_at hl 1 rfl) ?_
    refine m_ald (i := j) E hK I 0 rfl rfl rfl dX1_put_19 (by simp only [mLn]; omega) ?_
    refine lv_bipush (v := (-9)) hx hb dX1_put_20 (by decide) ?_
    refine lv_icmp_ne (tgt := 31) hx hb dX1_put_22 (by decide) (fun c22 => ?_) (fun c22 => ?_)
    · refine lv_iload_n hx hb dX1_put_31 rfl (lv_at hl 2 rfl) ?_
      refine lv_iconst (v := 0) hx hb dX1_put_32 (by decide) ?_
      refine lv_aload_n hx hb dX1_put_33 rfl (lv_at hl 0 rfl) ?_
      refine m_get E hK I 3 rfl q1118 rfl dX1_put_34 ?_
      refine lv_iload_n hx hb dX1_put_37 rfl (lv_at hl 1 rfl) ?_
      refine m_ald (i := j) E hK I 1 rfl rfl rfl dX1_put_38 (by simp only [mLn]; omega) ?_
      refine lv_iconst (v := 1) hx hb dX1_put_39 (by decide) ?_
      refine lv_isub hx hb dX1_put_40 ?_
      refine c_Si E (m_within l i 0 (((up σ 0 0 0) 3 j) - 1)) go_m_within ⟨rfl, rfl⟩ dc_m_within ⟨Nat.le_of_ble_eq_true rfl, Nat.le_of_ble_eq_true rfl⟩ ⟨Nat.le_refl 0, Nat.le_refl 0⟩ hl.1 (Nat.le_of_ble_eq_true rfl) rfl dX1_put_41 (fun r41 hp => ?_)
      refine top_i (y := bI (wi i 0 (((up σ 0 0 0) 3 j) - 1))) hp ?_
      refine b_ne (tgt := 53) hx hb dX1_put_44 (by decide) (fun c44 => ?_) (fun c44 => ?_)
      · obtain ⟨n, hn, en⟩ := hL j (by omega)
        have c44' : wi i 0 (nI n - 1) = true := by rw [← en]; simpa [up] using c44
        obtain ⟨q, hq, eq⟩ := wi_idx hn c44'
        subst eq
        refine lv_aload_n hx hb dX1_put_53 rfl (lv_at hl 0 rfl) ?_
        refine m_get E hK I 4 rfl q1119 rfl dX1_put_54 ?_
        refine lv_bipush (v := 40) hx hb dX1_put_57 (by decide) ?_
        refine lv_iload_n hx hb dX1_put_59 rfl (lv_at hl 1 rfl) ?_
        refine lv_imul hx hb dX1_put_60 ?_
        refine lv_iload_n hx hb dX1_put_61 rfl (lv_at hl 2 rfl) ?_
        refine lv_iadd hx hb dX1_put_62 ?_
        refine top_i (y := nI (40 * j + q)) (i40 j q) ?_
        refine lv_aload_n hx hb dX1_put_63 rfl (lv_at hl 0 rfl) ?_
        refine m_get E hK I 2 rfl q1117 rfl dX1_put_64 ?_
        refine lv_iload_n hx hb dX1_put_67 rfl (lv_at hl 1 rfl) ?_
        refine m_ald (i := j) E hK I 0 rfl rfl rfl dX1_put_68 (by simp only [mLn]; omega) ?_
        refine lv_if_ne (tgt := 77) hx hb dX1_put_69 (by decide) (fun c69 => ?_) (fun c69 => ?_)
        · refine lv_aload_n hx hb dX1_put_77 rfl (lv_at hl 0 rfl) ?_
          refine m_get E hK I 2 rfl q1117 rfl dX1_put_78 ?_
          refine lv_iload_n hx hb dX1_put_81 rfl (lv_at hl 1 rfl) ?_
          refine m_ald (i := j) E hK I 0 rfl rfl rfl dX1_put_82 (by simp only [mLn]; omega) ?_
          refine lv_iconst (v := 1) hx hb dX1_put_83 (by decide) ?_
          refine lv_icmp_ne (tgt := 92) hx hb dX1_put_84 (by decide) (fun c84 => ?_) (fun c84 => ?_)
          · refine lv_iload_n hx hb dX1_put_92 rfl (lv_at hl 3 rfl) ?_
            refine m_ast (i := (40 * j + q)) E hK I 2 rfl rfl rfl dX1_put_93 (by simp only [mLn]; omega) (fun H locs I => ?_)
            refine lv_iconst (v := 1) hx hb dX1_put_94 (by decide) ?_
            exact r_i E hlk hr I (Nat.le_refl 0) (Nat.le_refl 0) dX1_put_95 (⟨by rw [up_k (by decide)] at c22; rw [up_k (by decide)] at c44; rw [up_k (by decide)] at c69; rw [up_k (by decide)] at c84; simp only [c9, if_true, nI_clamp (show j < 2 ^ 31 by omega)]; simp [c22, c44, c69, c84], by rw [up_k (by decide)] at c22; rw [up_k (by decide)] at c44; rw [up_k (by decide)] at c69; rw [up_k (by decide)] at c84; simp only [c9, if_true, nI_clamp (show j < 2 ^ 31 by omega)]; simp [mPutV, up_k, c22, c44, c69, c84, nI_clamp (show q < 2 ^ 31 by omega)]⟩)
          · refine lv_iload_n hx hb dX1_put_87 rfl (lv_at hl 3 rfl) ?_
            refine lv_i2s hx hb dX1_put_88 rfl ?_
            refine lv_goto (tgt := 93) hx hb dX1_put_89 (by decide) ?_
            refine m_ast (i := (40 * j + q)) E hK I 2 rfl rfl rfl dX1_put_93 (by simp only [mLn]; omega) (fun H locs I => ?_)
            refine lv_iconst (v := 1) hx hb dX1_put_94 (by decide) ?_
            exact r_i E hlk hr I (Nat.le_refl 0) (Nat.le_refl 0) dX1_put_95 (⟨by rw [up_k (by decide)] at c22; rw [up_k (by decide)] at c44; rw [up_k (by decide)] at c69; rw [up_k (by decide)] at c84; simp only [c9, if_true, nI_clamp (show j < 2 ^ 31 by omega)]; simp [c22, c44, c69, c84], by rw [up_k (by decide)] at c22; rw [up_k (by decide)] at c44; rw [up_k (by decide)] at c69; rw [up_k (by decide)] at c84; simp only [c9, if_true, nI_clamp (show j < 2 ^ 31 by omega)]; simp [mPutV, up_k, c22, c44, c69, c84, nI_clamp (show q < 2 ^ 31 by omega)]⟩)
        · refine lv_iload_n hx hb dX1_put_72 rfl (lv_at hl 3 rfl) ?_
          refine lv_i2b hx hb dX1_put_73 rfl ?_
          refine lv_goto (tgt := 93) hx hb dX1_put_74 (by decide) ?_
          refine m_ast (i := (40 * j + q)) E hK I 2 rfl rfl rfl dX1_put_93 (by simp only [mLn]; omega) (fun H locs I => ?_)
          refine lv_iconst (v := 1) hx hb dX1_put_94 (by decide) ?_
          exact r_i E hlk hr I (Nat.le_refl 0) (Nat.le_refl 0) dX1_put_95 (⟨by rw [up_k (by decide)] at c22; rw [up_k (by decide)] at c44; rw [up_k (by decide)] at c69; simp only [c9, if_true, nI_clamp (show j < 2 ^ 31 by omega)]; simp [c22, c44, c69], by rw [up_k (by decide)] at c22; rw [up_k (by decide)] at c44; rw [up_k (by decide)] at c69; simp only [c9, if_true, nI_clamp (show j < 2 ^ 31 by omega)]; simp [mPutV, up_k, c22, c44, c69, nI_clamp (show q < 2 ^ 31 by omega)]⟩)
      · refine lv_aload_n hx hb dX1_put_47 rfl (lv_at hl 0 rfl) ?_
        refine lv_iconst (v := 3) hx hb dX1_put_48 (by decide) ?_
        refine m_ci E hK hA I (m_fails l D ty o ad (up σ 0 0 0) 3) go_m_fails dc_m_fails ⟨Nat.le_of_ble_eq_true rfl, Nat.le_of_ble_eq_true rfl⟩ ⟨Nat.le_refl 0, Nat.le_refl 0⟩ hl.1 (Nat.le_of_ble_eq_true rfl) rfl dX1_put_49 (fun r49 σ49 H locs hp I => ?_)
        refine top_i (y := (-10) - 3) hp.1 ?_
        have I := m_as I hp.2
        exact r_i E hlk hr I (Nat.le_refl 0) (Nat.le_refl 0) dX1_put_52 (⟨by rw [up_k (by decide)] at c22; rw [up_k (by decide)] at c44; simp only [c9, if_true, nI_clamp (show j < 2 ^ 31 by omega)]; simp [c22, c44], by rw [up_k (by decide)] at c22; rw [up_k (by decide)] at c44; simp only [c9, if_true, nI_clamp (show j < 2 ^ 31 by omega)]; simp [mPutV, up_k, c22, c44]⟩)
    · refine lv_aload_n hx hb dX1_put_25 rfl (lv_at hl 0 rfl) ?_
      refine lv_iconst (v := 1) hx hb dX1_put_26 (by decide) ?_
      refine m_ci E hK hA I (m_fails l D ty o ad (up σ 0 0 0) 1) go_m_fails dc_m_fails ⟨Nat.le_of_ble_eq_true rfl, Nat.le_of_ble_eq_true rfl⟩ ⟨Nat.le_refl 0, Nat.le_refl 0⟩ hl.1 (Nat.le_of_ble_eq_true rfl) rfl dX1_put_27 (fun r27 σ27 H locs hp I => ?_)
      refine top_i (y := (-10) - 1) hp.1 ?_
      have I := m_as I hp.2
      exact r_i E hlk hr I (Nat.le_refl 0) (Nat.le_refl 0) dX1_put_30 (⟨by rw [up_k (by decide)] at c22; simp only [c9, if_true, nI_clamp (show j < 2 ^ 31 by omega)]; simp [c22], by rw [up_k (by decide)] at c22; simp only [c9, if_true, nI_clamp (show j < 2 ^ 31 by omega)]; simp [mPutV, up_k, c22]⟩)
  · refine lv_iconst (v := (-1)) hx hb dX1_put_12 (by decide) ?_
    exact r_i E hlk hr I (Nat.le_refl 0) (Nat.le_refl 0) dX1_put_13 (⟨by simp [c9], by simp [c9]⟩)
theorem dc_m_put_ : yX1_put.cls = RX1 ∧ yX1_put.cls ≠ "java/lang/invoke/MethodHandle" ∧ yX1_put.cls ≠ "java/lang/invoke/VarHandle" ∧ (parseMethodDescriptor yX1_put.desc).map (fun d => d.parameters.length) = some 3 := by decide +kernel
theorem m_cell (l : Launch) (D : va_G) (ty : Nat → ClassId) (o : Nat) (ad : Nat → Nat) (σ : Sg) (k : Int32) (i : Int32) (a : Int32) (hL : mLong σ) : mKl l yX1_cell cX1_cell 4 3 D ty o ad σ [.int k, .int i, .int a] (fun r τ => r = (if wi k 0 3 && wi a 0 2 then (if σ 2 (k).toNatClampNeg = (-9) then (-9223372036854775808) else if σ 2 (k).toNatClampNeg = a then (if wi i 0 (σ 3 (k).toNatClampNeg - 1) then (σ 4 (40 * (k).toNatClampNeg + (i).toNatClampNeg)).toInt64 else (-9223372036854775808)) else (-9223372036854775808)) else (-9223372036854775808)) ∧ τ = if wi k 0 3 && wi a 0 2 then (if σ 2 (k).toNatClampNeg = (-9) then up (up σ 0 0 0) 0 0 1 else if σ 2 (k).toNatClampNeg = a then (if wi i 0 (σ 3 (k).toNatClampNeg - 1) then up σ 0 0 0 else up (up σ 0 0 0) 0 0 3) else up (up σ 0 0 0) 0 0 2) else up σ 0 0 0) := by
  refine Kl.of (by decide) (Nat.le_of_ble_eq_true rfl) ?_
  intro p e s m below meth c A ls args E hK hA hX hlk hr I hl
  have hx := E.1
  have hb := E.2.1
  have hl : lv_has ls 4 [(0, .ref o), (1, .int k), (2, .int i), (3, .int a)] := hl
  refine lv_aload_n hx hb dX1_cell_0 rfl (lv_at hl 0 rfl) ?_
  refine lv_iconst (v := 0) hx hb dX1_cell_1 (by decide) ?_
  refine m_put E hK I 0 rfl rfl q1115 rfl rfl rfl dX1_cell_2 (fun H locs I => ?_)
  refine lv_iload_n hx hb dX1_cell_5 rfl (lv_at hl 1 rfl) ?_
  refine c_Si E (m_isSheet l k) go_m_isSheet ⟨rfl, rfl⟩ dc_m_isSheet ⟨Nat.le_of_ble_eq_true rfl, Nat.le_of_ble_eq_true rfl⟩ ⟨Nat.le_refl 0, Nat.le_refl 0⟩ hl.1 (Nat.le_of_ble_eq_true rfl) rfl dX1_cell_6 (fun r6 hp => ?_)
  refine top_i (y := bI (wi k 0 3)) hp ?_
  refine b_eq (tgt := 19) hx hb dX1_cell_9 (by decide) (fun c9 => ?_) (fun c9 => ?_)
  · refine lv_ldc2 (v := (-9223372036854775808)) hx hb E.2.2.2.1 (E.2.2.2.2 _ q1418) dX1_cell_19 ?_
    exact r_l E hlk hr I (Nat.le_refl 0) (Nat.le_refl 0) dX1_cell_22 (⟨by simp [c9], by simp [c9]⟩)
  · refine lv_iload_n hx hb dX1_cell_12 rfl (lv_at hl 3 rfl) ?_
    refine c_Si E (m_isSort l a) go_m_isSort ⟨rfl, rfl⟩ dc_m_isSort ⟨Nat.le_of_ble_eq_true rfl, Nat.le_of_ble_eq_true rfl⟩ ⟨Nat.le_refl 0, Nat.le_refl 0⟩ hl.1 (Nat.le_of_ble_eq_true rfl) rfl dX1_cell_13 (fun r13 hp => ?_)
    refine top_i (y := bI (wi a 0 2)) hp ?_
    refine b_ne (tgt := 23) hx hb dX1_cell_16 (by decide) (fun c16 => ?_) (fun c16 => ?_)
    · obtain ⟨j, hj, ej⟩ := wi_nat (n := 3) (by decide) c9
      subst ej
      refine lv_aload_n hx hb dX1_cell_23 rfl (lv_at hl 0 rfl) ?_
      refine m_get E hK I 2 rfl q1117 rfl dX1_cell_24 ?_
      refine lv_iload_n hx hb dX1_cell_27 rfl (lv_at hl 1 rfl) ?_
      refine m_ald (i := j) E hK I 0 rfl rfl rfl dX1_cell_28 (by simp only [mLn]; omega) ?_
      refine lv_bipush (v := (-9)) hx hb dX1_cell_29 (by decide) ?_
      refine lv_icmp_eq (tgt := 50) hx hb dX1_cell_31 (by decide) (fun c31 => ?_) (fun c31 => ?_)
      · refine lv_aload_n hx hb dX1_cell_50 rfl (lv_at hl 0 rfl) ?_
        refine m_get E hK I 2 rfl q1117 rfl dX1_cell_51 ?_
        refine lv_iload_n hx hb dX1_cell_54 rfl (lv_at hl 1 rfl) ?_
        refine m_ald (i := j) E hK I 0 rfl rfl rfl dX1_cell_55 (by simp only [mLn]; omega) ?_
        refine lv_bipush (v := (-9)) hx hb dX1_cell_56 (by decide) ?_
        refine lv_icmp_ne (tgt := 67) hx hb dX1_cell_58 (by decide) (fun c58 => absurd c58 (by rw [up_k (by decide)] at c31 ⊢; exact not_not_intro c31)) (fun c58 => ?_)
        refine lv_aload_n hx hb dX1_cell_61 rfl (lv_at hl 0 rfl) ?_
        refine lv_iconst (v := 1) hx hb dX1_cell_62 (by decide) ?_
        refine m_cl E hK hA I (m_lost l D ty o ad (up σ 0 0 0) 1) go_m_lost dc_m_lost ⟨Nat.le_of_ble_eq_true rfl, Nat.le_of_ble_eq_true rfl⟩ ⟨Nat.le_refl 0, Nat.le_refl 0⟩ hl.1 (Nat.le_of_ble_eq_true rfl) rfl dX1_cell_63 (fun r63 σ63 H locs hp I => ?_)
        refine top_l (y := (-9223372036854775808)) hp.1 ?_
        have I := m_as I hp.2
        exact r_l E hlk hr I (Nat.le_refl 0) (Nat.le_refl 0) dX1_cell_66 (⟨by rw [up_k (by decide)] at c31; simp only [c9, c16, Bool.and_self, if_true, nI_clamp (show j < 2 ^ 31 by omega)]; rw [if_pos c31], by rw [up_k (by decide)] at c31; simp only [c9, c16, Bool.and_self, if_true, nI_clamp (show j < 2 ^ 31 by omega)]; rw [if_pos c31]⟩)
      · refine lv_aload_n hx hb dX1_cell_34 rfl (lv_at hl 0 rfl) ?_
        refine m_get E hK I 2 rfl q1117 rfl dX1_cell_35 ?_
        refine lv_iload_n hx hb dX1_cell_38 rfl (lv_at hl 1 rfl) ?_
        refine m_ald (i := j) E hK I 0 rfl rfl rfl dX1_cell_39 (by simp only [mLn]; omega) ?_
        refine lv_iload_n hx hb dX1_cell_40 rfl (lv_at hl 3 rfl) ?_
        refine lv_icmp_eq (tgt := 50) hx hb dX1_cell_41 (by decide) (fun c41 => ?_) (fun c41 => ?_)
        · refine lv_aload_n hx hb dX1_cell_50 rfl (lv_at hl 0 rfl) ?_
          refine m_get E hK I 2 rfl q1117 rfl dX1_cell_51 ?_
          refine lv_iload_n hx hb dX1_cell_54 rfl (lv_at hl 1 rfl) ?_
          refine m_ald (i := j) E hK I 0 rfl rfl rfl dX1_cell_55 (by simp only [mLn]; omega) ?_
          refine lv_bipush (v := (-9)) hx hb dX1_cell_56 (by decide) ?_
          refine lv_icmp_ne (tgt := 67) hx hb dX1_cell_58 (by decide) (fun c58 => ?_) (fun c58 => absurd c58 (by rw [up_k (by decide)] at c31 ⊢; exact c31))
          refine lv_iload_n hx hb dX1_cell_67 rfl (lv_at hl 2 rfl) ?_
          refine lv_iconst (v := 0) hx hb dX1_cell_68 (by decide) ?_
          refine lv_aload_n hx hb dX1_cell_69 rfl (lv_at hl 0 rfl) ?_
          refine m_get E hK I 3 rfl q1118 rfl dX1_cell_70 ?_
          refine lv_iload_n hx hb dX1_cell_73 rfl (lv_at hl 1 rfl) ?_
          refine m_ald (i := j) E hK I 1 rfl rfl rfl dX1_cell_74 (by simp only [mLn]; omega) ?_
          refine lv_iconst (v := 1) hx hb dX1_cell_75 (by decide) ?_
          refine lv_isub hx hb dX1_cell_76 ?_
          refine c_Si E (m_within l i 0 (((up σ 0 0 0) 3 j) - 1)) go_m_within ⟨rfl, rfl⟩ dc_m_within ⟨Nat.le_of_ble_eq_true rfl, Nat.le_of_ble_eq_true rfl⟩ ⟨Nat.le_refl 0, Nat.le_refl 0⟩ hl.1 (Nat.le_of_ble_eq_true rfl) rfl dX1_cell_77 (fun r77 hp => ?_)
          refine top_i (y := bI (wi i 0 (((up σ 0 0 0) 3 j) - 1))) hp ?_
          refine b_ne (tgt := 89) hx hb dX1_cell_80 (by decide) (fun c80 => ?_) (fun c80 => ?_)
          · obtain ⟨n, hn, en⟩ := hL j (by omega)
            have c80' : wi i 0 (nI n - 1) = true := by rw [← en]; simpa [up] using c80
            obtain ⟨q, hq, eq⟩ := wi_idx hn c80'
            subst eq
            refine lv_aload_n hx hb dX1_cell_89 rfl (lv_at hl 0 rfl) ?_
            refine m_get E hK I 4 rfl q1119 rfl dX1_cell_90 ?_
            refine lv_bipush (v := 40) hx hb dX1_cell_93 (by decide) ?_
            refine lv_iload_n hx hb dX1_cell_95 rfl (lv_at hl 1 rfl) ?_
            refine lv_imul hx hb dX1_cell_96 ?_
            refine lv_iload_n hx hb dX1_cell_97 rfl (lv_at hl 2 rfl) ?_
            refine lv_iadd hx hb dX1_cell_98 ?_
            refine top_i (y := nI (40 * j + q)) (i40 j q) ?_
            refine m_ald (i := (40 * j + q)) E hK I 2 rfl rfl rfl dX1_cell_99 (by simp only [mLn]; omega) ?_
            refine lv_i2l hx hb dX1_cell_100 rfl ?_
            exact r_l E hlk hr I (Nat.le_refl 0) (Nat.le_refl 0) dX1_cell_101 (⟨by rw [up_k (by decide)] at c31; rw [up_k (by decide)] at c41; rw [up_k (by decide)] at c80; simp only [c9, c16, Bool.and_self, if_true, nI_clamp (show j < 2 ^ 31 by omega)]; rw [if_neg c31, if_pos c41]; simp only [nI_clamp (show q < 2 ^ 31 by omega), c80, if_true, Bool.false_eq_true, if_false]; rw [up_k (by decide)], by rw [up_k (by decide)] at c31; rw [up_k (by decide)] at c41; rw [up_k (by decide)] at c80; simp only [c9, c16, Bool.and_self, if_true, nI_clamp (show j < 2 ^ 31 by omega)]; rw [if_neg c31, if_pos c41]; simp only [nI_clamp (show q < 2 ^ 31 by omega), c80, if_true, Bool.false_eq_true, if_false]⟩)
          · refine lv_aload_n hx hb dX1_cell_83 rfl (lv_at hl 0 rfl) ?_
            refine lv_iconst (v := 3) hx hb dX1_cell_84 (by decide) ?_
            refine m_cl E hK hA I (m_lost l D ty o ad (up σ 0 0 0) 3) go_m_lost dc_m_lost ⟨Nat.le_of_ble_eq_true rfl, Nat.le_of_ble_eq_true rfl⟩ ⟨Nat.le_refl 0, Nat.le_refl 0⟩ hl.1 (Nat.le_of_ble_eq_true rfl) rfl dX1_cell_85 (fun r85 σ85 H locs hp I => ?_)
            refine top_l (y := (-9223372036854775808)) hp.1 ?_
            have I := m_as I hp.2
            exact r_l E hlk hr I (Nat.le_refl 0) (Nat.le_refl 0) dX1_cell_88 (⟨by rw [up_k (by decide)] at c31; rw [up_k (by decide)] at c41; rw [up_k (by decide)] at c80; simp only [c9, c16, Bool.and_self, if_true, nI_clamp (show j < 2 ^ 31 by omega)]; rw [if_neg c31, if_pos c41]; simp only [c80, if_true, Bool.false_eq_true, if_false], by rw [up_k (by decide)] at c31; rw [up_k (by decide)] at c41; rw [up_k (by decide)] at c80; simp only [c9, c16, Bool.and_self, if_true, nI_clamp (show j < 2 ^ 31 by omega)]; rw [if_neg c31, if_pos c41]; simp only [c80, if_true, Bool.false_eq_true, if_false]⟩)
        · refine lv_aload_n hx hb dX1_cell_44 rfl (lv_at hl 0 rfl) ?_
          refine lv_iconst (v := 2) hx hb dX1_cell_45 (by decide) ?_
          refine m_cl E hK hA I (m_lost l D ty o ad (up σ 0 0 0) 2) go_m_lost dc_m_lost ⟨Nat.le_of_ble_eq_true rfl, Nat.le_of_ble_eq_true rfl⟩ ⟨Nat.le_refl 0, Nat.le_refl 0⟩ hl.1 (Nat.le_of_ble_eq_true rfl) rfl dX1_cell_46 (fun r46 σ46 H locs hp I => ?_)
          refine top_l (y := (-9223372036854775808)) hp.1 ?_
          have I := m_as I hp.2
          exact r_l E hlk hr I (Nat.le_refl 0) (Nat.le_refl 0) dX1_cell_49 (⟨by rw [up_k (by decide)] at c31; rw [up_k (by decide)] at c41; simp only [c9, c16, Bool.and_self, if_true, nI_clamp (show j < 2 ^ 31 by omega)]; rw [if_neg c31, if_neg c41], by rw [up_k (by decide)] at c31; rw [up_k (by decide)] at c41; simp only [c9, c16, Bool.and_self, if_true, nI_clamp (show j < 2 ^ 31 by omega)]; rw [if_neg c31, if_neg c41]⟩)
    · refine lv_ldc2 (v := (-9223372036854775808)) hx hb E.2.2.2.1 (E.2.2.2.2 _ q1418) dX1_cell_19 ?_
      exact r_l E hlk hr I (Nat.le_refl 0) (Nat.le_refl 0) dX1_cell_22 (⟨by simp [c9, c16], by simp [c9, c16]⟩)
theorem dc_m_cell : yX1_cell.cls = RX1 ∧ yX1_cell.cls ≠ "java/lang/invoke/MethodHandle" ∧ yX1_cell.cls ≠ "java/lang/invoke/VarHandle" ∧ (parseMethodDescriptor yX1_cell.desc).map (fun d => d.parameters.length) = some 3 := by decide +kernel
