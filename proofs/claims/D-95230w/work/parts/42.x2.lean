set_option maxRecDepth 100000
set_option maxHeartbeats 4000000
def iMin (a b : Int32) : Int32 := if b < a then b else a
def iMax (a b : Int32) : Int32 := if a < b then b else a
def lMax (a b : Int64) : Int64 := if b < a then a else b
def lAb (x : Int64) : Int64 := if 0 < x then x else -x
def bitC0 (x : Int32) : Int32 := x - ((x.toUInt32 >>> ((1 : Int32).toUInt32 &&& Int32.toUInt32 31)).toInt32 &&& 1431655765)
def bitC1 (x : Int32) : Int32 := (x &&& 858993459) + ((x.toUInt32 >>> ((2 : Int32).toUInt32 &&& Int32.toUInt32 31)).toInt32 &&& 858993459)
def bitC2 (x : Int32) : Int32 := (x + (x.toUInt32 >>> ((4 : Int32).toUInt32 &&& Int32.toUInt32 31)).toInt32) &&& 252645135
def bitC3 (x : Int32) : Int32 := x + (x.toUInt32 >>> ((8 : Int32).toUInt32 &&& Int32.toUInt32 31)).toInt32
def bitC4 (x : Int32) : Int32 := x + (x.toUInt32 >>> ((16 : Int32).toUInt32 &&& Int32.toUInt32 31)).toInt32
def bitC (x : Int32) : Int32 := bitC4 (bitC3 (bitC2 (bitC1 (bitC0 x)))) &&& 63
theorem j_bitCount (l : Launch) (x : Int32) : Pi l yJ18_bitCount cJ18_bitCount 1 .int (rmL 1) [.int x] (fun r => r = bitC x) := by
  refine Pi.of (by decide) (Nat.le_of_ble_eq_true rfl) ?_
  intro p e s m below meth c ls args E hlk hr hl
  have hx := E.1
  have hb := E.2.1
  have hl : lv_has ls 1 [(0, .int x)] := hl
  refine lv_iload_n hx hb dJ18_bitCount_0 rfl (lv_at hl 0 rfl) ?_
  refine lv_iload_n hx hb dJ18_bitCount_1 rfl (lv_at hl 0 rfl) ?_
  refine lv_iconst (v := 1) hx hb dJ18_bitCount_2 (by decide) ?_
  refine lv_iushr hx hb dJ18_bitCount_3 rfl ?_
  refine lv_ldcw (v := 1431655765) hx hb E.2.2.2.1 (E.2.2.2.2 _ q627) dJ18_bitCount_4 ?_
  refine lv_iand hx hb dJ18_bitCount_7 ?_
  refine lv_isub hx hb dJ18_bitCount_8 ?_
  refine lv_istore_n (lv' := [(0, .int (x - (((x.toUInt32 >>> ((1 : Int32).toUInt32 &&& Int32.toUInt32 31)).toInt32) &&& 1431655765)))]) hx hb dJ18_bitCount_9 rfl hl (by decide) rfl (fun ls hl => ?_)
  refine lv_iload_n hx hb dJ18_bitCount_10 rfl (lv_at hl 0 rfl) ?_
  refine lv_ldcw (v := 858993459) hx hb E.2.2.2.1 (E.2.2.2.2 _ q628) dJ18_bitCount_11 ?_
  refine lv_iand hx hb dJ18_bitCount_14 ?_
  refine lv_iload_n hx hb dJ18_bitCount_15 rfl (lv_at hl 0 rfl) ?_
  refine lv_iconst (v := 2) hx hb dJ18_bitCount_16 (by decide) ?_
  refine lv_iushr hx hb dJ18_bitCount_17 rfl ?_
  refine lv_ldcw (v := 858993459) hx hb E.2.2.2.1 (E.2.2.2.2 _ q628) dJ18_bitCount_18 ?_
  refine lv_iand hx hb dJ18_bitCount_21 ?_
  refine lv_iadd hx hb dJ18_bitCount_22 ?_
  refine lv_istore_n (lv' := [(0, .int (((x - (((x.toUInt32 >>> ((1 : Int32).toUInt32 &&& Int32.toUInt32 31)).toInt32) &&& 1431655765)) &&& 858993459) + ((((x - (((x.toUInt32 >>> ((1 : Int32).toUInt32 &&& Int32.toUInt32 31)).toInt32) &&& 1431655765)).toUInt32 >>> ((2 : Int32).toUInt32 &&& Int32.toUInt32 31)).toInt32) &&& 858993459)))]) hx hb dJ18_bitCount_23 rfl hl (by decide) rfl (fun ls hl => ?_)
  refine lv_iload_n hx hb dJ18_bitCount_24 rfl (lv_at hl 0 rfl) ?_
  refine lv_iload_n hx hb dJ18_bitCount_25 rfl (lv_at hl 0 rfl) ?_
  refine lv_iconst (v := 4) hx hb dJ18_bitCount_26 (by decide) ?_
  refine lv_iushr hx hb dJ18_bitCount_27 rfl ?_
  refine lv_iadd hx hb dJ18_bitCount_28 ?_
  refine lv_ldcw (v := 252645135) hx hb E.2.2.2.1 (E.2.2.2.2 _ q629) dJ18_bitCount_29 ?_
  refine lv_iand hx hb dJ18_bitCount_32 ?_
  refine lv_istore_n (lv' := [(0, .int (((((x - (((x.toUInt32 >>> ((1 : Int32).toUInt32 &&& Int32.toUInt32 31)).toInt32) &&& 1431655765)) &&& 858993459) + ((((x - (((x.toUInt32 >>> ((1 : Int32).toUInt32 &&& Int32.toUInt32 31)).toInt32) &&& 1431655765)).toUInt32 >>> ((2 : Int32).toUInt32 &&& Int32.toUInt32 31)).toInt32) &&& 858993459)) + (((((x - (((x.toUInt32 >>> ((1 : Int32).toUInt32 &&& Int32.toUInt32 31)).toInt32) &&& 1431655765)) &&& 858993459) + ((((x - (((x.toUInt32 >>> ((1 : Int32).toUInt32 &&& Int32.toUInt32 31)).toInt32) &&& 1431655765)).toUInt32 >>> ((2 : Int32).toUInt32 &&& Int32.toUInt32 31)).toInt32) &&& 858993459)).toUInt32 >>> ((4 : Int32).toUInt32 &&& Int32.toUInt32 31)).toInt32)) &&& 252645135))]) hx hb dJ18_bitCount_33 rfl hl (by decide) rfl (fun ls hl => ?_)
  refine lv_iload_n hx hb dJ18_bitCount_34 rfl (lv_at hl 0 rfl) ?_
  refine lv_iload_n hx hb dJ18_bitCount_35 rfl (lv_at hl 0 rfl) ?_
  refine lv_bipush (v := 8) hx hb dJ18_bitCount_36 (by decide) ?_
  refine lv_iushr hx hb dJ18_bitCount_38 rfl ?_
  refine lv_iadd hx hb dJ18_bitCount_39 ?_
  refine lv_istore_n (lv' := [(0, .int ((((((x - (((x.toUInt32 >>> ((1 : Int32).toUInt32 &&& Int32.toUInt32 31)).toInt32) &&& 1431655765)) &&& 858993459) + ((((x - (((x.toUInt32 >>> ((1 : Int32).toUInt32 &&& Int32.toUInt32 31)).toInt32) &&& 1431655765)).toUInt32 >>> ((2 : Int32).toUInt32 &&& Int32.toUInt32 31)).toInt32) &&& 858993459)) + (((((x - (((x.toUInt32 >>> ((1 : Int32).toUInt32 &&& Int32.toUInt32 31)).toInt32) &&& 1431655765)) &&& 858993459) + ((((x - (((x.toUInt32 >>> ((1 : Int32).toUInt32 &&& Int32.toUInt32 31)).toInt32) &&& 1431655765)).toUInt32 >>> ((2 : Int32).toUInt32 &&& Int32.toUInt32 31)).toInt32) &&& 858993459)).toUInt32 >>> ((4 : Int32).toUInt32 &&& Int32.toUInt32 31)).toInt32)) &&& 252645135) + (((((((x - (((x.toUInt32 >>> ((1 : Int32).toUInt32 &&& Int32.toUInt32 31)).toInt32) &&& 1431655765)) &&& 858993459) + ((((x - (((x.toUInt32 >>> ((1 : Int32).toUInt32 &&& Int32.toUInt32 31)).toInt32) &&& 1431655765)).toUInt32 >>> ((2 : Int32).toUInt32 &&& Int32.toUInt32 31)).toInt32) &&& 858993459)) + (((((x - (((x.toUInt32 >>> ((1 : Int32).toUInt32 &&& Int32.toUInt32 31)).toInt32) &&& 1431655765)) &&& 858993459) + ((((x - (((x.toUInt32 >>> ((1 : Int32).toUInt32 &&& Int32.toUInt32 31)).toInt32) &&& 1431655765)).toUInt32 >>> ((2 : Int32).toUInt32 &&& Int32.toUInt32 31)).toInt32) &&& 858993459)).toUInt32 >>> ((4 : Int32).toUInt32 &&& Int32.toUInt32 31)).toInt32)) &&& 252645135).toUInt32 >>> ((8 : Int32).toUInt32 &&& Int32.toUInt32 31)).toInt32)))]) hx hb dJ18_bitCount_40 rfl hl (by decide) rfl (fun ls hl => ?_)
  refine lv_iload_n hx hb dJ18_bitCount_41 rfl (lv_at hl 0 rfl) ?_
  refine lv_iload_n hx hb dJ18_bitCount_42 rfl (lv_at hl 0 rfl) ?_
  refine lv_bipush (v := 16) hx hb dJ18_bitCount_43 (by decide) ?_
  refine lv_iushr hx hb dJ18_bitCount_45 rfl ?_
  refine lv_iadd hx hb dJ18_bitCount_46 ?_
  refine lv_istore_n (lv' := [(0, .int (((((((x - (((x.toUInt32 >>> ((1 : Int32).toUInt32 &&& Int32.toUInt32 31)).toInt32) &&& 1431655765)) &&& 858993459) + ((((x - (((x.toUInt32 >>> ((1 : Int32).toUInt32 &&& Int32.toUInt32 31)).toInt32) &&& 1431655765)).toUInt32 >>> ((2 : Int32).toUInt32 &&& Int32.toUInt32 31)).toInt32) &&& 858993459)) + (((((x - (((x.toUInt32 >>> ((1 : Int32).toUInt32 &&& Int32.toUInt32 31)).toInt32) &&& 1431655765)) &&& 858993459) + ((((x - (((x.toUInt32 >>> ((1 : Int32).toUInt32 &&& Int32.toUInt32 31)).toInt32) &&& 1431655765)).toUInt32 >>> ((2 : Int32).toUInt32 &&& Int32.toUInt32 31)).toInt32) &&& 858993459)).toUInt32 >>> ((4 : Int32).toUInt32 &&& Int32.toUInt32 31)).toInt32)) &&& 252645135) + (((((((x - (((x.toUInt32 >>> ((1 : Int32).toUInt32 &&& Int32.toUInt32 31)).toInt32) &&& 1431655765)) &&& 858993459) + ((((x - (((x.toUInt32 >>> ((1 : Int32).toUInt32 &&& Int32.toUInt32 31)).toInt32) &&& 1431655765)).toUInt32 >>> ((2 : Int32).toUInt32 &&& Int32.toUInt32 31)).toInt32) &&& 858993459)) + (((((x - (((x.toUInt32 >>> ((1 : Int32).toUInt32 &&& Int32.toUInt32 31)).toInt32) &&& 1431655765)) &&& 858993459) + ((((x - (((x.toUInt32 >>> ((1 : Int32).toUInt32 &&& Int32.toUInt32 31)).toInt32) &&& 1431655765)).toUInt32 >>> ((2 : Int32).toUInt32 &&& Int32.toUInt32 31)).toInt32) &&& 858993459)).toUInt32 >>> ((4 : Int32).toUInt32 &&& Int32.toUInt32 31)).toInt32)) &&& 252645135).toUInt32 >>> ((8 : Int32).toUInt32 &&& Int32.toUInt32 31)).toInt32)) + ((((((((x - (((x.toUInt32 >>> ((1 : Int32).toUInt32 &&& Int32.toUInt32 31)).toInt32) &&& 1431655765)) &&& 858993459) + ((((x - (((x.toUInt32 >>> ((1 : Int32).toUInt32 &&& Int32.toUInt32 31)).toInt32) &&& 1431655765)).toUInt32 >>> ((2 : Int32).toUInt32 &&& Int32.toUInt32 31)).toInt32) &&& 858993459)) + (((((x - (((x.toUInt32 >>> ((1 : Int32).toUInt32 &&& Int32.toUInt32 31)).toInt32) &&& 1431655765)) &&& 858993459) + ((((x - (((x.toUInt32 >>> ((1 : Int32).toUInt32 &&& Int32.toUInt32 31)).toInt32) &&& 1431655765)).toUInt32 >>> ((2 : Int32).toUInt32 &&& Int32.toUInt32 31)).toInt32) &&& 858993459)).toUInt32 >>> ((4 : Int32).toUInt32 &&& Int32.toUInt32 31)).toInt32)) &&& 252645135) + (((((((x - (((x.toUInt32 >>> ((1 : Int32).toUInt32 &&& Int32.toUInt32 31)).toInt32) &&& 1431655765)) &&& 858993459) + ((((x - (((x.toUInt32 >>> ((1 : Int32).toUInt32 &&& Int32.toUInt32 31)).toInt32) &&& 1431655765)).toUInt32 >>> ((2 : Int32).toUInt32 &&& Int32.toUInt32 31)).toInt32) &&& 858993459)) + (((((x - (((x.toUInt32 >>> ((1 : Int32).toUInt32 &&& Int32.toUInt32 31)).toInt32) &&& 1431655765)) &&& 858993459) + ((((x - (((x.toUInt32 >>> ((1 : Int32).toUInt32 &&& Int32.toUInt32 31)).toInt32) &&& 1431655765)).toUInt32 >>> ((2 : Int32).toUInt32 &&& Int32.toUInt32 31)).toInt32) &&& 858993459)).toUInt32 >>> ((4 : Int32).toUInt32 &&& Int32.toUInt32 31)).toInt32)) &&& 252645135).toUInt32 >>> ((8 : Int32).toUInt32 &&& Int32.toUInt32 31)).toInt32)).toUInt32 >>> ((16 : Int32).toUInt32 &&& Int32.toUInt32 31)).toInt32)))]) hx hb dJ18_bitCount_47 rfl hl (by decide) rfl (fun ls hl => ?_)
  refine lv_iload_n hx hb dJ18_bitCount_48 rfl (lv_at hl 0 rfl) ?_
  refine lv_bipush (v := 63) hx hb dJ18_bitCount_49 (by decide) ?_
  refine lv_iand hx hb dJ18_bitCount_51 ?_
  exact s_i E hlk hr dJ18_bitCount_52 (rfl)
theorem dc_j_bitCount : yJ18_bitCount.cls ≠ "java/lang/invoke/MethodHandle" ∧ yJ18_bitCount.cls ≠ "java/lang/invoke/VarHandle" ∧ (parseMethodDescriptor yJ18_bitCount.desc).map (fun d => d.parameters.length) = some 1 := by decide +kernel
theorem go_j_bitCount_X0 : GoodIn lw_all (va_wsS RX0 280 yJ18_bitCount (ws_ yJ18_bitCount cJ18_bitCount 1 (some .int))) := lw_S q624 q625 q97 q626
theorem x_isBook (l : Launch) (x : Int32) (d : Int32) (a : Int32) (b : Int32) : Pi l yX0_isBook cX0_isBook 4 .boolean (rmL 2) [.int x, .int d, .int a, .int b] (fun r => r = bI (mBook x d a b)) := by
  refine Pi.of (by decide) (Nat.le_of_ble_eq_true rfl) ?_
  intro p e s m below meth c ls args E hlk hr hl
  have hx := E.1
  have hb := E.2.1
  have hl : lv_has ls 4 [(0, .int x), (1, .int d), (2, .int a), (3, .int b)] := hl
  refine lv_iload_n hx hb dX0_isBook_0 rfl (lv_at hl 0 rfl) ?_
  refine lv_i2l hx hb dX0_isBook_1 rfl ?_
  refine lv_lconst (v := 0) hx hb dX0_isBook_2 (by decide) ?_
  refine top_l (y := (0 : Int32).toInt64) (by decide) ?_
  refine lv_ldc2 (v := 100) hx hb E.2.2.2.1 (E.2.2.2.2 _ q619) dX0_isBook_3 ?_
  refine top_l (y := (100 : Int32).toInt64) (by decide) ?_
  refine c_Si E (x_in l x 0 100) go_x_in ⟨rfl, rfl⟩ dc_x_in ⟨Nat.le_of_ble_eq_true rfl, Nat.le_of_ble_eq_true rfl⟩ ⟨Nat.le_refl 0, Nat.le_refl 0⟩ hl.1 (Nat.le_of_ble_eq_true rfl) rfl dX0_isBook_6 (fun r6 hp => ?_)
  refine top_i (y := bI (wi x 0 100)) hp ?_
  refine b_eq (tgt := 52) hx hb dX0_isBook_9 (by decide) (fun c9 => ?_) (fun c9 => ?_)
  · refine lv_iconst (v := 0) hx hb dX0_isBook_52 (by decide) ?_
    exact s_z (b := false) E hlk hr dX0_isBook_53 rfl (by simp [mBook, c9])
  · refine lv_iload_n hx hb dX0_isBook_12 rfl (lv_at hl 1 rfl) ?_
    refine lv_i2l hx hb dX0_isBook_13 rfl ?_
    refine lv_lconst (v := 0) hx hb dX0_isBook_14 (by decide) ?_
    refine top_l (y := (0 : Int32).toInt64) (by decide) ?_
    refine lv_ldc2 (v := 8) hx hb E.2.2.2.1 (E.2.2.2.2 _ q615) dX0_isBook_15 ?_
    refine top_l (y := (8 : Int32).toInt64) (by decide) ?_
    refine c_Si E (x_in l d 0 8) go_x_in ⟨rfl, rfl⟩ dc_x_in ⟨Nat.le_of_ble_eq_true rfl, Nat.le_of_ble_eq_true rfl⟩ ⟨Nat.le_refl 0, Nat.le_refl 0⟩ hl.1 (Nat.le_of_ble_eq_true rfl) rfl dX0_isBook_18 (fun r18 hp => ?_)
    refine top_i (y := bI (wi d 0 8)) hp ?_
    refine b_eq (tgt := 52) hx hb dX0_isBook_21 (by decide) (fun c21 => ?_) (fun c21 => ?_)
    · refine lv_iconst (v := 0) hx hb dX0_isBook_52 (by decide) ?_
      exact s_z (b := false) E hlk hr dX0_isBook_53 rfl (by simp [mBook, c9, c21])
    · refine lv_iload_n hx hb dX0_isBook_24 rfl (lv_at hl 2 rfl) ?_
      refine lv_i2l hx hb dX0_isBook_25 rfl ?_
      refine lv_lconst (v := 0) hx hb dX0_isBook_26 (by decide) ?_
      refine top_l (y := (0 : Int32).toInt64) (by decide) ?_
      refine lv_ldc2 (v := 9) hx hb E.2.2.2.1 (E.2.2.2.2 _ q620) dX0_isBook_27 ?_
      refine top_l (y := (9 : Int32).toInt64) (by decide) ?_
      refine c_Si E (x_in l a 0 9) go_x_in ⟨rfl, rfl⟩ dc_x_in ⟨Nat.le_of_ble_eq_true rfl, Nat.le_of_ble_eq_true rfl⟩ ⟨Nat.le_refl 0, Nat.le_refl 0⟩ hl.1 (Nat.le_of_ble_eq_true rfl) rfl dX0_isBook_30 (fun r30 hp => ?_)
      refine top_i (y := bI (wi a 0 9)) hp ?_
      refine b_eq (tgt := 52) hx hb dX0_isBook_33 (by decide) (fun c33 => ?_) (fun c33 => ?_)
      · refine lv_iconst (v := 0) hx hb dX0_isBook_52 (by decide) ?_
        exact s_z (b := false) E hlk hr dX0_isBook_53 rfl (by simp [mBook, c9, c21, c33])
      · refine lv_iload_n hx hb dX0_isBook_36 rfl (lv_at hl 3 rfl) ?_
        refine lv_i2l hx hb dX0_isBook_37 rfl ?_
        refine lv_lconst (v := 0) hx hb dX0_isBook_38 (by decide) ?_
        refine top_l (y := (0 : Int32).toInt64) (by decide) ?_
        refine lv_ldc2 (v := 9) hx hb E.2.2.2.1 (E.2.2.2.2 _ q620) dX0_isBook_39 ?_
        refine top_l (y := (9 : Int32).toInt64) (by decide) ?_
        refine c_Si E (x_in l b 0 9) go_x_in ⟨rfl, rfl⟩ dc_x_in ⟨Nat.le_of_ble_eq_true rfl, Nat.le_of_ble_eq_true rfl⟩ ⟨Nat.le_refl 0, Nat.le_refl 0⟩ hl.1 (Nat.le_of_ble_eq_true rfl) rfl dX0_isBook_42 (fun r42 hp => ?_)
        refine top_i (y := bI (wi b 0 9)) hp ?_
        refine b_eq (tgt := 52) hx hb dX0_isBook_45 (by decide) (fun c45 => ?_) (fun c45 => ?_)
        · refine lv_iconst (v := 0) hx hb dX0_isBook_52 (by decide) ?_
          exact s_z (b := false) E hlk hr dX0_isBook_53 rfl (by simp [mBook, c9, c21, c33, c45])
        · refine lv_iconst (v := 1) hx hb dX0_isBook_48 (by decide) ?_
          refine lv_goto (tgt := 53) hx hb dX0_isBook_49 (by decide) ?_
          exact s_z (b := true) E hlk hr dX0_isBook_53 rfl (by simp [mBook, c9, c21, c33, c45])
theorem dc_x_isBook : yX0_isBook.cls ≠ "java/lang/invoke/MethodHandle" ∧ yX0_isBook.cls ≠ "java/lang/invoke/VarHandle" ∧ (parseMethodDescriptor yX0_isBook.desc).map (fun d => d.parameters.length) = some 4 := by decide +kernel
theorem go_x_isBook : GoodIn lw_all (va_wsS RX0 289 yX0_isBook (ws_ yX0_isBook cX0_isBook 4 (some .boolean))) := lw_S q616 q617 q71 q618
def axV (c a b n : Int32) : Int32 := a * iMin n c - b * iMax 0 (n - c)
def axS (n : Nat) (x c a b : Int32) : Nat → Int64
  | 0 => 0
  | i + 1 => axS n x c a b i + awW x i n * (axV c a b (bitC (nI i))).toInt64
theorem x_awaited (l : Launch) (n : Nat) (x : Int32) (d : Int32) (a : Int32) (b : Int32) (hn : n ≤ 8) : Pl l yX0_awaited cX0_awaited 11 (rmL 2) [.int (nI n), .int x, .int d, .int a, .int b] (fun r => r = axS n x d a b (2 ^ n)) := by
  refine Pl.of (by decide) (Nat.le_of_ble_eq_true rfl) ?_
  intro p e s m below meth c ls args E hlk hr hl
  have hx := E.1
  have hb := E.2.1
  have hl : lv_has ls 11 [(0, .int (nI n)), (1, .int x), (2, .int d), (3, .int a), (4, .int b)] := hl
  refine nameQ (fun Q hQ => ?_)
  refine lv_lconst (v := 0) hx hb dX0_awaited_0 (by decide) ?_
  refine lv_lstore (lv' := [(5, .long 0), (0, .int (nI n)), (1, .int x), (2, .int d), (3, .int a), (4, .int b)]) hx hb dX0_awaited_1 hl (by decide) rfl (fun ls hl => ?_)
  refine lv_iconst (v := 0) hx hb dX0_awaited_3 (by decide) ?_
  refine lv_istore (lv' := [(7, .int 0), (5, .long 0), (0, .int (nI n)), (1, .int x), (2, .int d), (3, .int a), (4, .int b)]) hx hb dX0_awaited_4 hl (by decide) rfl (fun ls hl => ?_)
  have h2 := pow8 n hn
  have L6 : ∀ i, i ≤ (2 ^ n) → ∀ (ls : Array Slot), lv_has ls 11 [(0, .int (nI n)), (1, .int x), (2, .int d), (3, .int a), (4, .int b), (5, .long (axS n x d a b i)), (7, .int (nI i))] → W p l e (rmL 2) s m args below meth c s.heap [] 0 0 Q (F0 m 6 ls []) := by
    refine dn_ind (2 ^ n) ?_ ?_
    · intro ls hl
      refine lv_iload hx hb dX0_awaited_6 (lv_at hl 6 rfl) ?_
      refine lv_iconst (v := 1) hx hb dX0_awaited_8 (by decide) ?_
      refine lv_iload_n hx hb dX0_awaited_9 rfl (lv_at hl 0 rfl) ?_
      refine lv_ishl hx hb dX0_awaited_10 ?_
      refine top_i (y := nI (2 ^ n)) (shl1 n hn) ?_
      refine lv_icmp_ge (tgt := 100) hx hb dX0_awaited_11 (by decide) (fun c11 => ?_) (fun c11 => absurd c11 (fun h => h (Int32.le_refl _)))
      refine lv_lload hx hb dX0_awaited_100 (lv_at hl 5 rfl) ?_
      subst hQ
      exact s_l E hlk hr dX0_awaited_102 (rfl)
    · intro i hi ih6 ls hl
      refine lv_iload hx hb dX0_awaited_6 (lv_at hl 6 rfl) ?_
      refine lv_iconst (v := 1) hx hb dX0_awaited_8 (by decide) ?_
      refine lv_iload_n hx hb dX0_awaited_9 rfl (lv_at hl 0 rfl) ?_
      refine lv_ishl hx hb dX0_awaited_10 ?_
      refine top_i (y := nI (2 ^ n)) (shl1 n hn) ?_
      refine lv_icmp_ge (tgt := 100) hx hb dX0_awaited_11 (by decide) (fun c11 => absurd c11 (nI_ge hi (by omega))) (fun c11 => ?_)
      refine lv_lconst (v := 1) hx hb dX0_awaited_14 (by decide) ?_
      refine lv_lstore (lv' := [(8, .long 1), (0, .int (nI n)), (1, .int x), (2, .int d), (3, .int a), (4, .int b), (5, .long (axS n x d a b i)), (7, .int (nI i))]) hx hb dX0_awaited_15 hl (by decide) rfl (fun ls hl => ?_)
      refine lv_iconst (v := 0) hx hb dX0_awaited_17 (by decide) ?_
      refine lv_istore (lv' := [(10, .int 0), (8, .long 1), (0, .int (nI n)), (1, .int x), (2, .int d), (3, .int a), (4, .int b), (5, .long (axS n x d a b i)), (7, .int (nI i))]) hx hb dX0_awaited_18 hl (by decide) rfl (fun ls hl => ?_)
      have L20 : ∀ k, k ≤ n → ∀ (ls : Array Slot), lv_has ls 11 [(0, .int (nI n)), (1, .int x), (2, .int d), (3, .int a), (4, .int b), (5, .long (axS n x d a b i)), (7, .int (nI i)), (8, .long (awW x i k)), (10, .int (nI k))] → W p l e (rmL 2) s m args below meth c s.heap [] 0 0 Q (F0 m 20 ls []) := by
        refine dn_ind n ?_ ?_
        · intro ls hl
          refine lv_iload hx hb dX0_awaited_20 (lv_at hl 8 rfl) ?_
          refine lv_iload_n hx hb dX0_awaited_22 rfl (lv_at hl 0 rfl) ?_
          refine lv_icmp_ge (tgt := 58) hx hb dX0_awaited_23 (by decide) (fun c23 => ?_) (fun c23 => absurd c23 (fun h => h (Int32.le_refl _)))
          refine lv_iload hx hb dX0_awaited_58 (lv_at hl 6 rfl) ?_
          refine c_Si E (j_bitCount l (nI i)) go_j_bitCount_X0 ⟨rfl, rfl⟩ dc_j_bitCount ⟨Nat.le_of_ble_eq_true rfl, Nat.le_of_ble_eq_true rfl⟩ ⟨Nat.le_refl 0, Nat.le_refl 0⟩ hl.1 (Nat.le_of_ble_eq_true rfl) rfl dX0_awaited_60 (fun r60 hp => ?_)
          refine top_i (y := bitC (nI i)) hp ?_
          refine lv_istore (lv' := [(10, .int (bitC (nI i))), (0, .int (nI n)), (1, .int x), (2, .int d), (3, .int a), (4, .int b), (5, .long (axS n x d a b i)), (7, .int (nI i)), (8, .long (awW x i n))]) hx hb dX0_awaited_63 hl (by decide) rfl (fun ls hl => ?_)
          refine lv_lload hx hb dX0_awaited_65 (lv_at hl 6 rfl) ?_
          refine lv_lload hx hb dX0_awaited_67 (lv_at hl 8 rfl) ?_
          refine lv_iload_n hx hb dX0_awaited_69 rfl (lv_at hl 4 rfl) ?_
          refine lv_iload hx hb dX0_awaited_70 (lv_at hl 0 rfl) ?_
          refine lv_iload_n hx hb dX0_awaited_72 rfl (lv_at hl 3 rfl) ?_
          refine va_mmin hx hb (E.2.2.1.trans hl.1.symm) E.2.2.2.1 (E.2.2.2.2 _ q574) (E.2.2.2.2 _ q394) (E.2.2.2.2 _ q89) (E.2.2.2.2 _ q395) (Nat.le_of_ble_eq_true rfl) (Nat.le_of_ble_eq_true rfl) (Nat.le_refl 0) (Nat.le_refl 0) dX0_awaited_73 ?_
          refine top_i (y := (iMin (bitC (nI i)) d)) rfl ?_
          refine lv_imul hx hb dX0_awaited_76 ?_
          refine lv_iload hx hb dX0_awaited_77 (lv_at hl 5 rfl) ?_
          refine lv_iconst (v := 0) hx hb dX0_awaited_79 (by decide) ?_
          refine lv_iload hx hb dX0_awaited_80 (lv_at hl 0 rfl) ?_
          refine lv_iload_n hx hb dX0_awaited_82 rfl (lv_at hl 3 rfl) ?_
          refine lv_isub hx hb dX0_awaited_83 ?_
          refine va_mmax hx hb (E.2.2.1.trans hl.1.symm) E.2.2.2.1 (E.2.2.2.2 _ q588) (E.2.2.2.2 _ q358) (E.2.2.2.2 _ q89) (E.2.2.2.2 _ q359) (Nat.le_of_ble_eq_true rfl) (Nat.le_of_ble_eq_true rfl) (Nat.le_refl 0) (Nat.le_refl 0) dX0_awaited_84 ?_
          refine top_i (y := (iMax 0 ((bitC (nI i)) - d))) rfl ?_
          refine lv_imul hx hb dX0_awaited_87 ?_
          refine lv_isub hx hb dX0_awaited_88 ?_
          refine lv_i2l hx hb dX0_awaited_89 rfl ?_
          refine lv_lmul hx hb dX0_awaited_90 ?_
          refine lv_ladd hx hb dX0_awaited_91 ?_
          refine lv_lstore (lv' := [(5, .long ((axS n x d a b i) + ((awW x i n) * ((((a * (iMin (bitC (nI i)) d)) - (b * (iMax 0 ((bitC (nI i)) - d))))).toInt64)))), (10, .int (bitC (nI i))), (0, .int (nI n)), (1, .int x), (2, .int d), (3, .int a), (4, .int b), (7, .int (nI i)), (8, .long (awW x i n))]) hx hb dX0_awaited_92 hl (by decide) rfl (fun ls hl => ?_)
          refine lv_iinc (v := nI (i + 1)) (lv' := [(7, .int (nI (i + 1))), (5, .long ((axS n x d a b i) + ((awW x i n) * ((((a * (iMin (bitC (nI i)) d)) - (b * (iMax 0 ((bitC (nI i)) - d))))).toInt64)))), (10, .int (bitC (nI i))), (0, .int (nI n)), (1, .int x), (2, .int d), (3, .int a), (4, .int b), (8, .long (awW x i n))]) hx hb dX0_awaited_94 hl (k := 7) rfl (nI_1 _) (by decide) rfl (fun ls hl => ?_)
          refine lv_goto (tgt := 6) hx hb dX0_awaited_97 (by decide) ?_
          exact ih6 ls (lv_as (lv_sub (l' := [(0, .int (nI n)), (1, .int x), (2, .int d), (3, .int a), (4, .int b), (5, .long ((axS n x d a b i) + ((awW x i n) * ((((a * (iMin (bitC (nI i)) d)) - (b * (iMax 0 ((bitC (nI i)) - d))))).toInt64)))), (7, .int (nI (i + 1)))]) hl [3, 4, 5, 6, 7, 1, 0] rfl) (by simp [axS, axV]))
        · intro k hk ih20 ls hl
          refine lv_iload hx hb dX0_awaited_20 (lv_at hl 8 rfl) ?_
          refine lv_iload_n hx hb dX0_awaited_22 rfl (lv_at hl 0 rfl) ?_
          refine lv_icmp_ge (tgt := 58) hx hb dX0_awaited_23 (by decide) (fun c23 => absurd c23 (nI_ge hk (by omega))) (fun c23 => ?_)
          refine lv_lload hx hb dX0_awaited_26 (lv_at hl 7 rfl) ?_
          refine lv_iload hx hb dX0_awaited_28 (lv_at hl 6 rfl) ?_
          refine lv_iload hx hb dX0_awaited_30 (lv_at hl 8 rfl) ?_
          refine lv_ishr hx hb dX0_awaited_32 ?_
          refine lv_iconst (v := 1) hx hb dX0_awaited_33 (by decide) ?_
          refine lv_iand hx hb dX0_awaited_34 ?_
          refine lv_iconst (v := 1) hx hb dX0_awaited_35 (by decide) ?_
          refine lv_icmp_ne (tgt := 44) hx hb dX0_awaited_36 (by decide) (fun c36 => ?_) (fun c36 => ?_)
          · refine lv_bipush (v := 100) hx hb dX0_awaited_44 (by decide) ?_
            refine lv_iload_n hx hb dX0_awaited_46 rfl (lv_at hl 1 rfl) ?_
            refine lv_isub hx hb dX0_awaited_47 ?_
            refine lv_i2l hx hb dX0_awaited_48 rfl ?_
            refine lv_lmul hx hb dX0_awaited_49 ?_
            refine lv_lstore (lv' := [(8, .long ((awW x i k) * (((100 - x)).toInt64))), (0, .int (nI n)), (1, .int x), (2, .int d), (3, .int a), (4, .int b), (5, .long (axS n x d a b i)), (7, .int (nI i)), (10, .int (nI k))]) hx hb dX0_awaited_50 hl (by decide) rfl (fun ls hl => ?_)
            refine lv_iinc (v := nI (k + 1)) (lv' := [(10, .int (nI (k + 1))), (8, .long ((awW x i k) * (((100 - x)).toInt64))), (0, .int (nI n)), (1, .int x), (2, .int d), (3, .int a), (4, .int b), (5, .long (axS n x d a b i)), (7, .int (nI i))]) hx hb dX0_awaited_52 hl (k := 8) rfl (nI_1 _) (by decide) rfl (fun ls hl => ?_)
            refine lv_goto (tgt := 20) hx hb dX0_awaited_55 (by decide) ?_
            exact ih20 ls (lv_as (lv_sub (l' := [(0, .int (nI n)), (1, .int x), (2, .int d), (3, .int a), (4, .int b), (5, .long (axS n x d a b i)), (7, .int (nI i)), (8, .long ((awW x i k) * (((100 - x)).toInt64))), (10, .int (nI (k + 1)))]) hl [2, 3, 4, 5, 6, 7, 8, 1, 0] rfl) (by simp [awW, abit, c36]))
          · refine lv_iload_n hx hb dX0_awaited_39 rfl (lv_at hl 1 rfl) ?_
            refine lv_i2l hx hb dX0_awaited_40 rfl ?_
            refine lv_goto (tgt := 49) hx hb dX0_awaited_41 (by decide) ?_
            refine lv_lmul hx hb dX0_awaited_49 ?_
            refine lv_lstore (lv' := [(8, .long ((awW x i k) * ((x).toInt64))), (0, .int (nI n)), (1, .int x), (2, .int d), (3, .int a), (4, .int b), (5, .long (axS n x d a b i)), (7, .int (nI i)), (10, .int (nI k))]) hx hb dX0_awaited_50 hl (by decide) rfl (fun ls hl => ?_)
            refine lv_iinc (v := nI (k + 1)) (lv' := [(10, .int (nI (k + 1))), (8, .long ((awW x i k) * ((x).toInt64))), (0, .int (nI n)), (1, .int x), (2, .int d), (3, .int a), (4, .int b), (5, .long (axS n x d a b i)), (7, .int (nI i))]) hx hb dX0_awaited_52 hl (k := 8) rfl (nI_1 _) (by decide) rfl (fun ls hl => ?_)
            refine lv_goto (tgt := 20) hx hb dX0_awaited_55 (by decide) ?_
            exact ih20 ls (lv_as (lv_sub (l' := [(0, .int (nI n)), (1, .int x), (2, .int d), (3, .int a), (4, .int b), (5, .long (axS n x d a b i)), (7, .int (nI i)), (8, .long ((awW x i k) * ((x).toInt64))), (10, .int (nI (k + 1)))]) hl [2, 3, 4, 5, 6, 7, 8, 1, 0] rfl) (by simp [awW, abit, c36]))
      exact L20 0 (Nat.zero_le _) ls (lv_as (lv_sub (l' := [(0, .int (nI n)), (1, .int x), (2, .int d), (3, .int a), (4, .int b), (5, .long (axS n x d a b i)), (7, .int (nI i)), (8, .long 1), (10, .int 0)]) hl [2, 3, 4, 5, 6, 7, 8, 1, 0] rfl) (rfl))
  exact L6 0 (Nat.zero_le _) ls (lv_as (lv_sub (l' := [(0, .int (nI n)), (1, .int x), (2, .int d), (3, .int a), (4, .int b), (5, .long 0), (7, .int 0)]) hl [2, 3, 4, 5, 6, 1, 0] rfl) (rfl))
theorem dc_x_awaited : yX0_awaited.cls ≠ "java/lang/invoke/MethodHandle" ∧ yX0_awaited.cls ≠ "java/lang/invoke/VarHandle" ∧ (parseMethodDescriptor yX0_awaited.desc).map (fun d => d.parameters.length) = some 5 := by decide +kernel
theorem go_x_awaited : GoodIn lw_all (va_wsS RX0 293 yX0_awaited (ws_ yX0_awaited cX0_awaited 11 (some .long))) := lw_S q621 q622 q71 q623
theorem go_x_hundreds : GoodIn lw_all (va_wsS RX0 285 yX0_hundreds (ws_ yX0_hundreds cX0_hundreds 1 (some .long))) := lw_S q630 q631 q71 q632
theorem dc_x_hundreds : yX0_hundreds.cls ≠ "java/lang/invoke/MethodHandle" ∧ yX0_hundreds.cls ≠ "java/lang/invoke/VarHandle" ∧ (parseMethodDescriptor yX0_hundreds.desc).map (fun d => d.parameters.length) = some 1 := by decide +kernel
theorem x_hundreds (l : Launch) (n : Nat) (hn : n ≤ 8) (k : Nat) (hk : n + 1 ≤ k) : Pl l yX0_hundreds cX0_hundreds 1 (rmL k) [.int (nI n)] (fun r => r = hun n) := by
  induction n generalizing k with
  | zero =>
    refine Pl.of (by decide) (Nat.le_of_ble_eq_true rfl) ?_
    intro p e s m below meth c ls args E hlk hr hl
    have hx := E.1
    have hb := E.2.1
    have hl : lv_has ls 1 [(0, .int (nI 0))] := hl
    refine lv_iload_n hx hb dX0_hundreds_0 rfl (lv_at hl 0 rfl) ?_
    refine lv_if_ne (tgt := 8) hx hb dX0_hundreds_1 (by decide) (fun c1 => absurd c1 (not_not_intro rfl)) (fun c1 => ?_)
    refine lv_lconst (v := 1) hx hb dX0_hundreds_4 (by decide) ?_
    refine lv_goto (tgt := 18) hx hb dX0_hundreds_5 (by decide) ?_
    exact s_l E hlk hr dX0_hundreds_18 (by rfl)
  | succ n ih =>
    refine Pl.of (by decide) (Nat.le_of_ble_eq_true rfl) ?_
    intro p e s m below meth c ls args E hlk hr hl
    have hx := E.1
    have hb := E.2.1
    have hl : lv_has ls 1 [(0, .int (nI (n + 1)))] := hl
    refine lv_iload_n hx hb dX0_hundreds_0 rfl (lv_at hl 0 rfl) ?_
    refine lv_if_ne (tgt := 8) hx hb dX0_hundreds_1 (by decide) (fun c1 => ?_) (fun c1 => absurd c1 (nI_ne0 (by omega) (by omega)))
    refine lv_ldc2 (v := 100) hx hb E.2.2.2.1 (E.2.2.2.2 _ q619) dX0_hundreds_8 ?_
    refine lv_iload_n hx hb dX0_hundreds_11 rfl (lv_at hl 0 rfl) ?_
    refine lv_iconst (v := 1) hx hb dX0_hundreds_12 (by decide) ?_
    refine lv_isub hx hb dX0_hundreds_13 ?_
    refine top_i (y := nI n) (nI_m1 n) ?_
    obtain ⟨k, rfl⟩ : ∃ j, k = j + 1 := ⟨k - 1, by omega⟩
    refine c_Sl (rm := rmL k) E (ih (by omega) k (by omega)) go_x_hundreds ⟨rfl, rfl⟩ dc_x_hundreds ⟨Nat.le_refl _, by simp only [rmL]; omega⟩ ⟨Nat.le_refl 0, Nat.le_refl 0⟩ hl.1 (Nat.le_of_ble_eq_true rfl) rfl dX0_hundreds_14 (fun r14 hp => ?_)
    refine top_l (y := hun n) hp ?_
    refine lv_lmul hx hb dX0_hundreds_17 ?_
    exact s_l E hlk hr dX0_hundreds_18 (by simp only [hun]; rw [Int64.mul_comm])
