set_option maxRecDepth 100000
set_option maxHeartbeats 4000000
def abit (i k : Nat) : Bool := decide (((nI i >>> (nI k &&& 31)) &&& 1) = 1)
def awW (x : Int32) (i : Nat) : Nat → Int64
  | 0 => 1
  | k + 1 => awW x i k * (if abit i k then x.toInt64 else (100 - x).toInt64)
def awV (c a b n : Int32) : Int32 := if n ≤ c then a * n else a * c - b * (n - c)
def awS (n : Nat) (x c a b : Int32) : Nat → Int64
  | 0 => 0
  | i + 1 => awS n x c a b i + awW x i n * (awV c a b (nI (cnt (abit i) n))).toInt64
theorem shl1 : ∀ n, n ≤ 8 → (1 : Int32) <<< (nI n &&& 31) = nI (2 ^ n) := by decide +kernel
theorem pow8 : ∀ n, n ≤ 8 → 2 ^ n ≤ 256 := by decide +kernel
theorem m_awaited (l : Launch) (n : Nat) (x : Int32) (d : Int32) (a : Int32) (b : Int32) (hn : n ≤ 8) : Pl l yX1_awaited cX1_awaited 13 (rmL 1) [.int (nI n), .int x, .int d, .int a, .int b] (fun r => r = awS n x d a b (2 ^ n)) := by
  refine Pl.of (by decide) (Nat.le_of_ble_eq_true rfl) ?_
  intro p e s m below meth c ls args E hlk hr hl
  have hx := E.1
  have hb := E.2.1
  have hl : lv_has ls 13 [(0, .int (nI n)), (1, .int x), (2, .int d), (3, .int a), (4, .int b)] := hl
  refine nameQ (fun Q hQ => ?_)
  refine lv_lconst (v := 0) hx hb dX1_awaited_0 (by decide) ?_
  refine lv_lstore (lv' := [(5, .long 0), (0, .int (nI n)), (1, .int x), (2, .int d), (3, .int a), (4, .int b)]) hx hb dX1_awaited_1 hl (by decide) rfl (fun ls hl => ?_)
  refine lv_iconst (v := 0) hx hb dX1_awaited_3 (by decide) ?_
  refine lv_istore (lv' := [(7, .int 0), (5, .long 0), (0, .int (nI n)), (1, .int x), (2, .int d), (3, .int a), (4, .int b)]) hx hb dX1_awaited_4 hl (by decide) rfl (fun ls hl => ?_)
  have h2 := pow8 n hn
  have L6 : ∀ i, i ≤ (2 ^ n) → ∀ (ls : Array Slot), lv_has ls 13 [(0, .int (nI n)), (1, .int x), (2, .int d), (3, .int a), (4, .int b), (5, .long (awS n x d a b i)), (7, .int (nI i))] → W p l e (rmL 1) s m args below meth c s.heap [] 0 0 Q (F0 m 6 ls []) := by
    refine dn_ind (2 ^ n) ?_ ?_
    · intro ls hl
      refine lv_iload hx hb dX1_awaited_6 (lv_at hl 6 rfl) ?_
      refine lv_iconst (v := 1) hx hb dX1_awaited_8 (by decide) ?_
      refine lv_iload_n hx hb dX1_awaited_9 rfl (lv_at hl 0 rfl) ?_
      refine lv_ishl hx hb dX1_awaited_10 ?_
      refine top_i (y := nI (2 ^ n)) (shl1 n hn) ?_
      refine lv_icmp_ge (tgt := 127) hx hb dX1_awaited_11 (by decide) (fun c11 => ?_) (fun c11 => absurd c11 (fun h => h (Int32.le_refl _)))
      refine lv_lload hx hb dX1_awaited_127 (lv_at hl 5 rfl) ?_
      subst hQ
      exact s_l E hlk hr dX1_awaited_129 (rfl)
    · intro i hi ih6 ls hl
      refine lv_iload hx hb dX1_awaited_6 (lv_at hl 6 rfl) ?_
      refine lv_iconst (v := 1) hx hb dX1_awaited_8 (by decide) ?_
      refine lv_iload_n hx hb dX1_awaited_9 rfl (lv_at hl 0 rfl) ?_
      refine lv_ishl hx hb dX1_awaited_10 ?_
      refine top_i (y := nI (2 ^ n)) (shl1 n hn) ?_
      refine lv_icmp_ge (tgt := 127) hx hb dX1_awaited_11 (by decide) (fun c11 => absurd c11 (nI_ge hi (by omega))) (fun c11 => ?_)
      refine lv_lconst (v := 1) hx hb dX1_awaited_14 (by decide) ?_
      refine lv_lstore (lv' := [(8, .long 1), (0, .int (nI n)), (1, .int x), (2, .int d), (3, .int a), (4, .int b), (5, .long (awS n x d a b i)), (7, .int (nI i))]) hx hb dX1_awaited_15 hl (by decide) rfl (fun ls hl => ?_)
      refine lv_iconst (v := 0) hx hb dX1_awaited_17 (by decide) ?_
      refine lv_istore (lv' := [(10, .int 0), (8, .long 1), (0, .int (nI n)), (1, .int x), (2, .int d), (3, .int a), (4, .int b), (5, .long (awS n x d a b i)), (7, .int (nI i))]) hx hb dX1_awaited_18 hl (by decide) rfl (fun ls hl => ?_)
      refine lv_iconst (v := 0) hx hb dX1_awaited_20 (by decide) ?_
      refine lv_istore (lv' := [(11, .int 0), (10, .int 0), (8, .long 1), (0, .int (nI n)), (1, .int x), (2, .int d), (3, .int a), (4, .int b), (5, .long (awS n x d a b i)), (7, .int (nI i))]) hx hb dX1_awaited_21 hl (by decide) rfl (fun ls hl => ?_)
      have L23 : ∀ k, k ≤ n → ∀ (ls : Array Slot), lv_has ls 13 [(0, .int (nI n)), (1, .int x), (2, .int d), (3, .int a), (4, .int b), (5, .long (awS n x d a b i)), (7, .int (nI i)), (8, .long (awW x i k)), (10, .int (nI (cnt (abit i) k))), (11, .int (nI k))] → W p l e (rmL 1) s m args below meth c s.heap [] 0 0 Q (F0 m 23 ls []) := by
        refine dn_ind n ?_ ?_
        · intro ls hl
          refine lv_iload hx hb dX1_awaited_23 (lv_at hl 9 rfl) ?_
          refine lv_iload_n hx hb dX1_awaited_25 rfl (lv_at hl 0 rfl) ?_
          refine lv_icmp_ge (tgt := 88) hx hb dX1_awaited_26 (by decide) (fun c26 => ?_) (fun c26 => absurd c26 (fun h => h (Int32.le_refl _)))
          refine lv_lload hx hb dX1_awaited_88 (lv_at hl 5 rfl) ?_
          refine lv_lload hx hb dX1_awaited_90 (lv_at hl 7 rfl) ?_
          refine lv_iload hx hb dX1_awaited_92 (lv_at hl 8 rfl) ?_
          refine lv_iload_n hx hb dX1_awaited_94 rfl (lv_at hl 2 rfl) ?_
          refine lv_icmp_le (tgt := 112) hx hb dX1_awaited_95 (by decide) (fun c95 => ?_) (fun c95 => ?_)
          · refine lv_iload_n hx hb dX1_awaited_112 rfl (lv_at hl 3 rfl) ?_
            refine lv_iload hx hb dX1_awaited_113 (lv_at hl 8 rfl) ?_
            refine lv_imul hx hb dX1_awaited_115 ?_
            refine lv_i2l hx hb dX1_awaited_116 rfl ?_
            refine lv_lmul hx hb dX1_awaited_117 ?_
            refine lv_ladd hx hb dX1_awaited_118 ?_
            refine lv_lstore (lv' := [(5, .long ((awS n x d a b i) + ((awW x i n) * (((a * (nI (cnt (abit i) n)))).toInt64)))), (0, .int (nI n)), (1, .int x), (2, .int d), (3, .int a), (4, .int b), (7, .int (nI i)), (8, .long (awW x i n)), (10, .int (nI (cnt (abit i) n))), (11, .int (nI n))]) hx hb dX1_awaited_119 hl (by decide) rfl (fun ls hl => ?_)
            refine lv_iinc (v := nI (i + 1)) (lv' := [(7, .int (nI (i + 1))), (5, .long ((awS n x d a b i) + ((awW x i n) * (((a * (nI (cnt (abit i) n)))).toInt64)))), (0, .int (nI n)), (1, .int x), (2, .int d), (3, .int a), (4, .int b), (8, .long (awW x i n)), (10, .int (nI (cnt (abit i) n))), (11, .int (nI n))]) hx hb dX1_awaited_121 hl (k := 6) rfl (nI_1 _) (by decide) rfl (fun ls hl => ?_)
            refine lv_goto (tgt := 6) hx hb dX1_awaited_124 (by decide) ?_
            exact ih6 ls (lv_as (lv_sub (l' := [(0, .int (nI n)), (1, .int x), (2, .int d), (3, .int a), (4, .int b), (5, .long ((awS n x d a b i) + ((awW x i n) * (((a * (nI (cnt (abit i) n)))).toInt64)))), (7, .int (nI (i + 1)))]) hl [2, 3, 4, 5, 6, 1, 0] rfl) (by simp [awS, awV, c95]))
          · refine lv_iload_n hx hb dX1_awaited_98 rfl (lv_at hl 3 rfl) ?_
            refine lv_iload_n hx hb dX1_awaited_99 rfl (lv_at hl 2 rfl) ?_
            refine lv_imul hx hb dX1_awaited_100 ?_
            refine lv_iload hx hb dX1_awaited_101 (lv_at hl 4 rfl) ?_
            refine lv_iload hx hb dX1_awaited_103 (lv_at hl 8 rfl) ?_
            refine lv_iload_n hx hb dX1_awaited_105 rfl (lv_at hl 2 rfl) ?_
            refine lv_isub hx hb dX1_awaited_106 ?_
            refine lv_imul hx hb dX1_awaited_107 ?_
            refine lv_isub hx hb dX1_awaited_108 ?_
            refine lv_goto (tgt := 116) hx hb dX1_awaited_109 (by decide) ?_
            refine lv_i2l hx hb dX1_awaited_116 rfl ?_
            refine lv_lmul hx hb dX1_awaited_117 ?_
            refine lv_ladd hx hb dX1_awaited_118 ?_
            refine lv_lstore (lv' := [(5, .long ((awS n x d a b i) + ((awW x i n) * ((((a * d) - (b * ((nI (cnt (abit i) n)) - d)))).toInt64)))), (0, .int (nI n)), (1, .int x), (2, .int d), (3, .int a), (4, .int b), (7, .int (nI i)), (8, .long (awW x i n)), (10, .int (nI (cnt (abit i) n))), (11, .int (nI n))]) hx hb dX1_awaited_119 hl (by decide) rfl (fun ls hl => ?_)
            refine lv_iinc (v := nI (i + 1)) (lv' := [(7, .int (nI (i + 1))), (5, .long ((awS n x d a b i) + ((awW x i n) * ((((a * d) - (b * ((nI (cnt (abit i) n)) - d)))).toInt64)))), (0, .int (nI n)), (1, .int x), (2, .int d), (3, .int a), (4, .int b), (8, .long (awW x i n)), (10, .int (nI (cnt (abit i) n))), (11, .int (nI n))]) hx hb dX1_awaited_121 hl (k := 6) rfl (nI_1 _) (by decide) rfl (fun ls hl => ?_)
            refine lv_goto (tgt := 6) hx hb dX1_awaited_124 (by decide) ?_
            exact ih6 ls (lv_as (lv_sub (l' := [(0, .int (nI n)), (1, .int x), (2, .int d), (3, .int a), (4, .int b), (5, .long ((awS n x d a b i) + ((awW x i n) * ((((a * d) - (b * ((nI (cnt (abit i) n)) - d)))).toInt64)))), (7, .int (nI (i + 1)))]) hl [2, 3, 4, 5, 6, 1, 0] rfl) (by simp [awS, awV, c95]))
        · intro k hk ih23 ls hl
          refine lv_iload hx hb dX1_awaited_23 (lv_at hl 9 rfl) ?_
          refine lv_iload_n hx hb dX1_awaited_25 rfl (lv_at hl 0 rfl) ?_
          refine lv_icmp_ge (tgt := 88) hx hb dX1_awaited_26 (by decide) (fun c26 => absurd c26 (nI_ge hk (by omega))) (fun c26 => ?_)
          refine lv_iload hx hb dX1_awaited_29 (lv_at hl 6 rfl) ?_
          refine lv_iload hx hb dX1_awaited_31 (lv_at hl 9 rfl) ?_
          refine lv_ishr hx hb dX1_awaited_33 ?_
          refine lv_iconst (v := 1) hx hb dX1_awaited_34 (by decide) ?_
          refine lv_iand hx hb dX1_awaited_35 ?_
          refine lv_iconst (v := 1) hx hb dX1_awaited_36 (by decide) ?_
          refine lv_icmp_ne (tgt := 44) hx hb dX1_awaited_37 (by decide) (fun c37 => ?_) (fun c37 => ?_)
          · refine lv_iconst (v := 0) hx hb dX1_awaited_44 (by decide) ?_
            refine lv_istore (lv' := [(12, .int 0), (0, .int (nI n)), (1, .int x), (2, .int d), (3, .int a), (4, .int b), (5, .long (awS n x d a b i)), (7, .int (nI i)), (8, .long (awW x i k)), (10, .int (nI (cnt (abit i) k))), (11, .int (nI k))]) hx hb dX1_awaited_45 hl (by decide) rfl (fun ls hl => ?_)
            refine lv_iload hx hb dX1_awaited_47 (lv_at hl 9 rfl) ?_
            refine lv_iload hx hb dX1_awaited_49 (lv_at hl 0 rfl) ?_
            refine lv_if_eq (tgt := 58) hx hb dX1_awaited_51 (by decide) (fun _ => ?_) (fun h => absurd h (by decide))
            refine lv_iconst (v := 0) hx hb dX1_awaited_58 (by decide) ?_
            refine lv_iadd hx hb dX1_awaited_59 ?_
            refine lv_istore (lv' := [(10, .int ((nI (cnt (abit i) k)) + 0)), (12, .int 0), (0, .int (nI n)), (1, .int x), (2, .int d), (3, .int a), (4, .int b), (5, .long (awS n x d a b i)), (7, .int (nI i)), (8, .long (awW x i k)), (11, .int (nI k))]) hx hb dX1_awaited_60 hl (by decide) rfl (fun ls hl => ?_)
            refine lv_lload hx hb dX1_awaited_62 (lv_at hl 9 rfl) ?_
            refine lv_iload hx hb dX1_awaited_64 (lv_at hl 1 rfl) ?_
            refine lv_if_eq (tgt := 74) hx hb dX1_awaited_66 (by decide) (fun _ => ?_) (fun h => absurd h (by decide))
            refine lv_bipush (v := 100) hx hb dX1_awaited_74 (by decide) ?_
            refine lv_iload_n hx hb dX1_awaited_76 rfl (lv_at hl 3 rfl) ?_
            refine lv_isub hx hb dX1_awaited_77 ?_
            refine lv_i2l hx hb dX1_awaited_78 rfl ?_
            refine lv_lmul hx hb dX1_awaited_79 ?_
            refine lv_lstore (lv' := [(8, .long ((awW x i k) * (((100 - x)).toInt64))), (10, .int ((nI (cnt (abit i) k)) + 0)), (12, .int 0), (0, .int (nI n)), (1, .int x), (2, .int d), (3, .int a), (4, .int b), (5, .long (awS n x d a b i)), (7, .int (nI i)), (11, .int (nI k))]) hx hb dX1_awaited_80 hl (by decide) rfl (fun ls hl => ?_)
            refine lv_iinc (v := nI (k + 1)) (lv' := [(11, .int (nI (k + 1))), (8, .long ((awW x i k) * (((100 - x)).toInt64))), (10, .int ((nI (cnt (abit i) k)) + 0)), (12, .int 0), (0, .int (nI n)), (1, .int x), (2, .int d), (3, .int a), (4, .int b), (5, .long (awS n x d a b i)), (7, .int (nI i))]) hx hb dX1_awaited_82 hl (k := 10) rfl (nI_1 _) (by decide) rfl (fun ls hl => ?_)
            refine lv_goto (tgt := 23) hx hb dX1_awaited_85 (by decide) ?_
            exact ih23 ls (lv_as (lv_sub (l' := [(0, .int (nI n)), (1, .int x), (2, .int d), (3, .int a), (4, .int b), (5, .long (awS n x d a b i)), (7, .int (nI i)), (8, .long ((awW x i k) * (((100 - x)).toInt64))), (10, .int ((nI (cnt (abit i) k)) + 0)), (11, .int (nI (k + 1)))]) hl [4, 5, 6, 7, 8, 9, 10, 1, 2, 0] rfl) (by simp [awW, cnt, abit, nI_succ, c37]))
          · refine lv_iconst (v := 1) hx hb dX1_awaited_40 (by decide) ?_
            refine lv_goto (tgt := 45) hx hb dX1_awaited_41 (by decide) ?_
            refine lv_istore (lv' := [(12, .int 1), (0, .int (nI n)), (1, .int x), (2, .int d), (3, .int a), (4, .int b), (5, .long (awS n x d a b i)), (7, .int (nI i)), (8, .long (awW x i k)), (10, .int (nI (cnt (abit i) k))), (11, .int (nI k))]) hx hb dX1_awaited_45 hl (by decide) rfl (fun ls hl => ?_)
            refine lv_iload hx hb dX1_awaited_47 (lv_at hl 9 rfl) ?_
            refine lv_iload hx hb dX1_awaited_49 (lv_at hl 0 rfl) ?_
            refine lv_if_eq (tgt := 58) hx hb dX1_awaited_51 (by decide) (fun h => absurd h (by decide)) (fun _ => ?_)
            refine lv_iconst (v := 1) hx hb dX1_awaited_54 (by decide) ?_
            refine lv_goto (tgt := 59) hx hb dX1_awaited_55 (by decide) ?_
            refine lv_iadd hx hb dX1_awaited_59 ?_
            refine lv_istore (lv' := [(10, .int ((nI (cnt (abit i) k)) + 1)), (12, .int 1), (0, .int (nI n)), (1, .int x), (2, .int d), (3, .int a), (4, .int b), (5, .long (awS n x d a b i)), (7, .int (nI i)), (8, .long (awW x i k)), (11, .int (nI k))]) hx hb dX1_awaited_60 hl (by decide) rfl (fun ls hl => ?_)
            refine lv_lload hx hb dX1_awaited_62 (lv_at hl 9 rfl) ?_
            refine lv_iload hx hb dX1_awaited_64 (lv_at hl 1 rfl) ?_
            refine lv_if_eq (tgt := 74) hx hb dX1_awaited_66 (by decide) (fun h => absurd h (by decide)) (fun _ => ?_)
            refine lv_iload_n hx hb dX1_awaited_69 rfl (lv_at hl 3 rfl) ?_
            refine lv_i2l hx hb dX1_awaited_70 rfl ?_
            refine lv_goto (tgt := 79) hx hb dX1_awaited_71 (by decide) ?_
            refine lv_lmul hx hb dX1_awaited_79 ?_
            refine lv_lstore (lv' := [(8, .long ((awW x i k) * ((x).toInt64))), (10, .int ((nI (cnt (abit i) k)) + 1)), (12, .int 1), (0, .int (nI n)), (1, .int x), (2, .int d), (3, .int a), (4, .int b), (5, .long (awS n x d a b i)), (7, .int (nI i)), (11, .int (nI k))]) hx hb dX1_awaited_80 hl (by decide) rfl (fun ls hl => ?_)
            refine lv_iinc (v := nI (k + 1)) (lv' := [(11, .int (nI (k + 1))), (8, .long ((awW x i k) * ((x).toInt64))), (10, .int ((nI (cnt (abit i) k)) + 1)), (12, .int 1), (0, .int (nI n)), (1, .int x), (2, .int d), (3, .int a), (4, .int b), (5, .long (awS n x d a b i)), (7, .int (nI i))]) hx hb dX1_awaited_82 hl (k := 10) rfl (nI_1 _) (by decide) rfl (fun ls hl => ?_)
            refine lv_goto (tgt := 23) hx hb dX1_awaited_85 (by decide) ?_
            exact ih23 ls (lv_as (lv_sub (l' := [(0, .int (nI n)), (1, .int x), (2, .int d), (3, .int a), (4, .int b), (5, .long (awS n x d a b i)), (7, .int (nI i)), (8, .long ((awW x i k) * ((x).toInt64))), (10, .int ((nI (cnt (abit i) k)) + 1)), (11, .int (nI (k + 1)))]) hl [4, 5, 6, 7, 8, 9, 10, 1, 2, 0] rfl) (by simp [awW, cnt, abit, nI_succ, c37]))
      exact L23 0 (Nat.zero_le _) ls (lv_as (lv_sub (l' := [(0, .int (nI n)), (1, .int x), (2, .int d), (3, .int a), (4, .int b), (5, .long (awS n x d a b i)), (7, .int (nI i)), (8, .long 1), (10, .int 0), (11, .int 0)]) hl [3, 4, 5, 6, 7, 8, 9, 2, 1, 0] rfl) (rfl))
  exact L6 0 (Nat.zero_le _) ls (lv_as (lv_sub (l' := [(0, .int (nI n)), (1, .int x), (2, .int d), (3, .int a), (4, .int b), (5, .long 0), (7, .int 0)]) hl [2, 3, 4, 5, 6, 1, 0] rfl) (rfl))
theorem dc_m_awaited : yX1_awaited.cls ≠ "java/lang/invoke/MethodHandle" ∧ yX1_awaited.cls ≠ "java/lang/invoke/VarHandle" ∧ (parseMethodDescriptor yX1_awaited.desc).map (fun d => d.parameters.length) = some 5 := by decide +kernel
theorem go_m_awaited : GoodIn lw_all (va_wsS RX1 273 yX1_awaited (ws_ yX1_awaited cX1_awaited 13 (some .long))) := lw_S q1470 q1471 q75 q1472
def hun : Nat → Int64
  | 0 => 1
  | k + 1 => hun k * 100
theorem m_hundreds (l : Launch) (n : Nat) (hn : n ≤ 8) : Pl l yX1_hundreds cX1_hundreds 4 (rmL 1) [.int (nI n)] (fun r => r = hun n) := by
  refine Pl.of (by decide) (Nat.le_of_ble_eq_true rfl) ?_
  intro p e s m below meth c ls args E hlk hr hl
  have hx := E.1
  have hb := E.2.1
  have hl : lv_has ls 4 [(0, .int (nI n))] := hl
  refine nameQ (fun Q hQ => ?_)
  refine lv_lconst (v := 1) hx hb dX1_hundreds_0 (by decide) ?_
  refine lv_lstore_n (lv' := [(1, .long 1), (0, .int (nI n))]) hx hb dX1_hundreds_1 rfl hl (by decide) rfl (fun ls hl => ?_)
  refine lv_iconst (v := 0) hx hb dX1_hundreds_2 (by decide) ?_
  refine lv_istore_n (lv' := [(3, .int 0), (1, .long 1), (0, .int (nI n))]) hx hb dX1_hundreds_3 rfl hl (by decide) rfl (fun ls hl => ?_)
  have L4 : ∀ i, i ≤ n → ∀ (ls : Array Slot), lv_has ls 4 [(0, .int (nI n)), (1, .long (hun i)), (3, .int (nI i))] → W p l e (rmL 1) s m args below meth c s.heap [] 0 0 Q (F0 m 4 ls []) := by
    refine dn_ind n ?_ ?_
    · intro ls hl
      refine lv_iload_n hx hb dX1_hundreds_4 rfl (lv_at hl 2 rfl) ?_
      refine lv_iload_n hx hb dX1_hundreds_5 rfl (lv_at hl 0 rfl) ?_
      refine lv_icmp_ge (tgt := 21) hx hb dX1_hundreds_6 (by decide) (fun c6 => ?_) (fun c6 => absurd c6 (fun h => h (Int32.le_refl _)))
      refine lv_lload_n hx hb dX1_hundreds_21 rfl (lv_at hl 1 rfl) ?_
      subst hQ
      exact s_l E hlk hr dX1_hundreds_22 (rfl)
    · intro i hi ih4 ls hl
      refine lv_iload_n hx hb dX1_hundreds_4 rfl (lv_at hl 2 rfl) ?_
      refine lv_iload_n hx hb dX1_hundreds_5 rfl (lv_at hl 0 rfl) ?_
      refine lv_icmp_ge (tgt := 21) hx hb dX1_hundreds_6 (by decide) (fun c6 => absurd c6 (nI_ge hi (by omega))) (fun c6 => ?_)
      refine lv_lload_n hx hb dX1_hundreds_9 rfl (lv_at hl 1 rfl) ?_
      refine lv_ldc2 (v := 100) hx hb E.2.2.2.1 (E.2.2.2.2 _ q1476) dX1_hundreds_10 ?_
      refine lv_lmul hx hb dX1_hundreds_13 ?_
      refine lv_lstore_n (lv' := [(1, .long ((hun i) * 100)), (0, .int (nI n)), (3, .int (nI i))]) hx hb dX1_hundreds_14 rfl hl (by decide) rfl (fun ls hl => ?_)
      refine lv_iinc (v := nI (i + 1)) (lv' := [(3, .int (nI (i + 1))), (1, .long ((hun i) * 100)), (0, .int (nI n))]) hx hb dX1_hundreds_15 hl (k := 2) rfl (nI_1 _) (by decide) rfl (fun ls hl => ?_)
      refine lv_goto (tgt := 4) hx hb dX1_hundreds_18 (by decide) ?_
      exact ih4 ls (lv_as (lv_sub (l' := [(0, .int (nI n)), (1, .long ((hun i) * 100)), (3, .int (nI (i + 1)))]) hl [2, 1, 0] rfl) (rfl))
  exact L4 0 (Nat.zero_le _) ls (lv_as (lv_sub (l' := [(0, .int (nI n)), (1, .long 1), (3, .int 0)]) hl [2, 1, 0] rfl) (rfl))
theorem dc_m_hundreds : yX1_hundreds.cls ≠ "java/lang/invoke/MethodHandle" ∧ yX1_hundreds.cls ≠ "java/lang/invoke/VarHandle" ∧ (parseMethodDescriptor yX1_hundreds.desc).map (fun d => d.parameters.length) = some 1 := by decide +kernel
theorem go_m_hundreds : GoodIn lw_all (va_wsS RX1 277 yX1_hundreds (ws_ yX1_hundreds cX1_hundreds 4 (some .long))) := lw_S q1473 q1474 q75 q1475
def mBook (x d a b : Int32) : Bool := wi x 0 100 && wi d 0 8 && wi a 0 9 && wi b 0 9
theorem m_areNames (l : Launch) (x : Int32) (d : Int32) (a : Int32) (b : Int32) : Pi l yX1_areNames cX1_areNames 4 .boolean (rmL 2) [.int x, .int d, .int a, .int b] (fun r => r = bI (mBook x d a b)) := by
  refine Pi.of (by decide) (Nat.le_of_ble_eq_true rfl) ?_
  intro p e s m below meth c ls args E hlk hr hl
  have hx := E.1
  have hb := E.2.1
  have hl : lv_has ls 4 [(0, .int x), (1, .int d), (2, .int a), (3, .int b)] := hl
  refine lv_iload_n hx hb dX1_areNames_0 rfl (lv_at hl 0 rfl) ?_
  refine lv_iconst (v := 0) hx hb dX1_areNames_1 (by decide) ?_
  refine lv_bipush (v := 100) hx hb dX1_areNames_2 (by decide) ?_
  refine c_Si E (m_within l x 0 100) go_m_within ⟨rfl, rfl⟩ dc_m_within ⟨Nat.le_of_ble_eq_true rfl, Nat.le_of_ble_eq_true rfl⟩ ⟨Nat.le_refl 0, Nat.le_refl 0⟩ hl.1 (Nat.le_of_ble_eq_true rfl) rfl dX1_areNames_4 (fun r4 hp => ?_)
  refine top_i (y := bI (wi x 0 100)) hp ?_
  refine b_eq (tgt := 44) hx hb dX1_areNames_7 (by decide) (fun c7 => ?_) (fun c7 => ?_)
  · refine lv_iconst (v := 0) hx hb dX1_areNames_44 (by decide) ?_
    exact s_z (b := false) E hlk hr dX1_areNames_45 rfl (by simp [mBook, c7])
  · refine lv_iload_n hx hb dX1_areNames_10 rfl (lv_at hl 1 rfl) ?_
    refine lv_iconst (v := 0) hx hb dX1_areNames_11 (by decide) ?_
    refine lv_bipush (v := 8) hx hb dX1_areNames_12 (by decide) ?_
    refine c_Si E (m_within l d 0 8) go_m_within ⟨rfl, rfl⟩ dc_m_within ⟨Nat.le_of_ble_eq_true rfl, Nat.le_of_ble_eq_true rfl⟩ ⟨Nat.le_refl 0, Nat.le_refl 0⟩ hl.1 (Nat.le_of_ble_eq_true rfl) rfl dX1_areNames_14 (fun r14 hp => ?_)
    refine top_i (y := bI (wi d 0 8)) hp ?_
    refine b_eq (tgt := 44) hx hb dX1_areNames_17 (by decide) (fun c17 => ?_) (fun c17 => ?_)
    · refine lv_iconst (v := 0) hx hb dX1_areNames_44 (by decide) ?_
      exact s_z (b := false) E hlk hr dX1_areNames_45 rfl (by simp [mBook, c7, c17])
    · refine lv_iload_n hx hb dX1_areNames_20 rfl (lv_at hl 2 rfl) ?_
      refine lv_iconst (v := 0) hx hb dX1_areNames_21 (by decide) ?_
      refine lv_bipush (v := 9) hx hb dX1_areNames_22 (by decide) ?_
      refine c_Si E (m_within l a 0 9) go_m_within ⟨rfl, rfl⟩ dc_m_within ⟨Nat.le_of_ble_eq_true rfl, Nat.le_of_ble_eq_true rfl⟩ ⟨Nat.le_refl 0, Nat.le_refl 0⟩ hl.1 (Nat.le_of_ble_eq_true rfl) rfl dX1_areNames_24 (fun r24 hp => ?_)
      refine top_i (y := bI (wi a 0 9)) hp ?_
      refine b_eq (tgt := 44) hx hb dX1_areNames_27 (by decide) (fun c27 => ?_) (fun c27 => ?_)
      · refine lv_iconst (v := 0) hx hb dX1_areNames_44 (by decide) ?_
        exact s_z (b := false) E hlk hr dX1_areNames_45 rfl (by simp [mBook, c7, c17, c27])
      · refine lv_iload_n hx hb dX1_areNames_30 rfl (lv_at hl 3 rfl) ?_
        refine lv_iconst (v := 0) hx hb dX1_areNames_31 (by decide) ?_
        refine lv_bipush (v := 9) hx hb dX1_areNames_32 (by decide) ?_
        refine c_Si E (m_within l b 0 9) go_m_within ⟨rfl, rfl⟩ dc_m_within ⟨Nat.le_of_ble_eq_true rfl, Nat.le_of_ble_eq_true rfl⟩ ⟨Nat.le_refl 0, Nat.le_refl 0⟩ hl.1 (Nat.le_of_ble_eq_true rfl) rfl dX1_areNames_34 (fun r34 hp => ?_)
        refine top_i (y := bI (wi b 0 9)) hp ?_
        refine b_eq (tgt := 44) hx hb dX1_areNames_37 (by decide) (fun c37 => ?_) (fun c37 => ?_)
        · refine lv_iconst (v := 0) hx hb dX1_areNames_44 (by decide) ?_
          exact s_z (b := false) E hlk hr dX1_areNames_45 rfl (by simp [mBook, c7, c17, c27, c37])
        · refine lv_iconst (v := 1) hx hb dX1_areNames_40 (by decide) ?_
          refine lv_goto (tgt := 45) hx hb dX1_areNames_41 (by decide) ?_
          exact s_z (b := true) E hlk hr dX1_areNames_45 rfl (by simp [mBook, c7, c17, c27, c37])
theorem dc_m_areNames : yX1_areNames.cls ≠ "java/lang/invoke/MethodHandle" ∧ yX1_areNames.cls ≠ "java/lang/invoke/VarHandle" ∧ (parseMethodDescriptor yX1_areNames.desc).map (fun d => d.parameters.length) = some 4 := by decide +kernel
theorem go_m_areNames : GoodIn lw_all (va_wsS RX1 269 yX1_areNames (ws_ yX1_areNames cX1_areNames 4 (some .boolean))) := lw_S q1467 q1468 q75 q1469
def lAbs (x : Int64) : Int64 := if 0 ≤ x then x else -x
theorem lN_0 : lN 0 = 0 := by decide
theorem lN_ne0 {a : Nat} (h : a < 2 ^ 63) (h0 : 0 < a) : ¬ lN a = 0 := by
  intro e
  rw [← lN_0] at e
  have := (pk_lEQ h (by decide)).mp e
  omega
theorem m_share (l : Launch) (x : Int64) (b : Nat) (w : Int32) (a : Nat) (ha : lAbs x = lN a) (ha0 : a < 2 ^ 63) (hb0 : b < 2 ^ 63) (hbp : 0 < b) : Pl l yX1_share cX1_share 11 (rmL 1) [.long x, .long (lN b), .int w] (fun r => r = (if w = 0 then x / lN (Nat.gcd a b) else lN b / lN (Nat.gcd a b))) := by
  refine Pl.of (by decide) (Nat.le_of_ble_eq_true rfl) ?_
  intro p e s m below meth c ls args E hlk hr hl
  have hx := E.1
  have hb := E.2.1
  have hl : lv_has ls 11 [(0, .long x), (2, .long (lN b)), (4, .int w)] := hl
  refine nameQ (fun Q hQ => ?_)
  have L17 : ∀ v u, v < 2 ^ 63 → u < 2 ^ 63 → Nat.gcd u v = Nat.gcd a b → ∀ (ls : Array Slot), lv_has ls 11 [(0, .long x), (2, .long (lN b)), (4, .int w), (5, .long (lN u)), (7, .long (lN v))] → W p l e (rmL 1) s m args below meth c s.heap [] 0 0 Q (F0 m 17 ls []) := by
    intro v
    induction v using Nat.strongRecOn with
    | ind v ih =>
      intro u hv hu hg ls hl
      refine lv_lload hx hb dX1_share_17 (lv_at hl 4 rfl) ?_
      refine lv_lconst (v := 0) hx hb dX1_share_19 (by decide) ?_
      refine l_eq (tgt := 42) hx hb dX1_share_20 dX1_share_21 (by decide) (fun c21 => ?_) (fun c21 => ?_)
      · have hv0 : v = 0 := by rcases Nat.eq_zero_or_pos v with h | h; exact h; exact absurd c21 (lN_ne0 hv h)
        subst hv0
        rw [Nat.gcd_zero_right] at hg
        have hu0 : 0 < u := by rw [hg]; exact Nat.gcd_pos_of_pos_right _ hbp
        refine lv_iload hx hb dX1_share_42 (lv_at hl 2 rfl) ?_
        refine lv_if_ne (tgt := 54) hx hb dX1_share_44 (by decide) (fun c44 => ?_) (fun c44 => ?_)
        · refine lv_lload_n hx hb dX1_share_54 rfl (lv_at hl 1 rfl) ?_
          refine lv_lload hx hb dX1_share_55 (lv_at hl 3 rfl) ?_
          refine lv_ldiv hx hb dX1_share_57 (lN_ne0 hu hu0) ?_
          subst hQ
          exact s_l E hlk hr dX1_share_58 (by rw [← hg]; simp [c44])
        · refine lv_lload_n hx hb dX1_share_47 rfl (lv_at hl 0 rfl) ?_
          refine lv_lload hx hb dX1_share_48 (lv_at hl 3 rfl) ?_
          refine lv_ldiv hx hb dX1_share_50 (lN_ne0 hu hu0) ?_
          refine lv_goto (tgt := 58) hx hb dX1_share_51 (by decide) ?_
          subst hQ
          exact s_l E hlk hr dX1_share_58 (by rw [← hg]; simp [c44])
      · have hv0 : 0 < v := by rcases Nat.eq_zero_or_pos v with h | h; exact absurd (by rw [h]; rfl) c21; exact h
        refine lv_lload hx hb dX1_share_24 (lv_at hl 3 rfl) ?_
        refine lv_lload hx hb dX1_share_26 (lv_at hl 4 rfl) ?_
        refine lv_lrem hx hb dX1_share_28 (c21) ?_
        refine top_l (y := lN (u % v)) (pk_lRem hu hv0 hv) ?_
        refine lv_lstore (lv' := [(9, .long (lN (u % v))), (0, .long x), (2, .long (lN b)), (4, .int w), (5, .long (lN u)), (7, .long (lN v))]) hx hb dX1_share_29 hl (by decide) rfl (fun ls hl => ?_)
        refine lv_lload hx hb dX1_share_31 (lv_at hl 5 rfl) ?_
        refine lv_lstore (lv' := [(5, .long (lN v)), (9, .long (lN (u % v))), (0, .long x), (2, .long (lN b)), (4, .int w), (7, .long (lN v))]) hx hb dX1_share_33 hl (by decide) rfl (fun ls hl => ?_)
        refine lv_lload hx hb dX1_share_35 (lv_at hl 1 rfl) ?_
        refine lv_lstore (lv' := [(7, .long (lN (u % v))), (5, .long (lN v)), (9, .long (lN (u % v))), (0, .long x), (2, .long (lN b)), (4, .int w)]) hx hb dX1_share_37 hl (by decide) rfl (fun ls hl => ?_)
        refine lv_goto (tgt := 17) hx hb dX1_share_39 (by decide) ?_
        exact ih (u % v) (Nat.mod_lt _ hv0) v (Nat.lt_of_lt_of_le (Nat.mod_lt _ hv0) (Nat.le_of_lt hv)) hv ((Nat.gcd_comm v (u % v)).trans ((Nat.gcd_rec v u).symm.trans ((Nat.gcd_comm v u).trans hg))) ls (lv_sub (l' := [(0, .long x), (2, .long (lN b)), (4, .int w), (5, .long (lN v)), (7, .long (lN (u % v)))]) hl [3, 4, 5, 1, 0] rfl)
  refine lv_lload_n hx hb dX1_share_0 rfl (lv_at hl 0 rfl) ?_
  refine lv_lconst (v := 0) hx hb dX1_share_1 (by decide) ?_
  refine l_ge (tgt := 11) hx hb dX1_share_2 dX1_share_3 (by decide) (fun c3 => ?_) (fun c3 => ?_)
  · refine lv_lload_n hx hb dX1_share_11 rfl (lv_at hl 0 rfl) ?_
    refine lv_lstore (lv' := [(5, .long x), (0, .long x), (2, .long (lN b)), (4, .int w)]) hx hb dX1_share_12 hl (by decide) rfl (fun ls hl => ?_)
    refine lv_lload_n hx hb dX1_share_14 rfl (lv_at hl 2 rfl) ?_
    refine lv_lstore (lv' := [(7, .long (lN b)), (5, .long x), (0, .long x), (2, .long (lN b)), (4, .int w)]) hx hb dX1_share_15 hl (by decide) rfl (fun ls hl => ?_)
    have e5 : x = lN a := by rw [← ha]; simp [lAbs, c3]
    have hl := lv_as (L' := [(0, .long x), (2, .long (lN b)), (4, .int w), (5, .long (lN a)), (7, .long (lN b))]) (lv_sub (l' := [(0, .long x), (2, .long (lN b)), (4, .int w), (5, .long x), (7, .long (lN b))]) hl [2, 3, 4, 1, 0] rfl) (by rw [e5])
    exact L17 b a hb0 ha0 rfl ls hl
  · refine lv_lload_n hx hb dX1_share_6 rfl (lv_at hl 0 rfl) ?_
    refine lv_lneg hx hb dX1_share_7 ?_
    refine lv_goto (tgt := 12) hx hb dX1_share_8 (by decide) ?_
    refine lv_lstore (lv' := [(5, .long (-x)), (0, .long x), (2, .long (lN b)), (4, .int w)]) hx hb dX1_share_12 hl (by decide) rfl (fun ls hl => ?_)
    refine lv_lload_n hx hb dX1_share_14 rfl (lv_at hl 2 rfl) ?_
    refine lv_lstore (lv' := [(7, .long (lN b)), (5, .long (-x)), (0, .long x), (2, .long (lN b)), (4, .int w)]) hx hb dX1_share_15 hl (by decide) rfl (fun ls hl => ?_)
    have e5 : (-x) = lN a := by rw [← ha]; simp [lAbs, c3]
    have hl := lv_as (L' := [(0, .long x), (2, .long (lN b)), (4, .int w), (5, .long (lN a)), (7, .long (lN b))]) (lv_sub (l' := [(0, .long x), (2, .long (lN b)), (4, .int w), (5, .long (-x)), (7, .long (lN b))]) hl [2, 3, 4, 1, 0] rfl) (by rw [e5])
    exact L17 b a hb0 ha0 rfl ls hl
theorem dc_m_share : yX1_share.cls ≠ "java/lang/invoke/MethodHandle" ∧ yX1_share.cls ≠ "java/lang/invoke/VarHandle" ∧ (parseMethodDescriptor yX1_share.desc).map (fun d => d.parameters.length) = some 3 := by decide +kernel
theorem go_m_share : GoodIn lw_all (va_wsS RX1 281 yX1_share (ws_ yX1_share cX1_share 11 (some .long))) := lw_S q1477 q1478 q75 q1479
