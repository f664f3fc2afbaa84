/-! Bits. The rows down to b_sshr are a family of kit/laws/BITS.to-paste (a starting text) -/
set_option maxRecDepth 100000
def bt (x : Int32) (i : Nat) : Bool := x.toBitVec.getLsbD i
theorem b_ext {x y : Int32} (h : ∀ i, i < 32 → bt x i = bt y i) : x = y := Int32.toBitVec_inj.mp (BitVec.eq_of_getLsbD_eq (fun i hi => h i hi))
theorem b_or (x y : Int32) (i : Nat) : bt (x ||| y) i = (bt x i || bt y i) := by unfold bt; rw [Int32.toBitVec_or, BitVec.getLsbD_or]
theorem b_and (x y : Int32) (i : Nat) : bt (x &&& y) i = (bt x i && bt y i) := by unfold bt; rw [Int32.toBitVec_and, BitVec.getLsbD_and]
theorem b_xor (x y : Int32) (i : Nat) : bt (x ^^^ y) i = (bt x i ^^ bt y i) := by unfold bt; rw [Int32.toBitVec_xor, BitVec.getLsbD_xor]
theorem b_big {x : Int32} {i : Nat} (h : 32 ≤ i) : bt x i = false := BitVec.getLsbD_of_ge _ _ h
theorem b_255 (i : Nat) : bt 255 i = decide (i < 8) := by
  rcases Nat.lt_or_ge i 32 with h | h
  · exact (by decide +kernel : ∀ i, i < 32 → bt 255 i = decide (i < 8)) i h
  · rw [b_big h, decide_eq_false (by omega)]
theorem b_65535 (i : Nat) : bt 65535 i = decide (i < 16) := by
  rcases Nat.lt_or_ge i 32 with h | h
  · exact (by decide +kernel : ∀ i, i < 32 → bt 65535 i = decide (i < 16)) i h
  · rw [b_big h, decide_eq_false (by omega)]
theorem b_m1 : ∀ i, i < 32 → bt (-1) i = true := by decide +kernel
theorem b_0 (i : Nat) : bt 0 i = false := BitVec.getLsbD_zero
theorem sm_l : ∀ n, n < 32 → ((nI n &&& 31).toBitVec.smod 32).toNat = n := by decide +kernel
theorem sm_u : ∀ n, n < 32 → (((nI n).toUInt32 &&& Int32.toUInt32 31).toBitVec % 32).toNat = n := by decide +kernel
theorem b_shl (n : Nat) (hn : n < 32) (x : Int32) {i : Nat} (hi : i < 32) : bt (x <<< (nI n &&& 31)) i = (decide (n ≤ i) && bt x (i - n)) := by
  unfold bt
  rw [Int32.toBitVec_shiftLeft]
  show (x.toBitVec <<< ((nI n &&& 31).toBitVec.smod 32).toNat).getLsbD i = _
  rw [sm_l n hn, BitVec.getLsbD_shiftLeft]
  rcases Nat.lt_or_ge i n with h | h
  · simp [h, Nat.not_le.mpr h]
  · simp [hi, h, Nat.not_lt.mpr h]
theorem b_ushr (n : Nat) (hn : n < 32) (x : Int32) (i : Nat) : bt ((x.toUInt32 >>> ((nI n).toUInt32 &&& Int32.toUInt32 31)).toInt32) i = bt x (n + i) := by
  show (x.toUInt32 >>> ((nI n).toUInt32 &&& Int32.toUInt32 31)).toBitVec.getLsbD i = x.toUInt32.toBitVec.getLsbD (n + i)
  rw [UInt32.toBitVec_shiftRight]
  show (x.toUInt32.toBitVec >>> (((nI n).toUInt32 &&& Int32.toUInt32 31).toBitVec % 32).toNat).getLsbD i = _
  rw [sm_u n hn, BitVec.getLsbD_ushiftRight]
theorem b_sshr (n : Nat) (hn : n < 32) (x : Int32) {i : Nat} (hi : i < 32) : bt (x >>> (nI n &&& 31)) i = if n + i < 32 then bt x (n + i) else bt x 31 := by
  unfold bt
  rw [Int32.toBitVec_shiftRight]
  show (x.toBitVec.sshiftRight ((nI n &&& 31).toBitVec.smod 32).toNat).getLsbD i = _
  rw [sm_l n hn, BitVec.getLsbD_sshiftRight, BitVec.msb_eq_getLsbD_last]
  simp [hi]

theorem bt_1 (i : Nat) : bt 1 i = decide (i = 0) := by
  rcases Nat.lt_or_ge i 32 with h | h
  · exact (by decide +kernel : ∀ i, i < 32 → bt 1 i = decide (i = 0)) i h
  · rw [b_big h, decide_eq_false (by omega)]
theorem bt_lo {x : Int32} {k : Nat} (hk : k < 31) (i : Nat) (hi : i < 32) : bt ((x >>> (nI k &&& 31)) &&& 1) i = (bt x k && decide (i = 0)) := by
  rw [b_and, bt_1]
  by_cases h : i = 0
  · subst h
    rw [b_sshr k (by omega) x (by omega), if_pos (by omega)]
    simp
  · simp [h]
theorem bt_z {x : Int32} {k : Nat} (hk : k < 31) : ((x >>> (nI k &&& 31)) &&& 1) = 0 ↔ bt x k = false := by
  constructor
  · intro h
    have h1 := bt_lo (x := x) hk 0 (by omega)
    rw [h, b_0] at h1
    simpa using h1.symm
  · intro h
    apply b_ext
    intro i hi
    rw [bt_lo hk i hi, h, b_0]; rfl
theorem bt_t {x : Int32} {k : Nat} (hk : k < 31) : ((x >>> (nI k &&& 31)) &&& 1) = 1 ↔ bt x k = true := by
  constructor
  · intro h
    have h1 := bt_lo (x := x) hk 0 (by omega)
    rw [h, bt_1] at h1
    simpa using h1.symm
  · intro h
    apply b_ext
    intro i hi
    rw [bt_lo hk i hi, h, bt_1]; simp
theorem bt_set {x : Int32} {j k : Nat} (hj : j < 31) (hk : k < 31) : bt (x ||| (1 <<< (nI j &&& 31))) k = (bt x k || decide (k = j)) := by
  rw [b_or, b_shl j (by omega) 1 (by omega), bt_1]
  by_cases h : k = j
  · subst h; simp
  · have : (decide (j ≤ k) && decide (k - j = 0)) = false := by
      by_cases h2 : j ≤ k
      · simp [h2]; omega
      · simp [h2]
    rw [this]; simp [h]
/-- how many are counted falls when one of them goes -/
theorem cnt_le {p q : Nat → Bool} (h : ∀ j, q j = true → p j = true) : ∀ n, cnt q n ≤ cnt p n
  | 0 => Nat.le_refl _
  | n + 1 => by
    have := cnt_le h n
    unfold cnt
    by_cases h1 : q n = true
    · simp [h1, h n h1]; exact this
    · simp [h1]; omega
theorem cnt_lt {p q : Nat → Bool} (h : ∀ j, q j = true → p j = true) {k : Nat} (hk : p k = true) (hq : q k = false) : ∀ n, k < n → cnt q n < cnt p n
  | 0, hn => by omega
  | n + 1, hn => by
    unfold cnt
    by_cases h1 : k = n
    · subst h1
      have := cnt_le h k
      simp [hk, hq]; omega
    · have := cnt_lt h hk hq n (by omega)
      by_cases h2 : q n = true
      · simp [h2, h n h2]; exact this
      · simp [h2]; omega
theorem cnt_0 {p : Nat → Bool} : ∀ n, cnt p n = 0 → ∀ k, k < n → p k = false
  | 0, _, k, hk => by omega
  | n + 1, h, k, hk => by
    unfold cnt at h
    by_cases h1 : k = n
    · subst h1
      cases hp : p k with
      | false => rfl
      | true => simp [hp] at h
    · exact cnt_0 n (by omega) k (by omega)
theorem cnt_n (p : Nat → Bool) : ∀ n, cnt p n ≤ n
  | 0 => Nat.le_refl _
  | n + 1 => by
    have := cnt_n p n
    unfold cnt
    split <;> omega
theorem smo_p {p : Nat → Bool} {q : Nat → Int32} : ∀ {n b : Nat}, smo p q n = some b → p b = true
  | 0, _, h => by simp [smo] at h
  | n + 1, b, h => by
    by_cases hc : (p n && (match smo p q n with | none => true | some b => decide (q n < q b))) = true
    · have e : smo p q (n + 1) = some n := by rw [smo]; exact if_pos hc
      rw [e] at h; cases h
      rw [Bool.and_eq_true] at hc; exact hc.1
    · have e : smo p q (n + 1) = smo p q n := by rw [smo]; exact if_neg hc
      rw [e] at h; exact smo_p h
