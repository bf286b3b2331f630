section
/-! shift counts, by table -/
theorem wq_s7 : ∀ e, e < 8 → (((7 * nI e).toInt64 &&& 63).toBitVec.smod 64).toNat = 7 * e := by decide +kernel
theorem wq_s8 : ∀ e, e < 8 → (((8 * nI e).toInt64 &&& 63).toBitVec.smod 64).toNat = 8 * e := by decide +kernel
theorem wq_s5 : ∀ e, e < 6 → (((5 * nI e) &&& 31).toBitVec.smod 32).toNat = 5 * e := by decide +kernel
/-! the law's row: edge e of it, an edge put into it -/
def wq_ed (r : Int64) (e : Nat) : Int32 := ((r >>> ((7 * nI e).toInt64 &&& 63)).toInt32) &&& 127
def wq_put (r : Int64) (m : Nat) (x : Int32) : Int64 := (r &&& (((127 : Int64) <<< ((7 * nI m).toInt64 &&& 63)) ^^^ (-1))) ||| (x.toInt64 <<< ((7 * nI m).toInt64 &&& 63))
theorem wq_b127 : ∀ i, i < 32 → (127 : Int32).toBitVec.getLsbD i = decide (i < 7) := by decide +kernel
theorem wq_c127 : ∀ i, i < 64 → (127 : Int64).toBitVec.getLsbD i = decide (i < 7) := by decide +kernel
theorem wq_cm1 : ∀ i, i < 64 → (-1 : Int64).toBitVec.getLsbD i = true := by decide +kernel
theorem wq_b31 : ∀ i, i < 32 → (31 : Int32).toBitVec.getLsbD i = decide (i < 5) := by decide +kernel
theorem wq_bm1 : ∀ i, i < 32 → (-1 : Int32).toBitVec.getLsbD i = true := by decide +kernel
theorem wq_sar (r s : Int64) (k : Nat) (hs : (s.toBitVec.smod 64).toNat = k) (i : Nat) (hi : k + i < 64) : (r >>> s).toBitVec.getLsbD i = r.toBitVec.getLsbD (k + i) := by
  rw [Int64.toBitVec_shiftRight]
  show (r.toBitVec.sshiftRight (s.toBitVec.smod 64).toNat).getLsbD i = _
  rw [hs, BitVec.getLsbD_sshiftRight, if_pos hi, decide_eq_false (show ¬ 64 ≤ i by omega)]
  rfl
theorem wq_shl (r s : Int64) (k : Nat) (hs : (s.toBitVec.smod 64).toNat = k) (i : Nat) (hi : i < 64) : (r <<< s).toBitVec.getLsbD i = (decide (k ≤ i) && r.toBitVec.getLsbD (i - k)) := by
  rw [Int64.toBitVec_shiftLeft]
  show (r.toBitVec <<< (s.toBitVec.smod 64).toNat).getLsbD i = _
  rw [hs, BitVec.getLsbD_shiftLeft]
  rcases Nat.lt_or_ge i k with h | h
  · simp [h, Nat.not_le.mpr h]
  · simp [hi, h, Nat.not_lt.mpr h]
theorem wq_sar32 (r s : Int32) (k : Nat) (hs : (s.toBitVec.smod 32).toNat = k) (i : Nat) (hi : k + i < 32) : (r >>> s).toBitVec.getLsbD i = r.toBitVec.getLsbD (k + i) := by
  rw [Int32.toBitVec_shiftRight]
  show (r.toBitVec.sshiftRight (s.toBitVec.smod 32).toNat).getLsbD i = _
  rw [hs, BitVec.getLsbD_sshiftRight, if_pos hi, decide_eq_false (show ¬ 32 ≤ i by omega)]
  rfl
theorem wq_shl32 (r s : Int32) (k : Nat) (hs : (s.toBitVec.smod 32).toNat = k) (i : Nat) (hi : i < 32) : (r <<< s).toBitVec.getLsbD i = (decide (k ≤ i) && r.toBitVec.getLsbD (i - k)) := by
  rw [Int32.toBitVec_shiftLeft]
  show (r.toBitVec <<< (s.toBitVec.smod 32).toNat).getLsbD i = _
  rw [hs, BitVec.getLsbD_shiftLeft]
  rcases Nat.lt_or_ge i k with h | h
  · simp [h, Nat.not_le.mpr h]
  · simp [hi, h, Nat.not_lt.mpr h]
theorem wq_lb {y : Nat} (hy : y < 128) {i : Nat} (hi : i < 64) : (nI y).toInt64.toBitVec.getLsbD i = y.testBit i := by
  rw [nI_l (by omega)]
  show (BitVec.ofNat 64 y).getLsbD i = _
  rw [BitVec.getLsbD_ofNat, decide_eq_true hi]
  rfl
theorem wq_ib (y : Nat) {i : Nat} (hi : i < 32) : (nI y).toBitVec.getLsbD i = y.testBit i := by
  show (BitVec.ofNat 32 y).getLsbD i = _
  rw [BitVec.getLsbD_ofNat, decide_eq_true hi]
  rfl
theorem wq_tb {y k i : Nat} (hy : y < 2 ^ k) (hi : k ≤ i) : y.testBit i = false := Nat.testBit_lt_two_pow (Nat.lt_of_lt_of_le hy (Nat.pow_le_pow_right (by decide) hi))
theorem wq_edb (r : Int64) {e : Nat} (he : e < 8) {i : Nat} (hi : i < 32) : (wq_ed r e).toBitVec.getLsbD i = (decide (i < 7) && r.toBitVec.getLsbD (7 * e + i)) := by
  unfold wq_ed
  rw [Int32.toBitVec_and, BitVec.getLsbD_and, wq_b127 i hi, Int64.toBitVec_toInt32, BitVec.getLsbD_signExtend]
  by_cases h : i < 7
  · rw [wq_sar r _ (7 * e) (wq_s7 e (by omega)) i (by omega)]
    simp [h, hi, show i < 64 by omega]
  · simp [h]
theorem wq_putb (r : Int64) {m : Nat} (hm : m < 8) {y : Nat} (hy : y < 128) {j : Nat} (hj : j < 64) : (wq_put r m (nI y)).toBitVec.getLsbD j = if 7 * m ≤ j ∧ j < 7 * m + 7 then y.testBit (j - 7 * m) else r.toBitVec.getLsbD j := by
  unfold wq_put
  rw [Int64.toBitVec_or, BitVec.getLsbD_or, Int64.toBitVec_and, BitVec.getLsbD_and, Int64.toBitVec_xor, BitVec.getLsbD_xor, wq_cm1 j hj, wq_shl 127 _ (7 * m) (wq_s7 m (by omega)) j hj, wq_shl (nI y).toInt64 _ (7 * m) (wq_s7 m (by omega)) j hj]
  by_cases h : 7 * m ≤ j
  · rw [wq_c127 (j - 7 * m) (by omega), wq_lb hy (by omega)]
    by_cases h2 : j < 7 * m + 7
    · simp [h, h2, show j - 7 * m < 7 by omega]
    · rw [wq_tb (k := 7) hy (show 7 ≤ j - 7 * m by omega)]
      simp [h, h2, show ¬ j - 7 * m < 7 by omega]
  · simp [h]
theorem wq_ed_put (r : Int64) {m e y : Nat} (hm : m < 8) (he : e < 8) (hy : y < 128) : wq_ed (wq_put r m (nI y)) e = if e = m then nI y else wq_ed r e := by
  apply Int32.toBitVec_inj.mp
  apply BitVec.eq_of_getLsbD_eq
  intro i hi
  rw [wq_edb _ he hi]
  by_cases h : e = m
  · rw [if_pos h, wq_ib y hi]
    by_cases h7 : i < 7
    · rw [wq_putb r hm hy (by omega), if_pos (by omega), decide_eq_true h7, h, Nat.add_sub_cancel_left]
      rfl
    · rw [decide_eq_false h7, wq_tb (k := 7) hy (show 7 ≤ i by omega)]
      rfl
  · rw [if_neg h, wq_edb _ he hi]
    by_cases h7 : i < 7
    · rw [wq_putb r hm hy (by omega), if_neg (by omega)]
    · rw [decide_eq_false h7]
      rfl
/-! the law's plan: step i of it, a step put into it -/
def wq_pg (p : Int32) (i : Nat) : Int32 := (p >>> ((5 * nI i) &&& 31)) &&& 31
def wq_pp (p : Int32) (s : Nat) (x : Int32) : Int32 := (p &&& (((31 : Int32) <<< ((5 * nI s) &&& 31)) ^^^ (-1))) ||| (x <<< ((5 * nI s) &&& 31))
theorem wq_pgb (p : Int32) {e : Nat} (he : e < 5) {i : Nat} (hi : i < 32) : (wq_pg p e).toBitVec.getLsbD i = (decide (i < 5) && p.toBitVec.getLsbD (5 * e + i)) := by
  unfold wq_pg
  rw [Int32.toBitVec_and, BitVec.getLsbD_and, wq_b31 i hi]
  by_cases h : i < 5
  · rw [wq_sar32 p _ (5 * e) (wq_s5 e (by omega)) i (by omega)]
    simp [h]
  · simp [h]
theorem wq_ppb (p : Int32) {m : Nat} (hm : m < 5) {y : Nat} (hy : y < 32) {j : Nat} (hj : j < 32) : (wq_pp p m (nI y)).toBitVec.getLsbD j = if 5 * m ≤ j ∧ j < 5 * m + 5 then y.testBit (j - 5 * m) else p.toBitVec.getLsbD j := by
  unfold wq_pp
  rw [Int32.toBitVec_or, BitVec.getLsbD_or, Int32.toBitVec_and, BitVec.getLsbD_and, Int32.toBitVec_xor, BitVec.getLsbD_xor, wq_bm1 j hj, wq_shl32 31 _ (5 * m) (wq_s5 m (by omega)) j hj, wq_shl32 (nI y) _ (5 * m) (wq_s5 m (by omega)) j hj]
  by_cases h : 5 * m ≤ j
  · rw [wq_b31 (j - 5 * m) (by omega), wq_ib y (by omega)]
    by_cases h2 : j < 5 * m + 5
    · simp [h, h2, show j - 5 * m < 5 by omega]
    · rw [wq_tb (k := 5) hy (show 5 ≤ j - 5 * m by omega)]
      simp [h, h2, show ¬ j - 5 * m < 5 by omega]
  · simp [h]
theorem wq_pg_pp (p : Int32) {m e y : Nat} (hm : m < 5) (he : e < 5) (hy : y < 32) : wq_pg (wq_pp p m (nI y)) e = if e = m then nI y else wq_pg p e := by
  apply Int32.toBitVec_inj.mp
  apply BitVec.eq_of_getLsbD_eq
  intro i hi
  rw [wq_pgb _ he hi]
  by_cases h : e = m
  · rw [if_pos h, wq_ib y hi]
    by_cases h7 : i < 5
    · rw [wq_ppb p hm hy (by omega), if_pos (by omega), decide_eq_true h7, h, Nat.add_sub_cancel_left]
      rfl
    · rw [decide_eq_false h7, wq_tb (k := 5) hy (show 5 ≤ i by omega)]
      rfl
  · rw [if_neg h, wq_pgb _ he hi]
    by_cases h7 : i < 5
    · rw [wq_ppb p hm hy (by omega), if_neg (by omega)]
    · rw [decide_eq_false h7]
      rfl
/-! eight counts in a long -/
def wq_P (W : Nat → Nat) : Nat := W 0 + W 1 * 256 + W 2 * 65536 + W 3 * 16777216 + W 4 * 4294967296 + W 5 * 1099511627776 + W 6 * 281474976710656 + W 7 * 72057594037927936
theorem wq_8 {p : Nat → Prop} (h0 : p 0) (h1 : p 1) (h2 : p 2) (h3 : p 3) (h4 : p 4) (h5 : p 5) (h6 : p 6) (h7 : p 7) : ∀ v, v < 8 → p v := by
  intro v hv
  match v, hv with
  | 0, _ => exact h0
  | 1, _ => exact h1
  | 2, _ => exact h2
  | 3, _ => exact h3
  | 4, _ => exact h4
  | 5, _ => exact h5
  | 6, _ => exact h6
  | 7, _ => exact h7
  | n + 8, h => omega
theorem wq_P_add (U V : Nat → Nat) : wq_P (fun w => U w + V w) = wq_P U + wq_P V := by
  unfold wq_P
  dsimp only
  omega
theorem wq_P_one (n : Nat) : ∀ b, b < 8 → wq_P (fun w => if w = b then n else 0) = n * 2 ^ (8 * b) := by
  apply wq_8
  all_goals simp [wq_P]
theorem wq_P_ext {U V : Nat → Nat} (h : ∀ w, w < 8 → U w = V w) : wq_P U = wq_P V := by
  unfold wq_P
  rw [h 0 (by omega), h 1 (by omega), h 2 (by omega), h 3 (by omega), h 4 (by omega), h 5 (by omega), h 6 (by omega), h 7 (by omega)]
theorem wq_P_lt {W : Nat → Nat} (h : ∀ w, w < 8 → W w < 64) : wq_P W < 4611686018427387904 := by
  have h0 := h 0 (by omega)
  have h1 := h 1 (by omega)
  have h2 := h 2 (by omega)
  have h3 := h 3 (by omega)
  have h4 := h 4 (by omega)
  have h5 := h 5 (by omega)
  have h6 := h 6 (by omega)
  have h7 := h 7 (by omega)
  unfold wq_P
  omega
theorem wq_P_get {W : Nat → Nat} (h : ∀ w, w < 8 → W w < 64) : ∀ v, v < 8 → wq_P W / 2 ^ (8 * v) % 256 = W v := by
  have h0 := h 0 (by omega)
  have h1 := h 1 (by omega)
  have h2 := h 2 (by omega)
  have h3 := h 3 (by omega)
  have h4 := h 4 (by omega)
  have h5 := h 5 (by omega)
  have h6 := h 6 (by omega)
  have h7 := h 7 (by omega)
  apply wq_8
  · show wq_P W / 1 % 256 = W 0
    unfold wq_P
    omega
  · show wq_P W / 256 % 256 = W 1
    unfold wq_P
    omega
  · show wq_P W / 65536 % 256 = W 2
    unfold wq_P
    omega
  · show wq_P W / 16777216 % 256 = W 3
    unfold wq_P
    omega
  · show wq_P W / 4294967296 % 256 = W 4
    unfold wq_P
    omega
  · show wq_P W / 1099511627776 % 256 = W 5
    unfold wq_P
    omega
  · show wq_P W / 281474976710656 % 256 = W 6
    unfold wq_P
    omega
  · show wq_P W / 72057594037927936 % 256 = W 7
    unfold wq_P
    omega
theorem wq_lshr {a k : Nat} (ha : a < 2 ^ 63) (s : Int64) (hs : (s.toBitVec.smod 64).toNat = k) : lN a >>> s = lN (a / 2 ^ k) := by
  have hd : a / 2 ^ k ≤ a := Nat.div_le_self _ _
  apply Int64.toInt_inj.mp
  have e : (lN a >>> s).toInt = (lN a).toInt >>> k := by
    rw [← hs]
    exact BitVec.toInt_sshiftRight ..
  rw [e, Int.shiftRight_eq_div_pow, pk_lT ha, pk_lT (by omega)]
  rfl
theorem wq_lshl (n : Nat) {k : Nat} (s : Int64) (hs : (s.toBitVec.smod 64).toNat = k) : lN n <<< s = lN (n * 2 ^ k) := by
  apply Int64.toBitVec_inj.mp
  apply BitVec.eq_of_toNat_eq
  rw [Int64.toBitVec_shiftLeft]
  show (BitVec.ofNat 64 n <<< (s.toBitVec.smod 64).toNat).toNat = (BitVec.ofNat 64 (n * 2 ^ k)).toNat
  rw [hs, BitVec.toNat_shiftLeft, BitVec.toNat_ofNat, BitVec.toNat_ofNat, Nat.shiftLeft_eq, Nat.mod_mul_mod]
theorem wq_land (n : Nat) : lN n &&& 255 = lN (n % 256) := by
  apply Int64.toBitVec_inj.mp
  apply BitVec.eq_of_toNat_eq
  rw [Int64.toBitVec_and, BitVec.toNat_and]
  show (BitVec.ofNat 64 n).toNat &&& (2 ^ 8 - 1) = (BitVec.ofNat 64 (n % 256)).toNat
  rw [Nat.and_two_pow_sub_one_eq_mod, BitVec.toNat_ofNat, BitVec.toNat_ofNat]
  omega
/-- the count at v, as the law's step reads it -/
theorem wq_byte {W : Nat → Nat} (h : ∀ w, w < 8 → W w < 64) {v : Nat} (hv : v < 8) : (lN (wq_P W) >>> ((8 * nI v).toInt64 &&& 63)) &&& 255 = lN (W v) := by
  rw [wq_lshr (by have := wq_P_lt h; omega) _ (wq_s8 v hv), wq_land, wq_P_get h v hv]
/-- the count at v, as the law's check reads it -/
theorem wq_byteI {W : Nat → Nat} (h : ∀ w, w < 8 → W w < 64) {v : Nat} (hv : v < 8) : ((lN (wq_P W) >>> ((8 * nI v).toInt64 &&& 63)).toInt32) &&& 255 = nI (W v) := by
  rw [wq_lshr (by have := wq_P_lt h; omega) _ (wq_s8 v hv), lN_i, pk_and _ 8 (by decide)]
  refine congrArg nI ?_
  have e := wq_P_get h v hv
  rw [← e]
  show (BitVec.ofNat 32 (wq_P W / 2 ^ (8 * v))).toNat % 2 ^ 8 = _
  rw [BitVec.toNat_ofNat]
  omega
/-- n walkers more at b -/
theorem wq_more (U : Nat → Nat) (n : Nat) {b : Nat} (hb : b < 8) : lN (wq_P U) + (lN n <<< ((8 * nI b).toInt64 &&& 63)) = lN (wq_P (fun w => U w + if w = b then n else 0)) := by
  rw [wq_lshl n _ (wq_s8 b hb), lN_add, wq_P_add U (fun w => if w = b then n else 0), wq_P_one n b hb]
end
section
/-! closed tables -/
theorem wq_x7 : ∀ x, x < 128 → nI x &&& 7 = nI (x % 8) := by decide +kernel
theorem wq_x37 : ∀ x, x < 128 → (nI x >>> ((3 : Int32) &&& 31)) &&& 7 = nI (x / 8 % 8) := by decide +kernel
theorem wq_x6 : ∀ x, x < 128 → nI x >>> ((6 : Int32) &&& 31) = nI (x / 64) := by decide +kernel
theorem wq_x3 : ∀ x, x < 128 → nI x &&& 3 = nI (x % 4) := by decide +kernel
theorem wq_x2 : ∀ x, x < 128 → nI x >>> ((2 : Int32) &&& 31) = nI (x / 4) := by decide +kernel
theorem wq_xl : ∀ x, x < 128 → (nI x >>> ((2 : Int32) &&& 31)) - (nI x >>> ((2 : Int32) &&& 31)) / 3 * 3 = nI (x / 4 % 3) := by decide +kernel
theorem wq_xs : ∀ x, x < 128 → (nI x &&& 3) ||| (nI (x / 4 % 3) <<< ((2 : Int32) &&& 31)) = nI (x % 4 + 4 * (x / 4 % 3)) := by decide +kernel
theorem wq_ob : ∀ o, o < 256 → ∀ w, w < 8 → (nI o >>> (nI w &&& 31)) &&& 1 = nI (o.testBit w).toNat := by decide +kernel
theorem wq_ox : ∀ o, o < 256 → ∀ b, b < 8 → (nI o ^^^ ((1 : Int32) <<< (nI b &&& 31))).toInt16.toInt32 = nI (o ^^^ 2 ^ b) ∧ o ^^^ 2 ^ b < 256 := by decide +kernel
theorem wq_1s : ∀ a, a < 8 → (1 : Int32) <<< (nI a &&& 31) = nI (2 ^ a) ∧ 2 ^ a < 256 := by decide +kernel
theorem wq_l1 : ∀ a, a < 8 → (1 : Int64) <<< ((8 * nI a).toInt64 &&& 63) = lN (2 ^ (8 * a)) := by decide +kernel
theorem wq_k8 : ∀ k, k < 4 → (nI k).toInt8.toInt32 = nI k := by decide +kernel
theorem wq_bb : ∀ b : Bool, (nI b.toNat = 0 ↔ b = false) := by decide +kernel
/-! what one edge (code x) sends from v to w: ahead, back -/
def wq_fw (k lab x v : Nat) : Bool := decide ((lab = 2 ∨ x / 64 = lab) ∧ k ≠ 1 ∧ x % 8 = v)
def wq_bw (k lab x v : Nat) : Bool := decide ((lab = 2 ∨ x / 64 = lab) ∧ (k = 1 ∨ k = 2) ∧ x / 8 % 8 = v)
def wq_c (k lab x v w : Nat) : Nat := (if wq_fw k lab x v = true ∧ w = x / 8 % 8 then 1 else 0) + (if wq_bw k lab x v = true ∧ w = x % 8 then 1 else 0)
def wq_cs (E : Nat → Nat) (k lab v w : Nat) : Nat → Nat
  | 0 => 0
  | e + 1 => wq_cs E k lab v w e + wq_c k lab (E e) v w
def wq_mv (E : Nat → Nat) (k lab v : Nat) : Nat → Bool
  | 0 => false
  | e + 1 => wq_mv E k lab v e || wq_fw k lab (E e) v
def wq_T (E : Nat → Nat) (m k lab v w : Nat) : Nat := wq_cs E k lab v w m + (if k = 3 ∧ wq_mv E k lab v m = false ∧ w = v then 1 else 0)
/-- the sum over the vertices below n -/
def wq_S (T : Nat → Nat → Nat) (W : Nat → Nat) (w : Nat) : Nat → Nat
  | 0 => 0
  | v + 1 => wq_S T W w v + T v w * W v
/-- the walkers after n steps -/
def wq_W (F : Nat → Nat → Nat → Nat → Nat) (K Lb : Nat → Nat) (W0 : Nat → Nat) : Nat → Nat → Nat
  | 0 => W0
  | n + 1 => fun w => wq_S (F (K n) (Lb n)) (wq_W F K Lb W0 n) w 8
/-! the same by the class's bits -/
def wq_o (k o : Nat) : Nat := if k = 1 then 0 else o
def wq_p (k p : Nat) : Nat := if k = 1 ∨ k = 2 then p else 0
def wq_dl (O I : Nat → Nat) (k v w l : Nat) : Nat := ((wq_o k (O (l * 8 + v))).testBit w).toNat + ((wq_p k (I (l * 8 + v))).testBit w).toNat
def wq_go (O : Nat → Nat) (lab v : Nat) : Bool := decide ((lab ≠ 1 ∧ O v ≠ 0) ∨ (lab ≠ 0 ∧ O (8 + v) ≠ 0))
def wq_D (O I : Nat → Nat) (k lab v w : Nat) : Nat := (if lab = 2 ∨ lab = 0 then wq_dl O I k v w 0 else 0) + (if lab = 2 ∨ lab = 1 then wq_dl O I k v w 1 else 0) + (if k = 3 ∧ wq_go O lab v = false ∧ w = v then 1 else 0)
/-- bits and edges say the same -/
def wq_L (E : Nat → Nat) (m : Nat) (O I : Nat → Nat) : Prop :=
  (∀ l v w, l < 2 → v < 8 → w < 8 → ((O (l * 8 + v)).testBit w = true ↔ ∃ e, e < m ∧ E e = v + 8 * w + 64 * l)) ∧
  (∀ l v w, l < 2 → v < 8 → w < 8 → ((I (l * 8 + v)).testBit w = true ↔ ∃ e, e < m ∧ E e = w + 8 * v + 64 * l))
def wq_N (E : Nat → Nat) (c : Nat) : Nat → Nat
  | 0 => 0
  | e + 1 => wq_N E c e + (if E e = c then 1 else 0)
theorem wq_N_0 {E : Nat → Nat} {c : Nat} : ∀ m, (∀ e, e < m → E e ≠ c) → wq_N E c m = 0
  | 0, _ => rfl
  | m + 1, h => by
    show wq_N E c m + (if E m = c then 1 else 0) = 0
    rw [wq_N_0 m (fun e he => h e (by omega)), if_neg (h m (by omega))]
theorem wq_N_1 {E : Nat → Nat} {c : Nat} : ∀ m, (∀ e e', e < m → e' < m → E e = E e' → e = e') → (∃ e, e < m ∧ E e = c) → wq_N E c m = 1
  | 0, _, h => by
    obtain ⟨e, he, _⟩ := h
    omega
  | m + 1, hi, h => by
    show wq_N E c m + (if E m = c then 1 else 0) = 1
    obtain ⟨e, he, hc⟩ := h
    by_cases hm : E m = c
    · rw [if_pos hm, wq_N_0 m (fun e' he' h' => by
        have := hi e' m (by omega) (by omega) (h'.trans hm.symm)
        omega)]
    · rw [if_neg hm, wq_N_1 m (fun a b ha hb => hi a b (by omega) (by omega)) ⟨e, by
        rcases Nat.lt_or_ge e m with z | z
        · exact z
        · have : e = m := by omega
          rw [this] at hc
          exact absurd hc hm, hc⟩]
theorem wq_N_b {E : Nat → Nat} {c m : Nat} {b : Bool} (hi : ∀ e e', e < m → e' < m → E e = E e' → e = e') (h : b = true ↔ ∃ e, e < m ∧ E e = c) : b.toNat = wq_N E c m := by
  cases b with
  | true => exact (wq_N_1 m hi (h.mp rfl)).symm
  | false =>
    refine (wq_N_0 m (fun e he hc => ?_)).symm
    exact absurd (h.mpr ⟨e, he, hc⟩) (by decide)
/-- one edge -/
def wq_r (k lab n0 n1 n2 n3 : Nat) : Nat := (if lab = 2 ∨ lab = 0 then (if k = 1 then 0 else n0) + (if k = 1 ∨ k = 2 then n1 else 0) else 0) + (if lab = 2 ∨ lab = 1 then (if k = 1 then 0 else n2) + (if k = 1 ∨ k = 2 then n3 else 0) else 0)
theorem wq_ifa (c : Prop) [Decidable c] (a b : Nat) : (if c then a + b else 0) = (if c then a else 0) + (if c then b else 0) := by
  split <;> rfl
theorem wq_ifb (c : Prop) [Decidable c] (a b : Nat) : (if c then 0 else a + b) = (if c then 0 else a) + (if c then 0 else b) := by
  split <;> rfl
theorem wq_r_add (k lab a0 a1 a2 a3 b0 b1 b2 b3 : Nat) : wq_r k lab (a0 + b0) (a1 + b1) (a2 + b2) (a3 + b3) = wq_r k lab a0 a1 a2 a3 + wq_r k lab b0 b1 b2 b3 := by
  unfold wq_r
  rw [wq_ifb (k = 1) a0 b0, wq_ifb (k = 1) a2 b2, wq_ifa (k = 1 ∨ k = 2) a1 b1, wq_ifa (k = 1 ∨ k = 2) a3 b3]
  generalize (if k = 1 then 0 else a0) = A0
  generalize (if k = 1 then 0 else b0) = B0
  generalize (if k = 1 then 0 else a2) = A2
  generalize (if k = 1 then 0 else b2) = B2
  generalize (if k = 1 ∨ k = 2 then a1 else 0) = A1
  generalize (if k = 1 ∨ k = 2 then b1 else 0) = B1
  generalize (if k = 1 ∨ k = 2 then a3 else 0) = A3
  generalize (if k = 1 ∨ k = 2 then b3 else 0) = B3
  by_cases h1 : lab = 2 ∨ lab = 0 <;> by_cases h2 : lab = 2 ∨ lab = 1 <;> simp only [h1, h2, if_true, if_false] <;> omega
theorem wq_i {A B C : Prop} [Decidable A] [Decidable B] [Decidable C] (h : A ↔ B ∨ C) (hx : ¬ (B ∧ C)) : (if A then 1 else 0 : Nat) = (if B then 1 else 0) + (if C then 1 else 0) := by
  by_cases hb : B <;> by_cases hc : C <;> simp_all
theorem wq_ii {A B : Prop} [Decidable A] [Decidable B] (h : A ↔ B) : (if A then 1 else 0 : Nat) = (if B then 1 else 0) := by
  by_cases hb : B <;> simp_all
theorem wq_c_r {k lab x v w : Nat} (hk : k < 4) (hl : lab < 3) (hx : x < 128) (hv : v < 8) (hw : w < 8) : wq_c k lab x v w = wq_r k lab (if x = v + 8 * w then 1 else 0) (if x = w + 8 * v then 1 else 0) (if x = v + 8 * w + 64 then 1 else 0) (if x = w + 8 * v + 64 then 1 else 0) := by
  have hF : ∀ l, (x / 64 = l ∧ x % 8 = v) ∧ w = x / 8 % 8 ↔ x = v + 8 * w + 64 * l := by intro l; omega
  have hB : ∀ l, (x / 64 = l ∧ x / 8 % 8 = v) ∧ w = x % 8 ↔ x = w + 8 * v + 64 * l := by intro l; omega
  have hf : (if wq_fw k lab x v = true ∧ w = x / 8 % 8 then 1 else 0 : Nat) = (if lab = 2 ∨ lab = 0 then (if k = 1 then 0 else (if x = v + 8 * w then 1 else 0)) else 0) + (if lab = 2 ∨ lab = 1 then (if k = 1 then 0 else (if x = v + 8 * w + 64 then 1 else 0)) else 0) := by
    unfold wq_fw
    by_cases h1 : k = 1
    · simp [h1]
    · have hlab : lab = 0 ∨ lab = 1 ∨ lab = 2 := by omega
      rcases hlab with rfl | rfl | rfl
      · simp only [h1, if_false, decide_eq_true_eq]
        simp
        exact wq_ii (by omega)
      · simp only [h1, if_false, decide_eq_true_eq]
        simp
        exact wq_ii (by omega)
      · simp only [h1, if_false, decide_eq_true_eq]
        simp
        exact wq_i (by omega) (by omega)
  have hb : (if wq_bw k lab x v = true ∧ w = x % 8 then 1 else 0 : Nat) = (if lab = 2 ∨ lab = 0 then (if k = 1 ∨ k = 2 then (if x = w + 8 * v then 1 else 0) else 0) else 0) + (if lab = 2 ∨ lab = 1 then (if k = 1 ∨ k = 2 then (if x = w + 8 * v + 64 then 1 else 0) else 0) else 0) := by
    unfold wq_bw
    by_cases h1 : k = 1 ∨ k = 2
    · have hlab : lab = 0 ∨ lab = 1 ∨ lab = 2 := by omega
      rcases hlab with rfl | rfl | rfl
      · simp only [h1, if_true, decide_eq_true_eq]
        simp
        exact wq_ii (by omega)
      · simp only [h1, if_true, decide_eq_true_eq]
        simp
        exact wq_ii (by omega)
      · simp only [h1, if_true, decide_eq_true_eq]
        simp
        exact wq_i (by omega) (by omega)
    · simp [h1]
  unfold wq_c wq_r
  rw [hf, hb]
  by_cases h1 : lab = 2 ∨ lab = 0 <;> by_cases h2 : lab = 2 ∨ lab = 1 <;> simp only [h1, h2, if_true, if_false] <;> omega
theorem wq_cs_r {E : Nat → Nat} {k lab v w : Nat} (hk : k < 4) (hl : lab < 3) (hv : v < 8) (hw : w < 8) : ∀ m, (∀ e, e < m → E e < 128) → wq_cs E k lab v w m = wq_r k lab (wq_N E (v + 8 * w) m) (wq_N E (w + 8 * v) m) (wq_N E (v + 8 * w + 64) m) (wq_N E (w + 8 * v + 64) m)
  | 0, _ => by
    show 0 = wq_r k lab 0 0 0 0
    unfold wq_r
    simp
  | m + 1, h => by
    show wq_cs E k lab v w m + wq_c k lab (E m) v w = wq_r k lab (wq_N E (v + 8 * w) m + _) (wq_N E (w + 8 * v) m + _) (wq_N E (v + 8 * w + 64) m + _) (wq_N E (w + 8 * v + 64) m + _)
    rw [wq_cs_r hk hl hv hw m (fun e he => h e (by omega)), wq_c_r hk hl (h m (by omega)) hv hw, wq_r_add]
theorem wq_mv_iff {E : Nat → Nat} {k lab v : Nat} : ∀ m, (wq_mv E k lab v m = true ↔ ∃ e, e < m ∧ wq_fw k lab (E e) v = true)
  | 0 => ⟨fun h => absurd (show false = true from h) (by decide), fun ⟨e, he, _⟩ => absurd he (by omega)⟩
  | m + 1 => by
    show (wq_mv E k lab v m || wq_fw k lab (E m) v) = true ↔ _
    rw [Bool.or_eq_true, wq_mv_iff m]
    constructor
    · rintro (⟨e, he, h⟩ | h)
      · exact ⟨e, by omega, h⟩
      · exact ⟨m, by omega, h⟩
    · rintro ⟨e, he, h⟩
      rcases Nat.lt_or_ge e m with z | z
      · exact Or.inl ⟨e, z, h⟩
      · have : e = m := by omega
        rw [this] at h
        exact Or.inr h
theorem wq_go_mv {E O I : Nat → Nat} {m lab v : Nat} (hL : wq_L E m O I) (hE : ∀ e, e < m → E e < 128) (hO : ∀ j, j < 16 → O j < 256) (hl : lab < 3) (hv : v < 8) : wq_go O lab v = wq_mv E 3 lab v m := by
  apply Bool.eq_iff_iff.mpr
  rw [wq_mv_iff]
  unfold wq_go
  rw [decide_eq_true_eq]
  have hbit : ∀ l, l < 2 → O (l * 8 + v) ≠ 0 → ∃ e, e < m ∧ E e / 64 = l ∧ E e % 8 = v := by
    intro l hl2 h0
    obtain ⟨w, hw⟩ := Nat.exists_testBit_of_ne_zero h0
    have hw8 : w < 8 := by
      rcases Nat.lt_or_ge w 8 with z | z
      · exact z
      · have hz : (O (l * 8 + v)).testBit w = false := wq_tb (k := 8) (hO _ (by omega)) z
        rw [hz] at hw
        exact absurd hw (by decide)
    obtain ⟨e, he, hc⟩ := (hL.1 l v w hl2 hv hw8).mp hw
    exact ⟨e, he, by omega, by omega⟩
  constructor
  · rintro (⟨h1, h2⟩ | ⟨h1, h2⟩)
    · obtain ⟨e, he, ha, hb⟩ := hbit 0 (by omega) (by rw [show 0 * 8 + v = v by omega]; exact h2)
      exact ⟨e, he, decide_eq_true (by omega)⟩
    · obtain ⟨e, he, ha, hb⟩ := hbit 1 (by omega) h2
      exact ⟨e, he, decide_eq_true (by omega)⟩
  · rintro ⟨e, he, h⟩
    have h' := of_decide_eq_true h
    have hx := hE e he
    have ht := (hL.1 (E e / 64) v (E e / 8 % 8) (by omega) hv (by omega)).mpr ⟨e, he, by omega⟩
    have hne : O (E e / 64 * 8 + v) ≠ 0 := by
      intro z
      rw [z, Nat.zero_testBit] at ht
      exact absurd ht (by decide)
    by_cases hz : E e / 64 = 0
    · rw [hz, show 0 * 8 + v = v by omega] at hne
      exact Or.inl ⟨by omega, hne⟩
    · rw [show E e / 64 = 1 by omega] at hne
      exact Or.inr ⟨by omega, hne⟩
/-- edges and bits send the same -/
theorem wq_TD {E O I : Nat → Nat} {m : Nat} (hL : wq_L E m O I) (hE : ∀ e, e < m → E e < 128) (hi : ∀ e e', e < m → e' < m → E e = E e' → e = e') (hO : ∀ j, j < 16 → O j < 256) {k lab v w : Nat} (hk : k < 4) (hl : lab < 3) (hv : v < 8) (hw : w < 8) : wq_T E m k lab v w = wq_D O I k lab v w := by
  have d : ∀ l, l < 2 → wq_dl O I k v w l = (if k = 1 then 0 else wq_N E (v + 8 * w + 64 * l) m) + (if k = 1 ∨ k = 2 then wq_N E (w + 8 * v + 64 * l) m else 0) := by
    intro l hl2
    unfold wq_dl wq_o wq_p
    rw [← wq_N_b hi (hL.1 l v w hl2 hv hw), ← wq_N_b hi (hL.2 l v w hl2 hv hw)]
    congr 1
    · split
      · rw [Nat.zero_testBit]
        rfl
      · rfl
    · split
      · rfl
      · rw [Nat.zero_testBit]
        rfl
  unfold wq_T wq_D
  rw [wq_cs_r hk hl hv hw m hE, d 0 (by omega), d 1 (by omega)]
  have hz : (if k = 3 ∧ wq_mv E k lab v m = false ∧ w = v then 1 else 0 : Nat) = (if k = 3 ∧ wq_go O lab v = false ∧ w = v then 1 else 0) := by
    refine wq_ii ⟨fun h => ⟨h.1, ?_, h.2.2⟩, fun h => ⟨h.1, ?_, h.2.2⟩⟩
    · rw [wq_go_mv hL hE hO hl hv, ← h.1]
      exact h.2.1
    · rw [h.1, ← wq_go_mv hL hE hO hl hv]
      exact h.2.1
  rw [hz]
  rfl
theorem wq_S_ext {T D : Nat → Nat → Nat} {W U : Nat → Nat} {w : Nat} : ∀ n, (∀ v, v < n → T v w = D v w) → (∀ v, v < n → W v = U v) → wq_S T W w n = wq_S D U w n
  | 0, _, _ => rfl
  | n + 1, h, h' => by
    show wq_S T W w n + T n w * W n = wq_S D U w n + D n w * U n
    rw [wq_S_ext n (fun v hv => h v (by omega)) (fun v hv => h' v (by omega)), h n (by omega), h' n (by omega)]
theorem wq_W_ext {F H : Nat → Nat → Nat → Nat → Nat} {K Lb W0 : Nat → Nat} (hF : ∀ k lab v w, k < 4 → lab < 3 → v < 8 → w < 8 → F k lab v w = H k lab v w) : ∀ n, (∀ i, i < n → K i < 4 ∧ Lb i < 3) → ∀ w, w < 8 → wq_W F K Lb W0 n w = wq_W H K Lb W0 n w
  | 0, _, _, _ => rfl
  | n + 1, h, w, hw => wq_S_ext 8 (fun v hv => hF _ _ v w (h n (by omega)).1 (h n (by omega)).2 hv hw) (fun v hv => wq_W_ext hF n (fun i hi => h i (by omega)) v hv)
/-! how many there are -/
def wq_sm (f : Nat → Nat) : Nat := f 0 + f 1 + f 2 + f 3 + f 4 + f 5 + f 6 + f 7
theorem wq_sm_add (f g : Nat → Nat) : wq_sm (fun w => f w + g w) = wq_sm f + wq_sm g := by
  unfold wq_sm
  dsimp only
  omega
theorem wq_sm_mul (f : Nat → Nat) (c : Nat) : wq_sm (fun w => f w * c) = wq_sm f * c := by
  unfold wq_sm
  simp only [Nat.add_mul]
theorem wq_sm_ext {f g : Nat → Nat} (h : ∀ w, w < 8 → f w = g w) : wq_sm f = wq_sm g := by
  unfold wq_sm
  rw [h 0 (by omega), h 1 (by omega), h 2 (by omega), h 3 (by omega), h 4 (by omega), h 5 (by omega), h 6 (by omega), h 7 (by omega)]
theorem wq_sm_one (A : Bool) : ∀ b, b < 8 → wq_sm (fun w => if A = true ∧ w = b then 1 else 0) = A.toNat := by
  apply wq_8
  all_goals (cases A <;> rfl)
theorem wq_sm_lt {f : Nat → Nat} {n : Nat} (h : wq_sm f ≤ n) : ∀ w, w < 8 → f w ≤ n := by
  unfold wq_sm at h
  apply wq_8
  all_goals omega
theorem wq_c_sm {k lab x v : Nat} (hx : x < 128) (hab : x % 8 ≠ x / 8 % 8) : wq_sm (wq_c k lab x v) ≤ 1 := by
  have e : wq_sm (wq_c k lab x v) = (wq_fw k lab x v).toNat + (wq_bw k lab x v).toNat := by
    rw [← wq_sm_one (wq_fw k lab x v) (x / 8 % 8) (by omega), ← wq_sm_one (wq_bw k lab x v) (x % 8) (by omega), ← wq_sm_add]
    rfl
  rw [e]
  cases hf : wq_fw k lab x v with
  | false => cases wq_bw k lab x v <;> decide
  | true =>
    cases hb : wq_bw k lab x v with
    | false => decide
    | true =>
      have h1 := of_decide_eq_true hf
      have h2 := of_decide_eq_true hb
      omega
theorem wq_cs_sm {E : Nat → Nat} {k lab v : Nat} : ∀ m, (∀ e, e < m → E e < 128 ∧ E e % 8 ≠ E e / 8 % 8) → wq_sm (fun w => wq_cs E k lab v w m) ≤ m
  | 0, _ => by
    show 0 ≤ 0
    omega
  | m + 1, h => by
    have e : wq_sm (fun w => wq_cs E k lab v w (m + 1)) = wq_sm (fun w => wq_cs E k lab v w m) + wq_sm (wq_c k lab (E m) v) := wq_sm_add _ _
    have h1 := wq_cs_sm (k := k) (lab := lab) (v := v) m (fun e he => h e (by omega))
    have h2 := wq_c_sm (k := k) (lab := lab) (v := v) (h m (by omega)).1 (h m (by omega)).2
    omega
theorem wq_T_sm {E : Nat → Nat} {m k lab v : Nat} (hm : m ≤ 6) (hv : v < 8) (h : ∀ e, e < m → E e < 128 ∧ E e % 8 ≠ E e / 8 % 8) : wq_sm (wq_T E m k lab v) ≤ 7 := by
  have e : wq_sm (wq_T E m k lab v) = wq_sm (fun w => wq_cs E k lab v w m) + wq_sm (fun w => if k = 3 ∧ wq_mv E k lab v m = false ∧ w = v then 1 else 0) := wq_sm_add _ _
  have h1 := wq_cs_sm (k := k) (lab := lab) (v := v) m h
  have h2 : wq_sm (fun w => if k = 3 ∧ wq_mv E k lab v m = false ∧ w = v then 1 else 0) ≤ 1 := by
    have hs := wq_sm_one (decide (k = 3 ∧ wq_mv E k lab v m = false)) v hv
    have hs2 : wq_sm (fun w => if k = 3 ∧ wq_mv E k lab v m = false ∧ w = v then 1 else 0) = wq_sm (fun w => if decide (k = 3 ∧ wq_mv E k lab v m = false) = true ∧ w = v then 1 else 0) := wq_sm_ext (fun w _ => wq_ii (by rw [decide_eq_true_eq]; exact and_assoc.symm))
    rw [hs2, hs]
    cases decide (k = 3 ∧ wq_mv E k lab v m = false) <;> decide
  omega
def wq_su (W : Nat → Nat) : Nat → Nat
  | 0 => 0
  | v + 1 => wq_su W v + W v
theorem wq_S_sm {T : Nat → Nat → Nat} {W : Nat → Nat} : ∀ n, (∀ v, v < n → wq_sm (T v) ≤ 7) → wq_sm (fun w => wq_S T W w n) ≤ 7 * wq_su W n
  | 0, _ => by
    show 0 ≤ 0
    omega
  | n + 1, h => by
    have e : wq_sm (fun w => wq_S T W w (n + 1)) = wq_sm (fun w => wq_S T W w n) + wq_sm (fun w => T n w * W n) := wq_sm_add _ _
    have h1 := wq_S_sm (W := W) n (fun v hv => h v (by omega))
    have h2 : wq_sm (T n) * W n ≤ 7 * W n := Nat.mul_le_mul_right _ (h n (by omega))
    rw [wq_sm_mul] at e
    show _ ≤ 7 * (wq_su W n + W n)
    omega
theorem wq_su_sm (W : Nat → Nat) : wq_su W 8 = wq_sm W := by
  show 0 + W 0 + W 1 + W 2 + W 3 + W 4 + W 5 + W 6 + W 7 = W 0 + W 1 + W 2 + W 3 + W 4 + W 5 + W 6 + W 7
  omega
theorem wq_W_sm {E : Nat → Nat} {m : Nat} {K Lb W0 : Nat → Nat} (hm : m ≤ 6) (h : ∀ e, e < m → E e < 128 ∧ E e % 8 ≠ E e / 8 % 8) (h0 : wq_sm W0 ≤ 1) : ∀ n, wq_sm (wq_W (wq_T E m) K Lb W0 n) ≤ 7 ^ n
  | 0 => h0
  | n + 1 => by
    have h1 : wq_sm (wq_W (wq_T E m) K Lb W0 (n + 1)) ≤ 7 * wq_su (wq_W (wq_T E m) K Lb W0 n) 8 := wq_S_sm 8 (fun v hv => wq_T_sm hm hv h)
    rw [wq_su_sm] at h1
    have h2 := wq_W_sm (K := K) (Lb := Lb) hm h h0 n
    rw [Nat.pow_succ]
    omega
theorem wq_W_64 {E : Nat → Nat} {m : Nat} {K Lb W0 : Nat → Nat} (hm : m ≤ 6) (h : ∀ e, e < m → E e < 128 ∧ E e % 8 ≠ E e / 8 % 8) (h0 : wq_sm W0 ≤ 1) {n : Nat} (hn : n ≤ 2) : ∀ w, w < 8 → wq_W (wq_T E m) K Lb W0 n w < 64 := by
  have h1 := wq_W_sm (K := K) (Lb := Lb) hm h h0 n
  have h2 : 7 ^ n ≤ 7 ^ 2 := Nat.pow_le_pow_right (by decide) hn
  intro w hw
  have h3 := wq_sm_lt (Nat.le_trans h1 h2) w hw
  exact Nat.lt_of_le_of_lt h3 (by decide)
end
section
/-! the graph's picture, and what join and cut do to it -/
def wq_fl (O : Nat → Nat) (c b : Nat) : Nat → Nat := fun j => if j = c then O j ^^^ 2 ^ b else O j
theorem wq_fl_t (O : Nat → Nat) (c b j w : Nat) : (wq_fl O c b j).testBit w = if j = c ∧ w = b then !(O j).testBit w else (O j).testBit w := by
  unfold wq_fl
  by_cases h : j = c
  · rw [if_pos h, Nat.testBit_xor, Nat.testBit_two_pow]
    by_cases hb : w = b
    · rw [if_pos ⟨h, hb⟩, decide_eq_true hb.symm]
      cases (O j).testBit w <;> rfl
    · rw [if_neg (fun z => hb z.2), decide_eq_false (fun z => hb z.symm)]
      cases (O j).testBit w <;> rfl
  · rw [if_neg h, if_neg (fun z => h z.1)]
theorem wq_nb {b : Bool} {P : Prop} (h : b = true ↔ P) : (!b) = true ↔ ¬ P := by
  rw [← h]
  cases b <;> decide
theorem wq_L_fl {E E' O I : Nat → Nat} {m m' x : Nat} (hL : wq_L E m O I) (hx : x < 128) (h : ∀ y, (∃ e, e < m' ∧ E' e = y) ↔ (y = x ∧ ¬ ∃ e, e < m ∧ E e = x) ∨ (y ≠ x ∧ ∃ e, e < m ∧ E e = y)) : wq_L E' m' (wq_fl O (x / 64 * 8 + x % 8) (x / 8 % 8)) (wq_fl I (x / 64 * 8 + x / 8 % 8) (x % 8)) := by
  constructor
  · intro l v w hl hv hw
    rw [wq_fl_t, h]
    by_cases hc : l * 8 + v = x / 64 * 8 + x % 8 ∧ w = x / 8 % 8
    · rw [if_pos hc, wq_nb (hL.1 l v w hl hv hw), show v + 8 * w + 64 * l = x by omega]
      exact ⟨fun z => Or.inl ⟨rfl, z⟩, fun z => z.elim (fun q => q.2) (fun q => absurd rfl q.1)⟩
    · rw [if_neg hc, hL.1 l v w hl hv hw]
      have hn : v + 8 * w + 64 * l ≠ x := by omega
      exact ⟨fun z => Or.inr ⟨hn, z⟩, fun z => z.elim (fun q => absurd q.1 hn) (fun q => q.2)⟩
  · intro l v w hl hv hw
    rw [wq_fl_t, h]
    by_cases hc : l * 8 + v = x / 64 * 8 + x / 8 % 8 ∧ w = x % 8
    · rw [if_pos hc, wq_nb (hL.2 l v w hl hv hw), show w + 8 * v + 64 * l = x by omega]
      exact ⟨fun z => Or.inl ⟨rfl, z⟩, fun z => z.elim (fun q => q.2) (fun q => absurd rfl q.1)⟩
    · rw [if_neg hc, hL.2 l v w hl hv hw]
      have hn : w + 8 * v + 64 * l ≠ x := by omega
      exact ⟨fun z => Or.inr ⟨hn, z⟩, fun z => z.elim (fun q => absurd q.1 hn) (fun q => q.2)⟩
def wq_G (row : Int64) (m : Nat) (E O I : Nat → Nat) (a2 a3 : Nat → Int32) : Prop :=
  m ≤ 6 ∧ (∀ e, e < m → wq_ed row e = nI (E e) ∧ E e < 128 ∧ E e % 8 ≠ E e / 8 % 8) ∧ (∀ e e', e < m → e' < m → E e = E e' → e = e') ∧
  (∀ j, j < 16 → (a2 j = nI (O j) ∧ O j < 256) ∧ (a3 j = nI (I j) ∧ I j < 256)) ∧ wq_L E m O I
theorem wq_cell {a : Nat → Int32} {O : Nat → Nat} {c b : Nat} (hb : b < 8) (h : ∀ j, j < 16 → a j = nI (O j) ∧ O j < 256) (hc : c < 16) : ∀ j, j < 16 → upd a c (nI (O c ^^^ 2 ^ b)) j = nI (wq_fl O c b j) ∧ wq_fl O c b j < 256 := by
  intro j hj
  unfold wq_fl
  by_cases e : j = c
  · rw [if_pos e, e, pk_us]
    exact ⟨rfl, (wq_ox (O c) (h c hc).2 b hb).2⟩
  · rw [if_neg e, pk_un e]
    exact h j hj
theorem wq_G_join {row : Int64} {m : Nat} {E O I : Nat → Nat} {a2 a3 : Nat → Int32} (g : wq_G row m E O I a2 a3) {x : Nat} (hm : m < 6) (hx : x < 128) (hab : x % 8 ≠ x / 8 % 8) (hn : ∀ e, e < m → E e ≠ x) :
    wq_G (wq_put row m (nI x)) (m + 1) (fun e => if e = m then x else E e) (wq_fl O (x / 64 * 8 + x % 8) (x / 8 % 8)) (wq_fl I (x / 64 * 8 + x / 8 % 8) (x % 8))
      (upd a2 (x / 64 * 8 + x % 8) (nI (O (x / 64 * 8 + x % 8) ^^^ 2 ^ (x / 8 % 8)))) (upd a3 (x / 64 * 8 + x / 8 % 8) (nI (I (x / 64 * 8 + x / 8 % 8) ^^^ 2 ^ (x % 8)))) := by
  obtain ⟨g1, g2, g3, g4, g5⟩ := g
  refine ⟨by omega, fun e he => ?_, fun e e' he he' h => ?_, fun j hj => ?_, ?_⟩
  · dsimp only
    rw [wq_ed_put row (by omega) (by omega) hx]
    by_cases h : e = m
    · rw [if_pos h, if_pos h]
      exact ⟨rfl, hx, hab⟩
    · rw [if_neg h, if_neg h]
      exact g2 e (by omega)
  · dsimp only at h
    by_cases h1 : e = m
    · by_cases h2 : e' = m
      · omega
      · rw [if_pos h1, if_neg h2] at h
        exact absurd h.symm (hn e' (by omega))
    · by_cases h2 : e' = m
      · rw [if_neg h1, if_pos h2] at h
        exact absurd h (hn e (by omega))
      · rw [if_neg h1, if_neg h2] at h
        exact g3 e e' (by omega) (by omega) h
  · exact ⟨wq_cell (by omega) (fun j hj => (g4 j hj).1) (by omega) j hj, wq_cell (by omega) (fun j hj => (g4 j hj).2) (by omega) j hj⟩
  · refine wq_L_fl g5 hx (fun y => ⟨?_, ?_⟩)
    · rintro ⟨e, he, h⟩
      by_cases h1 : e = m
      · rw [if_pos h1] at h
        exact Or.inl ⟨h.symm, fun ⟨e', he', h'⟩ => hn e' he' h'⟩
      · rw [if_neg h1] at h
        exact Or.inr ⟨fun z => hn e (by omega) (h.trans z), e, by omega, h⟩
    · rintro (⟨h, _⟩ | ⟨h, e, he, h2⟩)
      · exact ⟨m, by omega, by rw [if_pos rfl, h]⟩
      · exact ⟨e, by omega, by rw [if_neg (by omega), h2]⟩
theorem wq_G_cut {row : Int64} {m : Nat} {E O I : Nat → Nat} {a2 a3 : Nat → Int32} (g : wq_G row (m + 1) E O I a2 a3) {e0 : Nat} (h0 : e0 < m + 1) {x : Nat} (hx0 : E e0 = x) :
    wq_G (wq_put row e0 (nI (E m))) m (fun e => if e = e0 then E m else E e) (wq_fl O (x / 64 * 8 + x % 8) (x / 8 % 8)) (wq_fl I (x / 64 * 8 + x / 8 % 8) (x % 8))
      (upd a2 (x / 64 * 8 + x % 8) (nI (O (x / 64 * 8 + x % 8) ^^^ 2 ^ (x / 8 % 8)))) (upd a3 (x / 64 * 8 + x / 8 % 8) (nI (I (x / 64 * 8 + x / 8 % 8) ^^^ 2 ^ (x % 8)))) := by
  obtain ⟨g1, g2, g3, g4, g5⟩ := g
  have hx : x < 128 := by
    rw [← hx0]
    exact (g2 e0 h0).2.1
  refine ⟨by omega, fun e he => ?_, fun e e' he he' h => ?_, fun j hj => ?_, ?_⟩
  · dsimp only
    rw [wq_ed_put row (by omega) (by omega) (g2 m (by omega)).2.1]
    by_cases h : e = e0
    · rw [if_pos h, if_pos h]
      exact ⟨rfl, (g2 m (by omega)).2⟩
    · rw [if_neg h, if_neg h]
      exact g2 e (by omega)
  · dsimp only at h
    by_cases h1 : e = e0
    · by_cases h2 : e' = e0
      · omega
      · rw [if_pos h1, if_neg h2] at h
        have := g3 m e' (by omega) (by omega) h
        omega
    · by_cases h2 : e' = e0
      · rw [if_neg h1, if_pos h2] at h
        have := g3 e m (by omega) (by omega) h
        omega
      · rw [if_neg h1, if_neg h2] at h
        exact g3 e e' (by omega) (by omega) h
  · exact ⟨wq_cell (by omega) (fun j hj => (g4 j hj).1) (by omega) j hj, wq_cell (by omega) (fun j hj => (g4 j hj).2) (by omega) j hj⟩
  · refine wq_L_fl g5 hx (fun y => ⟨?_, ?_⟩)
    · rintro ⟨e, he, h⟩
      by_cases h1 : e = e0
      · rw [if_pos h1] at h
        refine Or.inr ⟨fun z => ?_, m, by omega, h⟩
        have := g3 m e0 (by omega) h0 (by rw [h, hx0, z])
        omega
      · rw [if_neg h1] at h
        refine Or.inr ⟨fun z => ?_, e, by omega, h⟩
        exact h1 (g3 e e0 (by omega) h0 (by rw [h, hx0, z]))
    · rintro (⟨h, h'⟩ | ⟨h, e, he, h2⟩)
      · exact absurd ⟨e0, h0, hx0⟩ h'
      · have hne : e ≠ e0 := by
          intro z
          rw [z, hx0] at h2
          exact h h2.symm
        by_cases hm : e = m
        · refine ⟨e0, by omega, ?_⟩
          rw [if_pos rfl, ← hm, h2]
        · refine ⟨e, by omega, ?_⟩
          rw [if_neg hne, h2]
/-! the plan -/
def wq_Pl (plan : Int32) (n : Nat) (K Lb : Nat → Nat) (a4 a5 : Nat → Int32) : Prop :=
  n ≤ 2 ∧ ∀ i, i < n → wq_pg plan i = nI (K i + 4 * Lb i) ∧ K i < 4 ∧ Lb i < 3 ∧ a4 i = nI (K i) ∧ a5 i = nI (Lb i)
theorem wq_Pl_add {plan : Int32} {n : Nat} {K Lb : Nat → Nat} {a4 a5 : Nat → Int32} (g : wq_Pl plan n K Lb a4 a5) {x : Nat} (hn : n < 2) : wq_Pl (wq_pp plan n (nI (x % 4 + 4 * (x / 4 % 3)))) (n + 1) (fun i => if i = n then x % 4 else K i) (fun i => if i = n then x / 4 % 3 else Lb i) (upd a4 n (nI (x % 4))) (upd a5 n (nI (x / 4 % 3))) := by
  refine ⟨by omega, fun i hi => ?_⟩
  dsimp only
  rw [wq_pg_pp plan (by omega) (by omega) (by omega)]
  by_cases h : i = n
  · rw [if_pos h, if_pos h, if_pos h, h, pk_us, pk_us]
    exact ⟨rfl, by omega, by omega, rfl, rfl⟩
  · rw [if_neg h, if_neg h, if_neg h, pk_un h, pk_un h]
    exact g.2 i (by omega)
theorem wq_Pl_drop {plan : Int32} {n : Nat} {K Lb : Nat → Nat} {a4 a5 : Nat → Int32} (g : wq_Pl plan (n + 1) K Lb a4 a5) : wq_Pl plan n K Lb a4 a5 := by
  have h1 := g.1
  exact ⟨by omega, fun i hi => g.2 i (by omega)⟩
end
section
/-! the class's walks: exact functions of the arrays -/
theorem wq_ix (a b : Nat) : nI a * 8 + nI b = nI (a * 8 + b) := by
  show nI a * nI 8 + nI b = _
  rw [pk_mul, nI_add]
theorem wq_cx {a b : Nat} (h : a * 8 + b < 2 ^ 31) : (nI a * 8 + nI b).toNatClampNeg = a * 8 + b := by
  rw [wq_ix, nI_clamp h]
theorem wq_al (x b : Int32) (a c : Nat) : x + nI a * b + nI c * b = x + nI (a + c) * b := by
  rw [← nI_add, Int32.add_mul, Int32.add_assoc]
theorem wq_a0 (x b : Int32) : x = x + nI 0 * b := by
  rw [nI_0, Int32.zero_mul, Int32.add_zero]
theorem wq_a1 (x b : Int32) : x + b = x + nI 1 * b := by
  rw [show nI 1 = 1 from rfl, Int32.one_mul]
def wq_car (v w i : Nat) (h b : Nat → Int32) : Nat → Int32 := fun j => if j / 8 = w ∧ j % 8 < i then h j + b (v * 8 + j % 8) else h j
theorem wq_car_0 (v w : Nat) (h b : Nat → Int32) : h = wq_car v w 0 h b := by
  funext j
  unfold wq_car
  rw [if_neg (by omega)]
theorem wq_car_s (v w i : Nat) (hi : i < 8) (h b : Nat → Int32) : upd (wq_car v w i h b) (w * 8 + i) (wq_car v w i h b (w * 8 + i) + b (v * 8 + i)) = wq_car v w (i + 1) h b := by
  funext j
  by_cases e : j = w * 8 + i
  · have e1 : (w * 8 + i) / 8 = w := by omega
    have e2 : (w * 8 + i) % 8 = i := by omega
    rw [e, pk_us]
    unfold wq_car
    rw [e1, e2, if_neg (by omega), if_pos (by omega)]
  · rw [pk_un e]
    unfold wq_car
    by_cases c : j / 8 = w ∧ j % 8 < i
    · rw [if_pos c, if_pos (by omega)]
    · rw [if_neg c, if_neg (by omega)]
/-- a carry that is done or isn't -/
def wq_cc (t : Bool) (v i : Nat) (h b : Nat → Int32) : Nat → Int32 := match t with
  | true => wq_car v i 8 h b
  | false => h
theorem wq_cc_at (t : Bool) (v i : Nat) (h b : Nat → Int32) (j : Nat) : wq_cc t v i h b j = h j + nI (if j / 8 = i then t.toNat else 0) * b (v * 8 + j % 8) := by
  cases t with
  | true =>
    show wq_car v i 8 h b j = _
    unfold wq_car
    by_cases e : j / 8 = i
    · rw [if_pos ⟨e, by omega⟩, if_pos e]
      exact wq_a1 _ _
    · rw [if_neg (fun z => e z.1), if_neg e]
      exact wq_a0 _ _
  | false =>
    show h j = _
    rw [show (if j / 8 = i then false.toNat else 0) = 0 by split <;> rfl]
    exact wq_a0 _ _
def wq_spr (v o p i : Nat) (h b : Nat → Int32) : Nat → Int32 := fun j => if j / 8 < i then h j + nI ((o.testBit (j / 8)).toNat + (p.testBit (j / 8)).toNat) * b (v * 8 + j % 8) else h j
theorem wq_spr_0 (v o p : Nat) (h b : Nat → Int32) : h = wq_spr v o p 0 h b := by
  funext j
  unfold wq_spr
  rw [if_neg (by omega)]
theorem wq_spr_s (v o p i : Nat) (h b : Nat → Int32) : wq_cc (p.testBit i) v i (wq_cc (o.testBit i) v i (wq_spr v o p i h b) b) b = wq_spr v o p (i + 1) h b := by
  funext j
  rw [wq_cc_at, wq_cc_at, wq_al]
  unfold wq_spr
  by_cases e : j / 8 = i
  · rw [if_pos e, if_pos e, if_neg (by omega), if_pos (by omega), e]
  · rw [if_neg e, if_neg e, ← wq_a0]
    by_cases c : j / 8 < i
    · rw [if_pos c, if_pos (by omega)]
    · rw [if_neg c, if_neg (by omega)]
def wq_ls (k lab v : Nat) (O I : Nat → Nat) (b h : Nat → Int32) : Nat → Nat → Int32
  | 0 => h
  | l + 1 => if lab = 2 ∨ lab = l then wq_spr v (wq_o k (O (l * 8 + v))) (wq_p k (I (l * 8 + v))) 8 (wq_ls k lab v O I b h l) b else wq_ls k lab v O I b h l
def wq_lv (k lab v : Nat) (O I : Nat → Nat) (b h : Nat → Int32) : Nat → Int32 := wq_cc (decide (k = 3 ∧ wq_go O lab v = false)) v v (wq_ls k lab v O I b h 2) b
def wq_vs (k lab : Nat) (O I : Nat → Nat) (b h : Nat → Int32) : Nat → Nat → Int32
  | 0 => h
  | v + 1 => wq_lv k lab v O I b (wq_vs k lab O I b h v)
def wq_cp (i : Nat) (h b : Nat → Int32) : Nat → Int32 := fun j => if j < i then h j else b j
theorem wq_cp_0 (h b : Nat → Int32) : b = wq_cp 0 h b := by
  funext j
  unfold wq_cp
  rw [if_neg (by omega)]
theorem wq_cp_s (i : Nat) (h b : Nat → Int32) : upd (wq_cp i h b) i (h i) = wq_cp (i + 1) h b := by
  funext j
  by_cases e : j = i
  · rw [e, pk_us]
    unfold wq_cp
    rw [if_pos (by omega)]
  · rw [pk_un e]
    unfold wq_cp
    by_cases c : j < i
    · rw [if_pos c, if_pos (by omega)]
    · rw [if_neg c, if_neg (by omega)]
/-! what they hold: at vertex v with start s -/
def wq_V (st : Nat) (W : Nat → Nat) (h : Nat → Int32) : Prop := ∀ v s, v < 8 → s < 8 → h (v * 8 + s) = if s = st then nI (W v) else 0
theorem wq_ls_at {k lab v : Nat} {O I : Nat → Nat} {b h : Nat → Int32} {w s : Nat} (hw : w < 8) (hs : s < 8) (l : Nat) : wq_ls k lab v O I b h (l + 1) (w * 8 + s) = wq_ls k lab v O I b h l (w * 8 + s) + nI (if lab = 2 ∨ lab = l then wq_dl O I k v w l else 0) * b (v * 8 + s) := by
  have e1 : (w * 8 + s) / 8 = w := by omega
  have e2 : (w * 8 + s) % 8 = s := by omega
  show (if lab = 2 ∨ lab = l then wq_spr v (wq_o k (O (l * 8 + v))) (wq_p k (I (l * 8 + v))) 8 (wq_ls k lab v O I b h l) b else wq_ls k lab v O I b h l) (w * 8 + s) = _
  by_cases c : lab = 2 ∨ lab = l
  · rw [if_pos c, if_pos c]
    unfold wq_spr
    rw [e1, e2, if_pos hw]
    rfl
  · rw [if_neg c, if_neg c]
    exact wq_a0 _ _
theorem wq_lv_at {k lab v : Nat} {O I : Nat → Nat} {b h : Nat → Int32} {w s : Nat} (hw : w < 8) (hs : s < 8) : wq_lv k lab v O I b h (w * 8 + s) = h (w * 8 + s) + nI (wq_D O I k lab v w) * b (v * 8 + s) := by
  have e1 : (w * 8 + s) / 8 = w := by omega
  have e2 : (w * 8 + s) % 8 = s := by omega
  unfold wq_lv
  rw [wq_cc_at, e1, e2, wq_ls_at hw hs, wq_ls_at hw hs, wq_al, wq_al]
  unfold wq_D
  have e : (if w = v then (decide (k = 3 ∧ wq_go O lab v = false)).toNat else 0) = (if k = 3 ∧ wq_go O lab v = false ∧ w = v then 1 else 0) := by
    by_cases c : w = v
    · by_cases d : k = 3 ∧ wq_go O lab v = false
      · rw [if_pos c, decide_eq_true d, if_pos ⟨d.1, d.2, c⟩]
        rfl
      · rw [if_pos c, decide_eq_false d, if_neg (fun z => d ⟨z.1, z.2.1⟩)]
        rfl
    · rw [if_neg c, if_neg (fun z => c z.2.2)]
  rw [e, ← Nat.add_assoc]
  rfl
theorem wq_vs_at {k lab st : Nat} {O I W : Nat → Nat} {b h : Nat → Int32} (hb : wq_V st W b) (hz : ∀ j, j < 64 → h j = 0) : ∀ n, n ≤ 8 → ∀ w s, w < 8 → s < 8 → wq_vs k lab O I b h n (w * 8 + s) = if s = st then nI (wq_S (wq_D O I k lab) W w n) else 0
  | 0, _, w, s, hw, hs => by
    show h (w * 8 + s) = if s = st then nI 0 else 0
    rw [hz _ (by omega), nI_0]
    split <;> rfl
  | n + 1, hn, w, s, hw, hs => by
    show wq_lv k lab n O I b (wq_vs k lab O I b h n) (w * 8 + s) = if s = st then nI (wq_S (wq_D O I k lab) W w n + wq_D O I k lab n w * W n) else 0
    rw [wq_lv_at hw hs, wq_vs_at hb hz n (by omega) w s hw hs, hb n s (by omega) hs]
    by_cases c : s = st
    · rw [if_pos c, if_pos c, if_pos c, pk_mul, nI_add]
    · rw [if_neg c, if_neg c, if_neg c, Int32.mul_zero, Int32.add_zero]
theorem wq_V_move {k lab st : Nat} {O I W : Nat → Nat} {a6 a7 : Nat → Int32} (h : wq_V st W a6) : wq_V st (fun w => wq_S (wq_D O I k lab) W w 8) (wq_vs k lab O I (wq_cp 64 a6 a7) (wq_cp 64 (fun _ => 0) a6) 8) := by
  intro w s hw hs
  refine wq_vs_at (fun v s hv hs => ?_) (fun j hj => ?_) 8 (by omega) w s hw hs
  · unfold wq_cp
    rw [if_pos (by omega)]
    exact h v s hv hs
  · unfold wq_cp
    rw [if_pos hj]
/-! the walks themselves -/
section
variable {post : St1 → Prop} {f0 f1 f2 f3 : Int32} {a1 a2 a3 a4 a5 a6 a7 a8 : Nat → Int32}
theorem wq_carry {v w : Nat} (hv : v < 8) (hw : w < 8) (H : post (f0, f1, f2, f3, a1, a2, a3, a4, a5, wq_car v w 8 a6 a7, a7, a8)) : wpX_carry post (f0, f1, f2, f3, a1, a2, a3, a4, a5, a6, a7, a8) (nI v) (nI w) :=
  pk_loop (fun n i s => wX_carry_2 post (nI v) (nI w) f0 f1 f2 f3 n (nI i) a1 a2 a3 a4 a5 s a7 a8) (fun i s => s = wq_car v w i a6 a7) 8 0 a6 (by omega) (wq_car_0 v w a6 a7)
    (fun n s h => pk_le 8 8 (fun _ => by rw [h]; exact H) (fun z => absurd z (by omega)))
    (fun n i s hi h hs => pk_le 8 i (fun z => absurd z (by omega)) (fun _ => ⟨pk_in (w * 8 + i) 64 (by omega) (wq_ix w i), pk_in (v * 8 + i) 64 (by omega) (wq_ix v i), pk_in (w * 8 + i) 64 (by omega) (wq_ix w i), nm_r (e' := wq_car v w (i + 1) a6 a7) (by rw [wq_cx (by omega), wq_cx (by omega), h]; exact wq_car_s v w i hi a6 a7) (nm_r (nI_1 i) (hs _ rfl))⟩))
theorem wq_carryT {t : Bool} {x : Int32} {v w : Nat} (hx : x = nI t.toNat) (hv : v < 8) (hw : w < 8) {Q : Prop} (HF : t = false → Q) (HT : t = true → post (f0, f1, f2, f3, a1, a2, a3, a4, a5, wq_car v w 8 a6 a7, a7, a8)) : (x = 0 → Q) ∧ (¬ x = 0 → wpX_carry post (f0, f1, f2, f3, a1, a2, a3, a4, a5, a6, a7, a8) (nI v) (nI w)) := by
  rw [hx, wq_bb]
  exact ⟨HF, fun z => wq_carry hv hw (HT (by cases t with | false => exact absurd rfl z | true => rfl))⟩
theorem wq_76 {J52 : Int32 → Int32 → Int32 → Int32 → Int32 → (Nat → Int32) → (Nat → Int32) → (Nat → Int32) → (Nat → Int32) → (Nat → Int32) → (Nat → Int32) → (Nat → Int32) → (Nat → Int32) → Prop} {x4 : Int32} {v p i : Nat} (hv : v < 8) (hp : p < 256) (hi : i < 8) (H : J52 (nI (i + 1)) f0 f1 f2 f3 a1 a2 a3 a4 a5 (wq_cc (p.testBit i) v i a6 a7) a7 a8) : wX_spread_76 post J52 (nI v) x4 (nI p) (nI i) f0 f1 f2 f3 a1 a2 a3 a4 a5 a6 a7 a8 := by
  unfold wX_spread_76
  refine wq_carryT (wq_ob p hp i hi) hv hi (fun z => nm_r (nI_1 i) ?_) (fun z => nm_r (nI_1 i) ?_)
  · rw [z] at H
    exact H
  · rw [z] at H
    exact H
theorem wq_52 {v o p : Nat} (hv : v < 8) (ho : o < 256) (hp : p < 256) (H : post (f0, f1, f2, f3, a1, a2, a3, a4, a5, wq_spr v o p 8 a6 a7, a7, a8)) : ∃ n, wX_spread_52 post (nI v) (nI o) (nI p) n 0 f0 f1 f2 f3 a1 a2 a3 a4 a5 a6 a7 a8 :=
  pk_loop (fun n i s => wX_spread_52 post (nI v) (nI o) (nI p) n (nI i) f0 f1 f2 f3 a1 a2 a3 a4 a5 s a7 a8) (fun i s => s = wq_spr v o p i a6 a7) 8 0 a6 (by omega) (wq_spr_0 v o p a6 a7)
    (fun n s h => pk_le 8 8 (fun _ => by rw [h]; exact H) (fun z => absurd z (by omega)))
    (fun n i s hi h hs => pk_le 8 i (fun z => absurd z (by omega)) (fun _ => wq_carryT (wq_ob o ho i hi) hv hi
      (fun z => wq_76 hv hp hi (hs _ (by rw [h, ← wq_spr_s v o p i a6 a7, z]; rfl)))
      (fun z => wq_76 hv hp hi (hs _ (by rw [h, ← wq_spr_s v o p i a6 a7, z]; rfl)))))
theorem wq_20 {k v l o : Nat} {I : Nat → Nat} (hk : k < 4) (hv : v < 8) (hl : l < 2) (ho : o < 256) (hI : a3 (l * 8 + v) = nI (I (l * 8 + v)) ∧ I (l * 8 + v) < 256) (H : post (f0, f1, f2, f3, a1, a2, a3, a4, a5, wq_spr v o (wq_p k (I (l * 8 + v))) 8 a6 a7, a7, a8)) : wX_spread_20 post (nI k) (nI v) (nI l) (nI o) f0 f1 f2 f3 a1 a2 a3 a4 a5 a6 a7 a8 := by
  have X : (k = 1 ∨ k = 2) → wX_spread_32 post (nI v) (nI l) (nI o) f0 f1 f2 f3 a1 a2 a3 a4 a5 a6 a7 a8 := by
    intro hc
    unfold wq_p at H
    rw [if_pos hc] at H
    exact ⟨pk_in (l * 8 + v) 16 (by omega) (wq_ix l v), nm_r (e' := nI (I (l * 8 + v))) (by rw [wq_cx (by omega)]; exact hI.1) (wq_52 hv ho hI.2 H)⟩
  refine pk_eq k 1 (fun z => X (Or.inl z)) (fun z => pk_eq k 2 (fun z2 => X (Or.inr z2)) (fun z2 => ?_))
  unfold wq_p at H
  rw [if_neg (by omega)] at H
  exact wq_52 hv ho (p := 0) (by omega) H
theorem wq_spread {k v l : Nat} {O I : Nat → Nat} (hk : k < 4) (hv : v < 8) (hl : l < 2) (hO : a2 (l * 8 + v) = nI (O (l * 8 + v)) ∧ O (l * 8 + v) < 256) (hI : a3 (l * 8 + v) = nI (I (l * 8 + v)) ∧ I (l * 8 + v) < 256) (H : post (f0, f1, f2, f3, a1, a2, a3, a4, a5, wq_spr v (wq_o k (O (l * 8 + v))) (wq_p k (I (l * 8 + v))) 8 a6 a7, a7, a8)) : wpX_spread post (f0, f1, f2, f3, a1, a2, a3, a4, a5, a6, a7, a8) (nI k) (nI v) (nI l) := by
  refine pk_eq k 1 (fun z => ?_) (fun z => ⟨pk_in (l * 8 + v) 16 (by omega) (wq_ix l v), ?_⟩)
  · unfold wq_o at H
    rw [if_pos z] at H
    exact wq_20 hk hv hl (o := 0) (by omega) hI H
  · unfold wq_o at H
    rw [if_neg z] at H
    rw [wq_cx (by omega), hO.1]
    exact wq_20 hk hv hl hO.2 hI H
theorem wq_moves {post : Int32 → Prop} {v lab : Nat} {O : Nat → Nat} (hv : v < 8) (hl : lab < 3) (hO : ∀ j, j < 16 → a2 j = nI (O j) ∧ O j < 256) (H : post (nI (wq_go O lab v).toNat)) : wpX_moves post (f0, f1, f2, f3, a1, a2, a3, a4, a5, a6, a7, a8) (nI v) (nI lab) := by
  have H0 : ¬ ((lab ≠ 1 ∧ O v ≠ 0) ∨ (lab ≠ 0 ∧ O (8 + v) ≠ 0)) → post 0 := by
    intro z
    unfold wq_go at H
    rw [decide_eq_false z] at H
    exact H
  have H1 : ((lab ≠ 1 ∧ O v ≠ 0) ∨ (lab ≠ 0 ∧ O (8 + v) ≠ 0)) → post 1 := by
    intro z
    unfold wq_go at H
    rw [decide_eq_true z] at H
    exact H
  have hv8 := (hO v (by omega)).2
  have hv9 := (hO (8 + v) (by omega)).2
  have X : ¬ (lab ≠ 1 ∧ O v ≠ 0) → wX_moves_18 post (nI v) (nI lab) f0 f1 f2 f3 a1 a2 a3 a4 a5 a6 a7 a8 := by
    intro hc
    unfold wX_moves_18
    refine br_t rfl (pk_eq lab 0 (fun z => H0 (by omega)) (fun z => ⟨pk_in (8 + v) 16 (by omega) (nI_add 8 v), ?_⟩))
    exact pk_eq (O (8 + v)) 0 (fun z2 => H0 (by omega)) (fun z2 => H1 (Or.inr ⟨z, z2⟩)) ((congrArg a2 (pk_cl (8 + v) (nI_add 8 v))).trans (hO (8 + v) (by omega)).1)
  refine pk_eq lab 1 (fun z => X (by omega)) (fun z => ⟨pk_in v 16 (by omega), ?_⟩)
  exact pk_eq (O v) 0 (fun z2 => X (by omega)) (fun z2 => br_f (by decide) (H1 (Or.inl ⟨z, z2⟩))) ((congrArg a2 (pk_cl v)).trans (hO v (by omega)).1)
theorem wq_44 {J35 : Int32 → Int32 → Int32 → Int32 → Int32 → (Nat → Int32) → (Nat → Int32) → (Nat → Int32) → (Nat → Int32) → (Nat → Int32) → (Nat → Int32) → (Nat → Int32) → (Nat → Int32) → Prop} {k lab v : Nat} {O I : Nat → Nat} (hk : k < 4) (hl : lab < 3) (hv : v < 8) (hO : ∀ j, j < 16 → (a2 j = nI (O j) ∧ O j < 256) ∧ (a3 j = nI (I j) ∧ I j < 256))
    (H : J35 (nI (v + 1)) f0 f1 f2 f3 a1 a2 a3 a4 a5 (wq_lv k lab v O I a7 a6) a7 a8) : ∃ n, wX_move_44 post J35 (nI k) (nI lab) (nI v) n 0 f0 f1 f2 f3 a1 a2 a3 a4 a5 a6 a7 a8 := by
  refine pk_loop (fun n i s => wX_move_44 post J35 (nI k) (nI lab) (nI v) n (nI i) f0 f1 f2 f3 a1 a2 a3 a4 a5 s a7 a8) (fun i s => s = wq_ls k lab v O I a7 a6 i) 2 0 a6 (by omega) rfl ?_ ?_
  · intro n s h
    unfold wq_lv at H
    rw [← h] at H
    refine pk_le 2 2 (fun _ => pk_eq k 3 (fun z => wq_moves hv hl (fun j hj => (hO j hj).1) ?_) (fun z => nm_r (nI_1 v) ?_)) (fun z => absurd z (by omega))
    · cases hg : wq_go O lab v with
      | false =>
        rw [decide_eq_true ⟨z, hg⟩] at H
        exact br_t rfl (wq_carry hv hv (nm_r (nI_1 v) H))
      | true =>
        rw [decide_eq_false (fun q => by rw [hg] at q; exact absurd q.2 (by decide))] at H
        exact br_f (by decide) (nm_r (nI_1 v) H)
    · rw [decide_eq_false (fun q => z q.1)] at H
      exact H
  · intro n i s hi h hs
    have Y : (lab = 2 ∨ lab = i) → wX_move_61 post J35 (wX_move_44 post J35 (nI k) (nI lab) (nI v) n) (nI k) (nI lab) (nI v) (nI i) f0 f1 f2 f3 a1 a2 a3 a4 a5 s a7 a8 := by
      intro hc
      unfold wX_move_61
      refine wq_spread hk hv hi (hO _ (by omega)).1 (hO _ (by omega)).2 (nm_r (nI_1 i) (hs _ ?_))
      rw [h]
      exact (if_pos hc).symm
    refine pk_le 2 i (fun z => absurd z (by omega)) (fun _ => pk_eq lab 2 (fun z => Y (Or.inl z)) (fun z => pk_eq lab i (fun z2 => Y (Or.inr z2)) (fun z2 => nm_r (nI_1 i) (hs _ ?_))))
    rw [h]
    exact (if_neg (by omega)).symm
theorem wq_35 {k lab : Nat} {O I : Nat → Nat} (hk : k < 4) (hl : lab < 3) (hO : ∀ j, j < 16 → (a2 j = nI (O j) ∧ O j < 256) ∧ (a3 j = nI (I j) ∧ I j < 256))
    (H : post (f0, f1, f2, f3, a1, a2, a3, a4, a5, wq_vs k lab O I a7 a6 8, a7, a8)) : ∃ n, wX_move_35 post (nI k) (nI lab) n 0 f0 f1 f2 f3 a1 a2 a3 a4 a5 a6 a7 a8 :=
  pk_loop (fun n i s => wX_move_35 post (nI k) (nI lab) n (nI i) f0 f1 f2 f3 a1 a2 a3 a4 a5 s a7 a8) (fun i s => s = wq_vs k lab O I a7 a6 i) 8 0 a6 (by omega) rfl
    (fun n s h => pk_le 8 8 (fun _ => by rw [h]; exact H) (fun z => absurd z (by omega)))
    (fun n i s hi h hs => pk_le 8 i (fun z => absurd z (by omega)) (fun _ => wq_44 hk hl hi hO (hs _ (by rw [h]; rfl))))
theorem wq_move {k lab : Nat} {O I : Nat → Nat} (hk : k < 4) (hl : lab < 3) (hO : ∀ j, j < 16 → (a2 j = nI (O j) ∧ O j < 256) ∧ (a3 j = nI (I j) ∧ I j < 256))
    (H : post (f0, f1, f2, f3, a1, a2, a3, a4, a5, wq_vs k lab O I (wq_cp 64 a6 a7) (wq_cp 64 (fun _ => 0) a6) 8, wq_cp 64 a6 a7, a8)) : wpX_move post (f0, f1, f2, f3, a1, a2, a3, a4, a5, a6, a7, a8) (nI k) (nI lab) := by
  refine pk_loop (σ := (Nat → Int32) × (Nat → Int32)) (fun n i s => wX_move_2 post (nI k) (nI lab) f0 f1 f2 f3 n (nI i) a1 a2 a3 a4 a5 s.1 s.2 a8) (fun i s => s.1 = wq_cp i (fun _ => 0) a6 ∧ s.2 = wq_cp i a6 a7) 64 0 (a6, a7) (by omega) ⟨wq_cp_0 _ _, wq_cp_0 _ _⟩ ?_ ?_
  · intro n s h
    refine pk_le 64 64 (fun _ => ?_) (fun z => absurd z (by omega))
    rw [h.1, h.2]
    exact wq_35 hk hl hO H
  · intro n i s hi h hs
    have e6 : s.1 i = a6 i := by
      rw [h.1]
      unfold wq_cp
      rw [if_neg (by omega)]
    refine pk_le 64 i (fun z => absurd z (by omega)) (fun _ => ⟨pk_in i 64 hi, pk_in i 64 hi, nm_r (e' := wq_cp (i + 1) a6 a7) ?_ ⟨pk_in i 64 hi, nm_r (e' := wq_cp (i + 1) (fun _ => 0) a6) ?_ (nm_r (nI_1 i) (hs (wq_cp (i + 1) (fun _ => 0) a6, wq_cp (i + 1) a6 a7) ⟨rfl, rfl⟩))⟩⟩)
    · rw [nI_clamp (by omega), e6, h.2]
      exact wq_cp_s i a6 a7
    · rw [nI_clamp (by omega), h.1]
      exact wq_cp_s i (fun _ => 0) a6
theorem wq_total {post : Int32 → Prop} (H : ∀ r, post r) : wpX_total post (f0, f1, f2, f3, a1, a2, a3, a4, a5, a6, a7, a8) :=
  pk_loop (fun n i s => wX_total_4 post f0 f1 f2 f3 a1 a2 a3 a4 a5 a6 a7 a8 n s (nI i)) (fun _ _ => True) 64 0 0 (by omega) trivial
    (fun n s h => pk_le 64 64 (fun _ => H s) (fun z => absurd z (by omega)))
    (fun n i s hi h hs => pk_le 64 i (fun z => absurd z (by omega)) (fun _ => ⟨pk_in i 64 hi, nm_e (nm_r (nI_1 i) (hs _ trivial))⟩))
end
end
section
/-! walk, at, between -/
def wq_W0 (sb : Bool) (st : Nat) : Nat → Nat := fun v => if sb = true ∧ v = st then 1 else 0
def wq_sv (sb : Bool) (st : Nat) : Nat := match sb with
  | true => 2 ^ st
  | false => 0
def wq_in (sv : Nat) : Nat → Int32 := fun j => if j / 8 = j % 8 ∧ sv.testBit (j % 8) = true then 1 else 0
theorem wq_sv_lt {sb : Bool} {st : Nat} (h : st < 8) : wq_sv sb st < 256 := by
  cases sb with
  | true => exact (wq_1s st h).2
  | false => exact (by decide : 0 < 256)
theorem wq_W0_sm {sb : Bool} {st : Nat} (h : st < 8) : wq_sm (wq_W0 sb st) ≤ 1 := by
  have e : wq_sm (wq_W0 sb st) = sb.toNat := wq_sm_one sb st h
  rw [e]
  cases sb <;> decide
theorem wq_V_0 {sb : Bool} {st : Nat} {a6 : Nat → Int32} (h : st < 8) : wq_V st (wq_W0 sb st) (wq_cp 64 (wq_in (wq_sv sb st)) a6) := by
  intro v s hv hs
  have e1 : (v * 8 + s) / 8 = v := by omega
  have e2 : (v * 8 + s) % 8 = s := by omega
  unfold wq_cp
  rw [if_pos (by omega)]
  unfold wq_in wq_W0
  rw [e1, e2]
  cases sb with
  | false =>
    show (if v = s ∧ (0 : Nat).testBit s = true then (1 : Int32) else 0) = _
    rw [Nat.zero_testBit]
    simp [nI_0]
  | true =>
    show (if v = s ∧ (2 ^ st : Nat).testBit s = true then (1 : Int32) else 0) = _
    rw [Nat.testBit_two_pow]
    by_cases c : s = st
    · by_cases d : v = st
      · rw [if_pos ⟨by omega, decide_eq_true c.symm⟩, if_pos c, if_pos ⟨rfl, d⟩]
        rfl
      · rw [if_neg (by omega), if_pos c, if_neg (fun z => d z.2)]
        rfl
    · rw [if_neg c, if_neg (fun z => c (of_decide_eq_true z.2).symm)]
section
variable {f0 f1 f2 f3 : Int32} {a1 a2 a3 a4 a5 a6 a7 a8 : Nat → Int32}
theorem wq_156 {post : St1 → Prop} {J85 : Int32 → Int32 → Int32 → Int32 → Int32 → (Nat → Int32) → (Nat → Int32) → (Nat → Int32) → (Nat → Int32) → (Nat → Int32) → (Nat → Int32) → (Nat → Int32) → (Nat → Int32) → Prop} {i : Nat} (hi : i < 6) (H : ∀ a8', J85 (nI (i + 1)) f0 f1 f2 f3 a1 a2 a3 a4 a5 a6 a7 a8') : wX_walk_156 post J85 (nI i) f0 f1 f2 f3 a1 a2 a3 a4 a5 a6 a7 a8 := by
  unfold wX_walk_156
  exact wq_total (fun r => ⟨pk_in (i + 1) 7 (by omega) (nI_1 i), nm_e (nm_r (nI_1 i) (H _))⟩)
theorem wq_85 {post : St1 → Prop} {n st : Nat} {K Lb O I W0 : Nat → Nat} (hn : n ≤ 2) (hp : ∀ i, i < n → K i < 4 ∧ Lb i < 3 ∧ a4 i = nI (K i) ∧ a5 i = nI (Lb i)) (hO : ∀ j, j < 16 → (a2 j = nI (O j) ∧ O j < 256) ∧ (a3 j = nI (I j) ∧ I j < 256)) (h0 : wq_V st W0 a6)
    (H : ∀ a6' a7' a8', wq_V st (wq_W (wq_D O I) K Lb W0 n) a6' → post (f0, nI n, f2, f3, a1, a2, a3, a4, a5, a6', a7', a8')) : ∃ fu, wX_walk_85 post fu 0 f0 (nI n) f2 f3 a1 a2 a3 a4 a5 a6 a7 a8 := by
  refine pk_loop (σ := (Nat → Int32) × (Nat → Int32) × (Nat → Int32)) (fun fu i s => wX_walk_85 post fu (nI i) f0 (nI n) f2 f3 a1 a2 a3 a4 a5 s.1 s.2.1 s.2.2) (fun i s => wq_V st (wq_W (wq_D O I) K Lb W0 i) s.1) n 0 (a6, a7, a8) (by omega) h0 ?_ ?_
  · intro fu s h
    exact pk_le n n (fun _ => H _ _ _ h) (fun z => absurd z (by omega))
  · intro fu i s hi h hs
    obtain ⟨p1, p2, p3, p4⟩ := hp i hi
    refine pk_le n i (fun z => absurd z (by omega)) (fun _ => ⟨pk_in i 6 (by omega), pk_lt 3 (K i) (fun z => absurd z (by omega)) (fun _ => ⟨pk_in i 6 (by omega), pk_in i 6 (by omega), ?_⟩) rfl ((congrArg a4 (pk_cl i)).trans p3)⟩)
    rw [nI_clamp (show i < 2 ^ 31 by omega), p3, p4]
    exact wq_move p1 p2 hO (wq_156 (by omega) (fun a8' => hs (_, _, a8') (wq_V_move h)))
theorem wq_51 {post : St1 → Prop} {J15 : Int32 → (Nat → Int32) → (Nat → Int32) → (Nat → Int32) → (Nat → Int32) → (Nat → Int32) → (Nat → Int32) → (Nat → Int32) → (Nat → Int32) → Prop} {i : Nat} {t : Bool} (hi : i < 64) (H : J15 (nI (i + 1)) a1 a2 a3 a4 a5 (upd a6 i (nI t.toNat)) a7 a8) : wX_walk_51 post J15 (nI i) (nI t.toNat) f0 f1 f2 f3 a1 a2 a3 a4 a5 a6 a7 a8 := by
  cases t with
  | false => exact br_t rfl ⟨pk_in i 64 hi, nm_r (by rw [nI_clamp (by omega)]; rfl) (nm_r (nI_1 i) H)⟩
  | true => exact br_f (by decide) ⟨pk_in i 64 hi, nm_r (by rw [nI_clamp (by omega)]; rfl) (nm_r (nI_1 i) H)⟩
theorem wq_15 {post : St1 → Prop} {sv : Nat} (hsv : sv < 256) (H : ∀ a8', ∃ fu, wX_walk_85 post fu 0 f0 f1 (nI sv) f3 a1 a2 a3 a4 a5 (wq_cp 64 (wq_in sv) a6) a7 a8') : ∃ fu, wX_walk_15 post f0 f1 (nI sv) f3 fu 0 a1 a2 a3 a4 a5 a6 a7 a8 := by
  refine pk_loop (fun fu i s => wX_walk_15 post f0 f1 (nI sv) f3 fu (nI i) a1 a2 a3 a4 a5 s a7 a8) (fun i s => s = wq_cp i (wq_in sv) a6) 64 0 a6 (by omega) (wq_cp_0 _ _) ?_ ?_
  · intro fu s h
    refine pk_le 64 64 (fun _ => wq_total (fun r => nm_e ?_)) (fun z => absurd z (by omega))
    rw [h]
    exact H _
  · intro fu i s hi h hs
    have e1 : nI i / 8 = nI (i / 8) := pk_div (d := 8) (by omega) (by omega) (by omega)
    have e2 : nI i - nI i / 8 * 8 = nI (i % 8) := pk_rem (d := 8) (by omega) (by omega) (by omega)
    have e3 : ¬ (8 : Int32) = 0 := by decide
    have F : ∀ t : Bool, (nI t.toNat = wq_in sv i) → wX_walk_51 post (wX_walk_15 post f0 f1 (nI sv) f3 fu) (nI i) (nI t.toNat) f0 f1 (nI sv) f3 a1 a2 a3 a4 a5 s a7 a8 := by
      intro t ht
      refine wq_51 hi (hs _ ?_)
      rw [ht, h]
      exact wq_cp_s i (wq_in sv) a6
    have F0 : wq_in sv i = 0 → wX_walk_50 post (wX_walk_15 post f0 f1 (nI sv) f3 fu) (nI i) f0 f1 (nI sv) f3 a1 a2 a3 a4 a5 s a7 a8 := by
      intro z
      exact F false z.symm
    refine pk_le 64 i (fun z => absurd z (by omega)) (fun _ => ⟨e3, e3, ?_⟩)
    rw [e2, e1]
    refine pk_eq (i / 8) (i % 8) (fun z => ⟨e3, ?_⟩) (fun z => F0 ?_)
    · rw [wq_ob sv hsv (i % 8) (by omega), wq_bb]
      refine ⟨fun q => F0 ?_, fun q => F true ?_⟩
      · unfold wq_in
        rw [if_neg (fun y => by rw [q] at y; exact absurd y.2 (by decide))]
      · unfold wq_in
        rw [if_pos ⟨z, by cases hb : sv.testBit (i % 8) with | false => exact absurd hb q | true => rfl⟩]
        rfl
    · unfold wq_in
      rw [if_neg (fun y => z y.1)]
/-- what the class's walk keeps and makes -/
theorem wq_walk {post : St1 → Prop} {n st : Nat} {sb : Bool} {K Lb O I : Nat → Nat} (hst : st < 8) (hn : n ≤ 2) (hp : ∀ i, i < n → K i < 4 ∧ Lb i < 3 ∧ a4 i = nI (K i) ∧ a5 i = nI (Lb i)) (hO : ∀ j, j < 16 → (a2 j = nI (O j) ∧ O j < 256) ∧ (a3 j = nI (I j) ∧ I j < 256))
    (hk : f3 = 0 ∨ (f3 = 1 ∧ wq_V st (wq_W (wq_D O I) K Lb (wq_W0 sb st) n) a6))
    (H : ∀ a6' a7' a8', wq_V st (wq_W (wq_D O I) K Lb (wq_W0 sb st) n) a6' → post (f0, nI n, nI (wq_sv sb st), 1, a1, a2, a3, a4, a5, a6', a7', a8')) : wpX_walk post (f0, nI n, nI (wq_sv sb st), f3, a1, a2, a3, a4, a5, a6, a7, a8) := by
  rcases hk with hk | ⟨hk, hV⟩
  · rw [hk]
    exact br_t rfl (wq_15 (wq_sv_lt hst) (fun a8' => wq_85 hn hp hO (wq_V_0 hst) H))
  · rw [hk]
    exact br_f (by decide) (H _ _ _ hV)
theorem wq_isV {post : Int32 → Prop} {v : Nat} (hv : v < 8) (H : post 1) : wpX_isVertex post () (nI v) :=
  br_f (nI_pos (by omega)) (br_f (nI_ge (b := 8) hv (by decide)) H)
theorem wq_17 {post : Int32 → St1 → Prop} {v st : Nat} {W : Nat → Nat} (hv : v < 8) (hst : st < 8) (hV : wq_V st W a6) (H : post (nI (W v)) (f0, f1, f2, f3, a1, a2, a3, a4, a5, a6, a7, a8)) : ∃ fu, wX_at_17 post (nI v) f0 f1 f2 f3 a1 a2 a3 a4 a5 a6 a7 a8 fu 0 0 := by
  refine pk_loop (fun fu i s => wX_at_17 post (nI v) f0 f1 f2 f3 a1 a2 a3 a4 a5 a6 a7 a8 fu s (nI i)) (fun i s => s = nI (if st < i then W v else 0)) 8 0 0 (by omega) (by rw [if_neg (by omega)]; rfl) ?_ ?_
  · intro fu s h
    refine pk_le 8 8 (fun _ => ?_) (fun z => absurd z (by omega))
    rw [h, if_pos hst]
    exact H
  · intro fu i s hi h hs
    refine pk_le 8 i (fun z => absurd z (by omega)) (fun _ => ⟨pk_in (v * 8 + i) 64 (by omega) (wq_ix v i), nm_e (nm_r (nI_1 i) (hs _ ?_))⟩)
    rw [wq_cx (by omega), hV v i hv hi, h]
    by_cases c : i = st
    · rw [if_neg (by omega), if_pos c, if_pos (by omega), nI_0, Int32.zero_add]
    · rw [if_neg c, Int32.add_zero]
      by_cases d : st < i
      · rw [if_pos d, if_pos (by omega)]
      · rw [if_neg d, if_neg (by omega)]
theorem wq_at {post : Int32 → St1 → Prop} {n st v : Nat} {sb : Bool} {K Lb O I : Nat → Nat} (hv : v < 8) (hst : st < 8) (hn : n ≤ 2) (hp : ∀ i, i < n → K i < 4 ∧ Lb i < 3 ∧ a4 i = nI (K i) ∧ a5 i = nI (Lb i)) (hO : ∀ j, j < 16 → (a2 j = nI (O j) ∧ O j < 256) ∧ (a3 j = nI (I j) ∧ I j < 256))
    (hk : f3 = 0 ∨ (f3 = 1 ∧ wq_V st (wq_W (wq_D O I) K Lb (wq_W0 sb st) n) a6))
    (H : ∀ a6' a7' a8', wq_V st (wq_W (wq_D O I) K Lb (wq_W0 sb st) n) a6' → post (nI (wq_W (wq_D O I) K Lb (wq_W0 sb st) n v)) (f0, nI n, nI (wq_sv sb st), 1, a1, a2, a3, a4, a5, a6', a7', a8')) : wpX_at post (f0, nI n, nI (wq_sv sb st), f3, a1, a2, a3, a4, a5, a6, a7, a8) (nI v) := by
  unfold wpX_at
  exact wq_isV hv (br_f (by decide) (wq_walk hst hn hp hO hk (fun a6' a7' a8' hV => wq_17 hv hst hV (H a6' a7' a8' hV))))
theorem wq_between {post : Int32 → St1 → Prop} {n st v : Nat} {sb : Bool} {K Lb O I : Nat → Nat} (hv : v < 8) (hst : st < 8) (hn : n ≤ 2) (hp : ∀ i, i < n → K i < 4 ∧ Lb i < 3 ∧ a4 i = nI (K i) ∧ a5 i = nI (Lb i)) (hO : ∀ j, j < 16 → (a2 j = nI (O j) ∧ O j < 256) ∧ (a3 j = nI (I j) ∧ I j < 256))
    (hk : f3 = 0 ∨ (f3 = 1 ∧ wq_V st (wq_W (wq_D O I) K Lb (wq_W0 sb st) n) a6))
    (H : ∀ a6' a7' a8', wq_V st (wq_W (wq_D O I) K Lb (wq_W0 sb st) n) a6' → post (nI (wq_W (wq_D O I) K Lb (wq_W0 sb st) n v)) (f0, nI n, nI (wq_sv sb st), 1, a1, a2, a3, a4, a5, a6', a7', a8')) : wpX_between post (f0, nI n, nI (wq_sv sb st), f3, a1, a2, a3, a4, a5, a6, a7, a8) (nI st) (nI v) := by
  unfold wpX_between
  refine wq_isV hst (br_f (by decide) (wq_isV hv (br_f (by decide) (wq_walk hst hn hp hO hk (fun a6' a7' a8' hV => ⟨pk_in (v * 8 + st) 64 (by omega) (wq_ix v st), ?_⟩)))))
  have e : a6' (nI v * 8 + nI st).toNatClampNeg = nI (wq_W (wq_D O I) K Lb (wq_W0 sb st) n v) := by
    rw [wq_cx (by omega), hV v st hv hst, if_pos rfl]
  rw [e]
  exact H a6' a7' a8' hV
end
end
section
/-! join, cut, add, drop, from -/
section
variable {post : Int32 → St1 → Prop} {f0 f1 f2 f3 : Int32} {a1 a2 a3 a4 a5 a6 a7 a8 : Nat → Int32}
theorem wq_isE {post : Int32 → Prop} {a b l : Nat} (ha : a < 8) (hb : b < 8) (hl : l < 2) (H0 : a = b → post 0) (H1 : a ≠ b → post 1) : wpX_isEdge post () (nI a) (nI b) (nI l) := by
  unfold wpX_isEdge
  refine wq_isV ha (br_f (by decide) (wq_isV hb (br_f (by decide) (pk_eq a b (fun z => H0 z) (fun z => ?_)))))
  exact pk_eq l 0 (fun _ => H1 z) (fun z2 => pk_eq l 1 (fun _ => H1 z) (fun z3 => absurd hl (by omega)))
theorem wq_has {post : Int32 → Prop} {a b l : Nat} {O : Nat → Nat} (ha : a < 8) (hb : b < 8) (hl : l < 2) (hO : ∀ j, j < 16 → a2 j = nI (O j) ∧ O j < 256) (H0 : (O (l * 8 + a)).testBit b = false → post 0) (H1 : (O (l * 8 + a)).testBit b = true → post 1) : wpX_hasEdge post (f0, f1, f2, f3, a1, a2, a3, a4, a5, a6, a7, a8) (nI a) (nI b) (nI l) := by
  refine ⟨pk_in (l * 8 + a) 16 (by omega) (wq_ix l a), ?_⟩
  rw [wq_cx (by omega), (hO (l * 8 + a) (by omega)).1, wq_ob _ (hO (l * 8 + a) (by omega)).2 b hb, wq_bb]
  exact ⟨H0, fun z => H1 (by cases hq : (O (l * 8 + a)).testBit b with | false => exact absurd hq z | true => rfl)⟩
theorem wq_turn {post : St1 → Prop} {a b l : Nat} {O I : Nat → Nat} (ha : a < 8) (hb : b < 8) (hl : l < 2) (hO : ∀ j, j < 16 → (a2 j = nI (O j) ∧ O j < 256) ∧ (a3 j = nI (I j) ∧ I j < 256))
    (H : post (f0, f1, f2, 0, a1, upd a2 (l * 8 + a) (nI (O (l * 8 + a) ^^^ 2 ^ b)), upd a3 (l * 8 + b) (nI (I (l * 8 + b) ^^^ 2 ^ a)), a4, a5, a6, a7, a8)) : wpX_turn post (f0, f1, f2, f3, a1, a2, a3, a4, a5, a6, a7, a8) (nI a) (nI b) (nI l) := by
  refine nm_r (wq_ix l a) (nm_r (wq_ix l b) ⟨pk_in (l * 8 + a) 16 (by omega), pk_in (l * 8 + a) 16 (by omega), nm_r ?_ ⟨pk_in (l * 8 + b) 16 (by omega), pk_in (l * 8 + b) 16 (by omega), nm_r ?_ H⟩⟩)
  · rw [nI_clamp (show l * 8 + a < 2 ^ 31 by omega), (hO (l * 8 + a) (by omega)).1.1, (wq_ox _ (hO (l * 8 + a) (by omega)).1.2 b hb).1]
  · rw [nI_clamp (show l * 8 + b < 2 ^ 31 by omega), (hO (l * 8 + b) (by omega)).2.1, (wq_ox _ (hO (l * 8 + b) (by omega)).2.2 a ha).1]
theorem wq_join {row : Int64} {m x : Nat} {E O I : Nat → Nat} (g : wq_G row m E O I a2 a3) (hx : x < 128)
    (H0 : (x % 8 = x / 8 % 8 ∨ ∃ e, e < m ∧ E e = x) → post 0 (nI m, f1, f2, f3, a1, a2, a3, a4, a5, a6, a7, a8))
    (H1 : x % 8 ≠ x / 8 % 8 → (∀ e, e < m → E e ≠ x) → post 1 (nI (m + 1), f1, f2, 0, a1, upd a2 (x / 64 * 8 + x % 8) (nI (O (x / 64 * 8 + x % 8) ^^^ 2 ^ (x / 8 % 8))), upd a3 (x / 64 * 8 + x / 8 % 8) (nI (I (x / 64 * 8 + x / 8 % 8) ^^^ 2 ^ (x % 8))), a4, a5, a6, a7, a8)) :
    wpX_join post (nI m, f1, f2, f3, a1, a2, a3, a4, a5, a6, a7, a8) (nI (x % 8)) (nI (x / 8 % 8)) (nI (x / 64)) := by
  obtain ⟨g1, g2, g3, g4, g5⟩ := g
  have gl := g5.1 (x / 64) (x % 8) (x / 8 % 8) (by omega) (by omega) (by omega)
  rw [show x % 8 + 8 * (x / 8 % 8) + 64 * (x / 64) = x by omega] at gl
  unfold wpX_join
  refine wq_isE (by omega) (by omega) (by omega) (fun z => br_t rfl (H0 (Or.inl z))) (fun z => br_f (by decide) ?_)
  refine wq_has (by omega) (by omega) (by omega) (fun j hj => (g4 j hj).1) (fun q => br_t rfl ?_) (fun q => br_f (by decide) (H0 (Or.inr (gl.mp q))))
  refine pk_lt m 10 (fun _ => ?_) (fun y => absurd y (by omega))
  refine wq_turn (by omega) (by omega) (by omega) g4 (nm_r (nI_1 m) (H1 z (fun e he hc => ?_)))
  have := gl.mpr ⟨e, he, hc⟩
  rw [q] at this
  exact absurd this (by decide)
theorem wq_cut {row : Int64} {m x : Nat} {E O I : Nat → Nat} (g : wq_G row m E O I a2 a3) (hx : x < 128)
    (H0 : (∀ e, e < m → E e ≠ x) → post 0 (nI m, f1, f2, f3, a1, a2, a3, a4, a5, a6, a7, a8))
    (H1 : (∃ e, e < m ∧ E e = x) → post 1 (nI (m - 1), f1, f2, 0, a1, upd a2 (x / 64 * 8 + x % 8) (nI (O (x / 64 * 8 + x % 8) ^^^ 2 ^ (x / 8 % 8))), upd a3 (x / 64 * 8 + x / 8 % 8) (nI (I (x / 64 * 8 + x / 8 % 8) ^^^ 2 ^ (x % 8))), a4, a5, a6, a7, a8)) :
    wpX_cut post (nI m, f1, f2, f3, a1, a2, a3, a4, a5, a6, a7, a8) (nI (x % 8)) (nI (x / 8 % 8)) (nI (x / 64)) := by
  obtain ⟨g1, g2, g3, g4, g5⟩ := g
  have gl := g5.1 (x / 64) (x % 8) (x / 8 % 8) (by omega) (by omega) (by omega)
  rw [show x % 8 + 8 * (x / 8 % 8) + 64 * (x / 64) = x by omega] at gl
  unfold wpX_cut
  refine wq_isE (by omega) (by omega) (by omega) (fun z => br_t rfl (H0 (fun e he hc => ?_))) (fun z => br_f (by decide) ?_)
  · have := (g2 e he).2.2
    rw [hc] at this
    exact this z
  refine wq_has (by omega) (by omega) (by omega) (fun j hj => (g4 j hj).1) (fun q => br_t rfl (H0 (fun e he hc => ?_))) (fun q => br_f (by decide) ?_)
  · have := gl.mpr ⟨e, he, hc⟩
    rw [q] at this
    exact absurd this (by decide)
  · obtain ⟨e, he, hc⟩ := gl.mp q
    refine wq_turn (by omega) (by omega) (by omega) g4 (nm_r ?_ (H1 ⟨e, he, hc⟩))
    show nI m - nI 1 = nI (m - 1)
    exact pk_sub (by omega)
theorem wq_add {n k lab : Nat} (hn : n < 2) (hk : k < 4) (hl : lab < 3) (H : post (nI (n + 1)) (f0, nI (n + 1), f2, 0, a1, a2, a3, upd a4 n (nI k), upd a5 n (nI lab), a6, a7, a8)) : wpX_add post (f0, nI n, f2, f3, a1, a2, a3, a4, a5, a6, a7, a8) (nI k) (nI lab) := by
  have X : wX_add_55 post (nI k) (nI lab) 1 f0 (nI n) f2 f3 a1 a2 a3 a4 a5 a6 a7 a8 := by
    refine pk_lt n 6 (fun _ => ⟨pk_in n 6 (by omega), nm_r (e' := upd a4 n (nI k)) ?_ (br_f (by decide) ?_)⟩) (fun y => absurd y (by omega))
    · rw [nI_clamp (by omega), wq_k8 k hk]
    · unfold wX_add_95
      refine ⟨pk_in n 6 (by omega), nm_r (e' := upd a5 n (nI lab)) ?_ (nm_r (nI_1 n) H)⟩
      rw [nI_clamp (by omega), wq_k8 lab (by omega)]
  have Y : wX_add_38 post (nI k) (nI lab) 1 f0 (nI n) f2 f3 a1 a2 a3 a4 a5 a6 a7 a8 := pk_eq k 4 (fun y => absurd y (by omega)) (fun _ => X)
  have Z : wX_add_14 post (nI k) (nI lab) 1 f0 (nI n) f2 f3 a1 a2 a3 a4 a5 a6 a7 a8 :=
    br_f (nI_pos (by omega)) (pk_lt 7 k (fun y => absurd y (by omega)) (fun _ => br_f (by decide) (br_f (nI_pos (by omega)) (pk_lt 2 lab (fun y => absurd y (by omega)) (fun _ => Y)))))
  exact br_f (nI_pos (by omega)) (pk_lt 3 k (fun y => absurd y (by omega)) (fun _ => Z))
theorem wq_drop {n : Nat} (hn : n ≤ 2) (H0 : n = 0 → post (-1) (f0, nI n, f2, f3, a1, a2, a3, a4, a5, a6, a7, a8)) (H1 : ∀ n', n = n' + 1 → post (nI n') (f0, nI n', f2, 0, a1, a2, a3, a4, a5, a6, a7, a8)) : wpX_drop post (f0, nI n, f2, f3, a1, a2, a3, a4, a5, a6, a7, a8) := by
  refine pk_eq n 0 (fun z => H0 z) (fun z => ?_)
  obtain ⟨n', rfl⟩ : ∃ n', n = n' + 1 := ⟨n - 1, by omega⟩
  exact nm_r (nI_pred n') (H1 n' rfl)
theorem wq_from {a : Nat} (ha : a < 8) (H : post 1 (f0, f1, nI (2 ^ a), 0, a1, a2, a3, a4, a5, a6, a7, a8)) : wpX_from post (f0, f1, f2, f3, a1, a2, a3, a4, a5, a6, a7, a8) ((1 : Int32) <<< (nI a &&& 31)) := by
  have h2 := (wq_1s a ha).2
  rw [(wq_1s a ha).1]
  exact br_f (nI_pos (by omega)) (pk_le (2 ^ a) 255 (fun _ => H) (fun y => absurd y (by omega)))
end
end
section
/-! the law's own methods: edge, add, find, step -/
theorem wq_edge {post : Int32 → Prop} {row : Int64} {e y : Nat} (h : wq_ed row e = nI y) (H : post (nI y)) : wpL_edge post () row (nI e) := by
  unfold wpL_edge
  rw [← h] at H
  exact H
theorem wq_find {post : Int32 → Prop} {row : Int64} {m x : Nat} {E : Nat → Nat} (hm : m ≤ 6) (hE : ∀ e, e < m → wq_ed row e = nI (E e) ∧ E e < 128) (hx : x < 128) (H0 : (∀ e, e < m → E e ≠ x) → post (-1)) (H1 : ∀ e, e < m → E e = x → post (nI e)) : wpL_find post () row (nI m) (nI x) := by
  refine pk_loop (σ := Unit) (fun n i _ => wL_find_3 post row (nI m) (nI x) n (nI i)) (fun i _ => ∀ e, e < i → E e ≠ x) m 0 () (by omega) (fun e he => absurd he (by omega)) ?_ ?_
  · intro n s h
    exact pk_le m m (fun _ => H0 h) (fun z => absurd z (by omega))
  · intro n i s hi h hs
    have hEi := (hE i hi).2
    refine pk_le m i (fun z => absurd z (by omega)) (fun _ => wq_edge (hE i hi).1 (pk_eq (E i) x (fun z => H1 i hi z) (fun z => nm_r (nI_1 i) (hs () (fun e he => ?_)))))
    by_cases c : e = i
    · rw [c]
      exact z
    · exact h e (by omega)
theorem wq_ladd {post : Int64 → Prop} {U : Nat → Nat} {n b : Nat} (hb : b < 8) (H : post (lN (wq_P (fun w => U w + if w = b then n else 0)))) : wpL_add post () (lN (wq_P U)) (nI b) (lN n) := by
  unfold wpL_add
  rw [wq_more U n hb]
  exact H
section
variable {post : Int64 → Prop} {J6 : Int64 → Int32 → Prop} {J32 : Int64 → Int32 → Int32 → Prop} {x0 x3 : Int64} {x2 x6 : Int32}
theorem wq_181 {x5 x9 : Int32} {x10 z0 : Int64} {q p : Bool} {e : Nat} (H : J32 z0 (nI (q || p).toNat) (nI (e + 1))) : wL_step_181 post J6 J32 x0 x2 x3 x5 x6 x9 x10 (nI q.toNat) (nI e) (nI p.toNat) z0 := by
  cases q with
  | true => exact br_f (by decide) (nm_r (nI_1 e) H)
  | false =>
    cases p with
    | true => exact br_t rfl (br_f (by decide) (nm_r (nI_1 e) H))
    | false => exact br_t rfl (br_t rfl (nm_r (nI_1 e) H))
theorem wq_160 {x5 x9 : Int32} {U : Nat → Nat} {n a e : Nat} {q p r : Bool} (ha : a < 8) (H : J32 (lN (wq_P (fun w => U w + if r = true ∧ w = a then n else 0))) (nI (q || p).toNat) (nI (e + 1))) : wL_step_160 post J6 J32 x0 x2 x3 x5 x6 x9 (lN n) (nI q.toNat) (nI e) (nI a) (nI p.toNat) (nI r.toNat) (lN (wq_P U)) := by
  cases r with
  | true =>
    have e1 : (fun w => U w + if true = true ∧ w = a then n else 0) = (fun w => U w + if w = a then n else 0) := by
      funext w
      simp
    rw [e1] at H
    exact br_f (by decide) (wq_ladd ha (wq_181 H))
  | false =>
    have e1 : (fun w => U w + if false = true ∧ w = a then n else 0) = U := by
      funext w
      simp
    rw [e1] at H
    exact br_t rfl (wq_181 H)
theorem wq_139 {x5 x9 : Int32} {U : Nat → Nat} {n a b e : Nat} {q p r : Bool} (ha : a < 8) (hb : b < 8) (H : J32 (lN (wq_P (fun w => (U w + if p = true ∧ w = b then n else 0) + if r = true ∧ w = a then n else 0))) (nI (q || p).toNat) (nI (e + 1))) : wL_step_139 post J6 J32 x0 x2 x3 x5 x6 (lN (wq_P U)) x9 (lN n) (nI q.toNat) (nI e) (nI a) (nI b) (nI p.toNat) (nI r.toNat) := by
  cases p with
  | true =>
    have e1 : (fun w => (U w + if true = true ∧ w = b then n else 0) + if r = true ∧ w = a then n else 0) = (fun w => (U w + if w = b then n else 0) + if r = true ∧ w = a then n else 0) := by
      funext w
      simp
    rw [e1] at H
    exact br_f (by decide) (wq_ladd hb (wq_160 (p := true) ha H))
  | false =>
    have e1 : (fun w => (U w + if false = true ∧ w = b then n else 0) + if r = true ∧ w = a then n else 0) = (fun w => U w + if r = true ∧ w = a then n else 0) := by
      funext w
      simp
    rw [e1] at H
    exact br_t rfl (wq_160 (p := false) ha H)
theorem wq_108 {U : Nat → Nat} {n a b e k v : Nat} {q p f : Bool} (hk : k < 4) (hv : v < 8) (ha : a < 8) (hb : b < 8) (H : J32 (lN (wq_P (fun w => (U w + if p = true ∧ w = b then n else 0) + if (f && decide ((k = 1 ∨ k = 2) ∧ b = v)) = true ∧ w = a then n else 0))) (nI (q || p).toNat) (nI (e + 1))) : wL_step_108 post J6 J32 x0 x2 x3 (nI k) x6 (lN (wq_P U)) (nI v) (lN n) (nI q.toNat) (nI e) (nI a) (nI b) (nI f.toNat) (nI p.toNat) := by
  cases f with
  | false =>
    unfold wL_step_108
    exact br_t rfl (wq_139 (r := false) ha hb H)
  | true =>
    have X : (k = 1 ∨ k = 2) → wL_step_127 post J6 J32 x0 x2 x3 (nI k) x6 (lN (wq_P U)) (nI v) (lN n) (nI q.toNat) (nI e) (nI a) (nI b) (nI p.toNat) := by
      intro hc
      unfold wL_step_127
      refine pk_eq b v (fun z => ?_) (fun z => ?_)
      · rw [decide_eq_true ⟨hc, z⟩] at H
        exact wq_139 (r := true) ha hb H
      · rw [decide_eq_false (fun y => z y.2)] at H
        exact wq_139 (r := false) ha hb H
    unfold wL_step_108
    refine br_f (by decide) (pk_eq k 1 (fun z => X (Or.inl z)) (fun z => pk_eq k 2 (fun z2 => X (Or.inr z2)) (fun z2 => ?_)))
    rw [decide_eq_false (fun y => by omega)] at H
    exact wq_139 (r := false) ha hb H
theorem wq_83 {U : Nat → Nat} {n a b e k v : Nat} {q f : Bool} (hk : k < 4) (hv : v < 8) (ha : a < 8) (hb : b < 8) (H : J32 (lN (wq_P (fun w => (U w + if (f && decide (k ≠ 1 ∧ a = v)) = true ∧ w = b then n else 0) + if (f && decide ((k = 1 ∨ k = 2) ∧ b = v)) = true ∧ w = a then n else 0))) (nI (q || (f && decide (k ≠ 1 ∧ a = v))).toNat) (nI (e + 1))) : wL_step_83 post J6 J32 x0 x2 x3 (nI k) x6 (lN (wq_P U)) (nI v) (lN n) (nI q.toNat) (nI e) (nI a) (nI b) (nI f.toNat) := by
  cases f with
  | false =>
    unfold wL_step_83
    exact br_t rfl (wq_108 (p := false) (f := false) hk hv ha hb H)
  | true =>
    unfold wL_step_83
    refine br_f (by decide) (pk_eq k 1 (fun z => ?_) (fun z => pk_eq a v (fun z2 => ?_) (fun z2 => ?_)))
    · rw [decide_eq_false (show ¬ (k ≠ 1 ∧ a = v) from fun y => y.1 z)] at H
      exact wq_108 (p := false) (f := true) hk hv ha hb H
    · rw [decide_eq_true (show k ≠ 1 ∧ a = v from ⟨z, z2⟩)] at H
      exact wq_108 (p := true) (f := true) hk hv ha hb H
    · rw [decide_eq_false (show ¬ (k ≠ 1 ∧ a = v) from fun y => z2 y.2)] at H
      exact wq_108 (p := false) (f := true) hk hv ha hb H
end
theorem wq_c_n (k lab x v w n : Nat) : wq_c k lab x v w * n = (if wq_fw k lab x v = true ∧ w = x / 8 % 8 then n else 0) + (if wq_bw k lab x v = true ∧ w = x % 8 then n else 0) := by
  unfold wq_c
  rw [Nat.add_mul]
  congr 1
  · split
    · exact Nat.one_mul n
    · exact Nat.zero_mul n
  · split
    · exact Nat.one_mul n
    · exact Nat.zero_mul n
section
variable {post : Int64 → Prop} {J6 : Int64 → Int32 → Prop} {row x3 : Int64} {m k lab v n : Nat} {E U : Nat → Nat}
/-- one edge of the inner loop -/
theorem wq_32s {J32 : Int64 → Int32 → Int32 → Prop} {e : Nat} (hk : k < 4) (hl : lab < 3) (hv : v < 8) (hx : E e < 128)
    (H : J32 (lN (wq_P (fun w => U w + wq_cs E k lab v w (e + 1) * n))) (nI (wq_mv E k lab v (e + 1)).toNat) (nI (e + 1))) :
    wL_step_83 post J6 J32 row (nI m) x3 (nI k) (nI lab) (lN (wq_P (fun w => U w + wq_cs E k lab v w e * n))) (nI v) (lN n) (nI (wq_mv E k lab v e).toNat) (nI e) (nI (E e % 8)) (nI (E e / 8 % 8)) (nI (decide (lab = 2 ∨ E e / 64 = lab)).toNat) := by
  refine wq_83 hk hv (by omega) (by omega) ?_
  have ef : (decide (lab = 2 ∨ E e / 64 = lab) && decide (k ≠ 1 ∧ E e % 8 = v)) = wq_fw k lab (E e) v := (Bool.decide_and _ _).symm
  have eb : (decide (lab = 2 ∨ E e / 64 = lab) && decide ((k = 1 ∨ k = 2) ∧ E e / 8 % 8 = v)) = wq_bw k lab (E e) v := (Bool.decide_and _ _).symm
  rw [ef, eb]
  have eU : (fun w => ((U w + wq_cs E k lab v w e * n) + if wq_fw k lab (E e) v = true ∧ w = E e / 8 % 8 then n else 0) + if wq_bw k lab (E e) v = true ∧ w = E e % 8 then n else 0) = (fun w => U w + wq_cs E k lab v w (e + 1) * n) := by
    funext w
    show _ = U w + (wq_cs E k lab v w e + wq_c k lab (E e) v w) * n
    rw [Nat.add_mul, wq_c_n]
    omega
  rw [eU]
  exact H
theorem wq_32 (hm : m ≤ 6) (hk : k < 4) (hl : lab < 3) (hv : v < 8) (hE : ∀ e, e < m → wq_ed row e = nI (E e) ∧ E e < 128)
    (H : J6 (lN (wq_P (fun w => U w + wq_T E m k lab v w * n))) (nI (v + 1))) : ∃ fu, wL_step_32 post J6 row (nI m) x3 (nI k) (nI lab) (nI v) (lN n) fu (lN (wq_P U)) 0 0 := by
  refine pk_loop (σ := Int64 × Int32) (fun fu i s => wL_step_32 post J6 row (nI m) x3 (nI k) (nI lab) (nI v) (lN n) fu s.1 s.2 (nI i)) (fun i s => s.1 = lN (wq_P (fun w => U w + wq_cs E k lab v w i * n)) ∧ s.2 = nI (wq_mv E k lab v i).toNat) m 0 (lN (wq_P U), 0) (by omega) ⟨?_, rfl⟩ ?_ ?_
  · refine congrArg lN (wq_P_ext (fun w _ => ?_))
    show U w = U w + 0 * n
    omega
  · intro fu s h
    have e0 : ¬ (k = 3 ∧ wq_mv E k lab v m = false) → (fun w => U w + wq_T E m k lab v w * n) = (fun w => U w + wq_cs E k lab v w m * n) := by
      intro hc
      funext w
      unfold wq_T
      rw [if_neg (fun z => hc ⟨z.1, z.2.1⟩), Nat.add_zero]
    have e1 : (k = 3 ∧ wq_mv E k lab v m = false) → (fun w => U w + wq_T E m k lab v w * n) = (fun w => (U w + wq_cs E k lab v w m * n) + if w = v then n else 0) := by
      intro hc
      funext w
      unfold wq_T
      rw [Nat.add_mul]
      by_cases d : w = v
      · rw [if_pos ⟨hc.1, hc.2, d⟩, if_pos d]
        omega
      · rw [if_neg (fun z => d z.2.2), if_neg d]
        omega
    refine pk_le m m (fun _ => ?_) (fun z => absurd z (by omega))
    rw [h.1, h.2]
    refine pk_eq k 3 (fun z => ?_) (fun z => nm_r (nI_1 v) ?_)
    · cases hq : wq_mv E k lab v m with
      | false =>
        rw [e1 ⟨z, hq⟩] at H
        exact br_t rfl (wq_ladd hv (nm_r (nI_1 v) H))
      | true =>
        rw [e0 (fun y => by rw [hq] at y; exact absurd y.2 (by decide))] at H
        exact br_f (by decide) (nm_r (nI_1 v) H)
    · rw [e0 (fun y => z y.1)] at H
      exact H
  · intro fu i s hi h hs
    obtain ⟨hEi, hEx⟩ := hE i hi
    have X := wq_32s (post := post) (J6 := J6) (row := row) (x3 := x3) (m := m) (n := n) (U := U) (e := i) hk hl hv hEx (hs (_, _) ⟨rfl, rfl⟩)
    refine pk_le m i (fun z => absurd z (by omega)) (fun _ => wq_edge hEi ?_)
    rw [h.1, h.2]
    refine nm_r (wq_x7 (E i) hEx) (nm_r (wq_x37 (E i) hEx) ?_)
    rw [wq_x6 (E i) hEx]
    refine pk_eq lab 2 (fun z => ?_) (fun z => pk_eq (E i / 64) lab (fun z2 => ?_) (fun z2 => ?_))
    · rw [decide_eq_true (Or.inl z)] at X
      exact X
    · rw [decide_eq_true (Or.inr z2)] at X
      exact X
    · rw [decide_eq_false (fun y => y.elim z z2)] at X
      exact X
end
theorem wq_P_z : lN (wq_P (fun _ => 0)) = 0 := by
  have e : wq_P (fun _ => 0) = 0 := by simp [wq_P]
  rw [e]
  rfl
theorem wq_step {post : Int64 → Prop} {row : Int64} {m k lab : Nat} {E W : Nat → Nat} (hm : m ≤ 6) (hk : k < 4) (hl : lab < 3) (hE : ∀ e, e < m → wq_ed row e = nI (E e) ∧ E e < 128) (hW : ∀ w, w < 8 → W w < 64)
    (H : post (lN (wq_P (fun w => wq_S (wq_T E m k lab) W w 8)))) : wpL_step post () row (nI m) (lN (wq_P W)) (nI k) (nI lab) := by
  refine pk_loop (fun fu i s => wL_step_6 post row (nI m) (lN (wq_P W)) (nI k) (nI lab) fu s (nI i)) (fun i s => s = lN (wq_P (fun w => wq_S (wq_T E m k lab) W w i))) 8 0 0 (by omega) wq_P_z.symm ?_ ?_
  · intro fu s h
    refine pk_le 8 8 (fun _ => ?_) (fun z => absurd z (by omega))
    rw [h]
    exact H
  · intro fu i s hi h hs
    refine pk_le 8 i (fun z => absurd z (by omega)) (fun _ => nm_r (wq_byte hW hi) ?_)
    rw [h]
    exact wq_32 hm hk hl hi hE (hs _ rfl)
end
section
/-! the law: its loops and its branches -/
def wq_Kn (f3 : Int32) (st n : Nat) (sb : Bool) (O I K Lb : Nat → Nat) (a6 : Nat → Int32) : Prop := f3 = 0 ∨ (f3 = 1 ∧ wq_V st (wq_W (wq_D O I) K Lb (wq_W0 sb st) n) a6)
def wq_Inv (row : Int64) (x4 x5 x6 x7 x8 f0 f1 f2 f3 : Int32) (a2 a3 a4 a5 a6 : Nat → Int32) : Prop :=
  ∃ (m n st : Nat) (sb : Bool) (E O I K Lb : Nat → Nat), x4 = nI m ∧ f0 = nI m ∧ x6 = nI n ∧ f1 = nI n ∧ x7 = nI st ∧ x8 = nI sb.toNat ∧ f2 = nI (wq_sv sb st) ∧ st < 8 ∧ wq_G row m E O I a2 a3 ∧ wq_Pl x5 n K Lb a4 a5 ∧ wq_Kn f3 st n sb O I K Lb a6
def wq_HJ (J28 : Int64 → Int32 → Int32 → Int32 → Int32 → Int32 → Int32 → Int32 → Int32 → Int32 → Int32 → (Nat → Int32) → (Nat → Int32) → (Nat → Int32) → (Nat → Int32) → (Nat → Int32) → (Nat → Int32) → (Nat → Int32) → (Nat → Int32) → Prop) (i0 : Nat) : Prop :=
  ∀ (row : Int64) (x4 x5 x6 x7 x8 f0 f1 f2 f3 : Int32) (a1 a2 a3 a4 a5 a6 a7 a8 : Nat → Int32), wq_Inv row x4 x5 x6 x7 x8 f0 f1 f2 f3 a2 a3 a4 a5 a6 → J28 row x4 x5 x6 x7 x8 (nI (i0 + 1)) f0 f1 f2 f3 a1 a2 a3 a4 a5 a6 a7 a8
section
variable {post : Int32 → Prop} {L : Nat} {xs : Nat → Int32} {J28 : Int64 → Int32 → Int32 → Int32 → Int32 → Int32 → Int32 → Int32 → Int32 → Int32 → Int32 → (Nat → Int32) → (Nat → Int32) → (Nat → Int32) → (Nat → Int32) → (Nat → Int32) → (Nat → Int32) → (Nat → Int32) → (Nat → Int32) → Prop} {kc ks i0 : Nat}
variable {row : Int64} {x5 f0 f1 f2 f3 : Int32} {a1 a2 a3 a4 a5 a6 a7 a8 : Nat → Int32} {m n st : Nat} {sb : Bool} {E O I K Lb : Nat → Nat}
theorem wq_500 (hst : st < 8) (g : wq_G row m E O I a2 a3) (pl : wq_Pl x5 n K Lb a4 a5) (kn : wq_Kn f3 st n sb O I K Lb a6) (HJ : wq_HJ J28 i0) :
    ∃ fu, wL_law_500 post L xs J28 row (nI m) x5 (nI n) (nI st) (nI sb.toNat) (nI i0) (lN (wq_P (wq_W (wq_T E m) K Lb (wq_W0 sb st) n))) kc ks fu 0 (nI m) (nI n) (nI (wq_sv sb st)) f3 a1 a2 a3 a4 a5 a6 a7 a8 := by
  have hE : ∀ e, e < m → E e < 128 ∧ E e % 8 ≠ E e / 8 % 8 := fun e he => (g.2.1 e he).2
  have h64 : ∀ w, w < 8 → wq_W (wq_T E m) K Lb (wq_W0 sb st) n w < 64 := wq_W_64 g.1 hE (wq_W0_sm hst) pl.1
  have hTD : ∀ w, w < 8 → wq_W (wq_T E m) K Lb (wq_W0 sb st) n w = wq_W (wq_D O I) K Lb (wq_W0 sb st) n w := wq_W_ext (fun k lab v w hk hl hv hw => wq_TD g.2.2.2.2 (fun e he => (hE e he).1) g.2.2.1 (fun j hj => (g.2.2.2.1 j hj).1.2) hk hl hv hw) n (fun i hi => ⟨(pl.2 i hi).2.1, (pl.2 i hi).2.2.1⟩)
  have hp : ∀ i, i < n → K i < 4 ∧ Lb i < 3 ∧ a4 i = nI (K i) ∧ a5 i = nI (Lb i) := fun i hi => (pl.2 i hi).2
  refine pk_loop (σ := Int32 × (Nat → Int32) × (Nat → Int32) × (Nat → Int32)) (fun fu i s => wL_law_500 post L xs J28 row (nI m) x5 (nI n) (nI st) (nI sb.toNat) (nI i0) (lN (wq_P (wq_W (wq_T E m) K Lb (wq_W0 sb st) n))) kc ks fu (nI i) (nI m) (nI n) (nI (wq_sv sb st)) s.1 a1 a2 a3 a4 a5 s.2.1 s.2.2.1 s.2.2.2) (fun i s => wq_Kn s.1 st n sb O I K Lb s.2.1) 8 0 (f3, a6, a7, a8) (by omega) kn ?_ ?_
  · intro fu s h
    refine pk_le 8 8 (fun _ => br_t rfl (nm_r (nI_1 i0) (HJ _ _ _ _ _ _ _ _ _ _ _ _ _ _ _ _ _ _ ?_))) (fun z => absurd z (by omega))
    exact ⟨m, n, st, sb, E, O, I, K, Lb, rfl, rfl, rfl, rfl, rfl, rfl, rfl, hst, g, pl, h⟩
  · intro fu i s hi h hs
    refine pk_le 8 i (fun z => absurd z (by omega)) (fun _ => nm_r (wq_byteI h64 hi) (wq_at hi hst pl.1 hp g.2.2.2.1 h (fun b6 b7 b8 hV => br_t (congrArg nI (hTD i hi).symm) ?_)))
    exact wq_between hi hst pl.1 hp g.2.2.2.1 (Or.inr ⟨rfl, hV⟩) (fun c6 c7 c8 hV' => br_t (congrArg nI (hTD i hi).symm) (nm_r (nI_1 i) (hs (1, c6, c7, c8) (Or.inr ⟨rfl, hV'⟩))))
theorem wq_454 {x7 x8 : Int32} (hst : st < 8) (g : wq_G row m E O I a2 a3) (pl : wq_Pl x5 n K Lb a4 a5)
    (H : ∃ fu, wL_law_500 post L xs J28 row (nI m) x5 (nI n) x7 x8 (nI i0) (lN (wq_P (wq_W (wq_T E m) K Lb (wq_W0 sb st) n))) kc ks fu 0 f0 f1 f2 f3 a1 a2 a3 a4 a5 a6 a7 a8) :
    ∃ fu, wL_law_454 post L xs J28 row (nI m) x5 (nI n) x7 x8 (nI i0) kc ks f0 f1 f2 f3 a1 a2 a3 a4 a5 a6 a7 a8 fu (lN (wq_P (wq_W0 sb st))) 0 := by
  have hE : ∀ e, e < m → E e < 128 ∧ E e % 8 ≠ E e / 8 % 8 := fun e he => (g.2.1 e he).2
  have hn := pl.1
  refine pk_loop (fun fu i s => wL_law_454 post L xs J28 row (nI m) x5 (nI n) x7 x8 (nI i0) kc ks f0 f1 f2 f3 a1 a2 a3 a4 a5 a6 a7 a8 fu s (nI i)) (fun i s => s = lN (wq_P (wq_W (wq_T E m) K Lb (wq_W0 sb st) i))) n 0 _ (by omega) rfl ?_ ?_
  · intro fu s h
    refine pk_le n n (fun _ => ?_) (fun z => absurd z (by omega))
    rw [h]
    exact H
  · intro fu i s hi h hs
    obtain ⟨p1, p2, p3, p4, p5⟩ := pl.2 i hi
    refine pk_le n i (fun z => absurd z (by omega)) (fun _ => nm_r p1 ?_)
    rw [h, wq_x3 _ (by omega), wq_x2 _ (by omega), show (K i + 4 * Lb i) % 4 = K i by omega, show (K i + 4 * Lb i) / 4 = Lb i by omega]
    exact wq_step g.1 p2 p3 (fun e he => ⟨(g.2.1 e he).1, (hE e he).1⟩) (wq_W_64 g.1 hE (wq_W0_sm hst) (by omega)) (nm_r (nI_1 i) (hs _ rfl))
theorem wq_P0 : lN (wq_P (wq_W0 false st)) = 0 := by
  have e : wq_P (wq_W0 false st) = wq_P (fun _ => 0) := wq_P_ext (fun w _ => by unfold wq_W0; rw [if_neg (fun z => absurd z.1 (by decide))])
  rw [e]
  exact wq_P_z
theorem wq_P1 (hst : st < 8) : (1 : Int64) <<< ((8 * nI st).toInt64 &&& 63) = lN (wq_P (wq_W0 true st)) := by
  have e : wq_P (wq_W0 true st) = wq_P (fun w => if w = st then 1 else 0) := wq_P_ext (fun w _ => by unfold wq_W0; exact wq_ii ⟨fun z => z.2, fun z => ⟨rfl, z⟩⟩)
  rw [e, wq_P_one 1 st hst, Nat.one_mul]
  exact wq_l1 st hst
theorem wq_433 (hst : st < 8) (g : wq_G row m E O I a2 a3) (pl : wq_Pl x5 n K Lb a4 a5) (kn : wq_Kn f3 st n sb O I K Lb a6) (HJ : wq_HJ J28 i0) :
    wL_law_433 post L xs J28 row (nI m) x5 (nI n) (nI st) (nI sb.toNat) (nI i0) kc ks (nI m) (nI n) (nI (wq_sv sb st)) f3 a1 a2 a3 a4 a5 a6 a7 a8 := by
  have X := wq_454 (post := post) (L := L) (xs := xs) (kc := kc) (ks := ks) hst g pl (wq_500 (post := post) (L := L) (xs := xs) (kc := kc) (ks := ks) (a1 := a1) (a7 := a7) (a8 := a8) hst g pl kn HJ)
  unfold wL_law_433
  cases sb with
  | false =>
    rw [wq_P0] at X
    exact br_t rfl X
  | true =>
    exact br_f (by decide) (nm_r (wq_P1 hst) X)
/-- drop and from -/
theorem wq_375 {w x : Nat} (hw : w < 16) (hx : x < 128) (hst : st < 8) (g : wq_G row m E O I a2 a3) (pl : wq_Pl x5 n K Lb a4 a5) (kn : wq_Kn f3 st n sb O I K Lb a6) (HJ : wq_HJ J28 i0) :
    wL_law_375 post L xs J28 row (nI m) x5 (nI n) (nI st) (nI sb.toNat) (nI i0) (nI w) (nI (x % 8)) kc ks (nI m) (nI n) (nI (wq_sv sb st)) f3 a1 a2 a3 a4 a5 a6 a7 a8 := by
  have hn := pl.1
  unfold wL_law_375
  refine pk_le 13 w (fun _ => wq_from (by omega) (wq_433 (sb := true) (by omega) g pl (Or.inl rfl) HJ)) (fun _ => wq_drop hn (fun z => ?_) (fun n' z => ?_))
  · subst z
    exact br_t rfl (br_t (by decide) (wq_433 hst g pl kn HJ))
  · subst z
    exact br_t (nI_pred n').symm (br_f (nI_nle (by omega) (by omega)) (by
      unfold wL_law_412
      rw [nI_pred]
      exact wq_433 hst g (wq_Pl_drop pl) (Or.inl rfl) HJ))
/-- what find has found -/
def wq_Fd (m x : Nat) (E : Nat → Nat) (x14 : Int32) : Prop := (x14 = -1 ∧ ∀ e, e < m → E e ≠ x) ∨ ∃ e, e < m ∧ E e = x ∧ x14 = nI e
/-- cut, add, drop, from -/
theorem wq_192 {w x : Nat} {x14 : Int32} (hw : w < 16) (hx : x < 128) (hst : st < 8) (g : wq_G row m E O I a2 a3) (pl : wq_Pl x5 n K Lb a4 a5) (kn : wq_Kn f3 st n sb O I K Lb a6) (fd : wq_Fd m x E x14) (HJ : wq_HJ J28 i0) :
    wL_law_192 post L xs J28 row (nI m) x5 (nI n) (nI st) (nI sb.toNat) (nI i0) (nI w) (nI x) (nI (x % 8)) (nI (x / 8 % 8)) x14 kc ks (nI m) (nI n) (nI (wq_sv sb st)) f3 a1 a2 a3 a4 a5 a6 a7 a8 := by
  have hn := pl.1
  have hm := g.1
  unfold wL_law_192
  refine pk_le 9 w (fun _ => pk_le 12 w (fun _ => wq_375 hw hx hst g pl kn HJ) (fun _ => pk_le 2 n (fun _ => wq_375 hw hx hst g pl kn HJ) (fun z => ⟨by decide, nm_r (wq_xl x hx) ?_⟩))) (fun _ => ?_)
  · rw [wq_xs x hx, wq_x3 x hx]
    refine wq_add z (by omega) (by omega) (br_t (nI_1 n).symm (nm_e (nm_r (nI_1 n) ?_)))
    exact wq_433 hst g (wq_Pl_add pl z) (Or.inl rfl) HJ
  · rw [wq_x6 x hx]
    refine wq_cut g hx (fun z => ?_) (fun z => ?_)
    · have h14 : x14 = -1 := by
        rcases fd with y | ⟨e, he, hc, _⟩
        · exact y.1
        · exact absurd hc (z e he)
      rw [h14]
      refine br_t (by decide) (br_t rfl (br_t rfl ?_))
      unfold wL_law_245 wpL_edge
      exact br_t rfl (wq_433 hst g pl kn HJ)
    · obtain ⟨e0, he0, hc0, h14⟩ : ∃ e, e < m ∧ E e = x ∧ x14 = nI e := by
        rcases fd with y | y
        · obtain ⟨e, he, hc⟩ := z
          exact absurd hc (y.2 e he)
        · exact y
      obtain ⟨m', rfl⟩ : ∃ m', m = m' + 1 := ⟨m - 1, by omega⟩
      rw [h14]
      refine br_f (nI_pos (by omega)) (br_t rfl (br_f (by decide) ?_))
      unfold wL_law_245
      rw [nI_pred]
      refine wq_edge (g.2.1 m' (by omega)).1 (br_f (by decide) ?_)
      exact wq_433 hst (wq_G_cut g he0 hc0) pl (Or.inl rfl) HJ
/-- join: not done, done -/
theorem wq_126 {x : Nat} (hst : st < 8) (g : wq_G row m E O I a2 a3) (pl : wq_Pl x5 n K Lb a4 a5) (kn : wq_Kn f3 st n sb O I K Lb a6) (HJ : wq_HJ J28 i0) :
    wL_law_126 post L xs J28 row (nI m) x5 (nI n) (nI st) (nI sb.toNat) (nI i0) (nI x) 0 kc ks (nI m) (nI n) (nI (wq_sv sb st)) f3 a1 a2 a3 a4 a5 a6 a7 a8 := by
  unfold wL_law_126
  exact br_t rfl (br_t rfl (br_t rfl (wq_433 hst g pl kn HJ)))
theorem wq_127 {x : Nat} (hm : m < 6) (hx : x < 128) (hab : x % 8 ≠ x / 8 % 8) (hnew : ∀ e, e < m → E e ≠ x) (hst : st < 8) (g : wq_G row m E O I a2 a3) (pl : wq_Pl x5 n K Lb a4 a5) (HJ : wq_HJ J28 i0) :
    wL_law_127 post L xs J28 row (nI m) x5 (nI n) (nI st) (nI sb.toNat) (nI i0) (nI x) 1 1 kc ks (nI (m + 1)) (nI n) (nI (wq_sv sb st)) 0 a1 (upd a2 (x / 64 * 8 + x % 8) (nI (O (x / 64 * 8 + x % 8) ^^^ 2 ^ (x / 8 % 8)))) (upd a3 (x / 64 * 8 + x / 8 % 8) (nI (I (x / 64 * 8 + x / 8 % 8) ^^^ 2 ^ (x % 8)))) a4 a5 a6 a7 a8 := by
  unfold wL_law_127
  refine br_f (by decide) (br_f (by decide) (br_t rfl ?_))
  rw [nI_1 m]
  exact wq_433 hst (wq_G_join g hm hx hab hnew) pl (Or.inl rfl) HJ
theorem wq_findF {post : Int32 → Prop} {x : Nat} (g : wq_G row m E O I a2 a3) (hx : x < 128) (H : ∀ x14, wq_Fd m x E x14 → post x14) : wpL_find post () row (nI m) (nI x) :=
  wq_find g.1 (fun e he => ⟨(g.2.1 e he).1, (g.2.1 e he).2.1⟩) hx (fun z => H _ (Or.inl ⟨rfl, z⟩)) (fun e he hc => H _ (Or.inr ⟨e, he, hc, rfl⟩))
theorem wq_28 (hL : L ≤ 260) (Hp : post 1) : ∀ (fu i : Nat), i ≤ L → L - i < fu → ∀ (row : Int64) (x4 x5 x6 x7 x8 f0 f1 f2 f3 : Int32) (a1 a2 a3 a4 a5 a6 a7 a8 : Nat → Int32), wq_Inv row x4 x5 x6 x7 x8 f0 f1 f2 f3 a2 a3 a4 a5 a6 → wL_law_28 post L xs kc ks fu row x4 x5 x6 x7 x8 (nI i) f0 f1 f2 f3 a1 a2 a3 a4 a5 a6 a7 a8 := by
  intro fu
  induction fu with
  | zero =>
    intro i _ h
    exact absurd h (by omega)
  | succ fu ih =>
    intro i hi hf row x4 x5 x6 x7 x8 f0 f1 f2 f3 a1 a2 a3 a4 a5 a6 a7 a8 hI
    obtain ⟨m, n, st, sb, E, O, I, K, Lb, rfl, rfl, rfl, rfl, rfl, rfl, rfl, hst, g, pl, kn⟩ := hI
    have hm := g.1
    refine pk_le L i (fun _ => Hp) (fun z => ?_)
    have HJ : wq_HJ (wL_law_28 post L xs kc ks fu) i := ih (i + 1) (by omega) (by omega)
    obtain ⟨w, hw, ew⟩ := pk_andE (xs (nI i).toNatClampNeg) (m := 15) 4 (by decide)
    obtain ⟨x, hx, ex⟩ := pk_andE ((xs (nI i).toNatClampNeg) >>> ((4 : Int32) &&& 31)) (m := 127) 7 (by decide)
    have hx' : x < 128 := hx
    have hw' : w < 16 := hw
    refine ⟨pk_in i L z, nm_r ew ⟨pk_in i L z, nm_r ex (nm_r (wq_x7 x hx') (nm_r (wq_x37 x hx') (wq_findF g hx' (fun x14 fd => ?_))))⟩⟩
    refine pk_le 7 w (fun _ => wq_192 hw' hx' hst g pl kn fd HJ) (fun _ => pk_le 6 m (fun _ => wq_192 hw' hx' hst g pl kn fd HJ) (fun zm => ?_))
    rw [wq_x6 x hx']
    refine wq_join g hx' (fun y => pk_eq (x % 8) (x / 8 % 8) (fun _ => wq_126 hst g pl kn HJ) (fun ne => br_t ?_ (wq_126 hst g pl kn HJ))) (fun y1 y2 => pk_eq (x % 8) (x / 8 % 8) (fun q => absurd q y1) (fun _ => br_f ?_ (wq_127 zm hx' y1 y2 hst g pl HJ)))
    · obtain ⟨e, he, hc⟩ := y.resolve_left ne
      rcases fd with q | ⟨e', he', hc', h14⟩
      · exact absurd hc (q.2 e he)
      · rw [h14]
        exact nI_pos' (by omega)
    · rcases fd with q | ⟨e', he', hc', h14⟩
      · rw [q.1]
        decide
      · exact absurd hc' (y2 e' he')
end
end
section
theorem wq_Inv0 : wq_Inv 0 0 0 0 0 0 0 0 0 0 (fun _ => 0) (fun _ => 0) (fun _ => 0) (fun _ => 0) (fun _ => 0) := by
  refine ⟨0, 0, 0, false, fun _ => 0, fun _ => 0, fun _ => 0, fun _ => 0, fun _ => 0, rfl, rfl, rfl, rfl, rfl, rfl, rfl, by omega, ⟨by omega, fun e he => absurd he (by omega), fun e e' he => absurd he (by omega), fun j _ => ⟨⟨rfl, (by decide : 0 < 256)⟩, ⟨rfl, (by decide : 0 < 256)⟩⟩, ?_, ?_⟩, ⟨by omega, fun i hi => absurd hi (by omega)⟩, Or.inl rfl⟩
  · intro l v w _ _ _
    rw [Nat.zero_testBit]
    exact ⟨fun z => absurd z (by decide), fun ⟨e, he, _⟩ => absurd he (by omega)⟩
  · intro l v w _ _ _
    rw [Nat.zero_testBit]
    exact ⟨fun z => absurd z (by decide), fun ⟨e, he, _⟩ => absurd he (by omega)⟩
theorem i_vc (xs : Nat → Int32) (L : Nat) (hL : L ≤ 260) : wpL_law (fun r => r = 1) L xs :=
  ⟨8, 187, by omega, by omega, by omega, by omega, by omega, by omega, by omega, by omega, by omega, by omega, by omega, by omega, by omega, by omega, by omega, by omega, by omega, by omega, L + 1, wq_28 (post := fun r => r = 1) hL rfl (L + 1) 0 (by omega) (by omega) _ _ _ _ _ _ _ _ _ _ _ _ _ _ _ _ _ _ wq_Inv0⟩
end
