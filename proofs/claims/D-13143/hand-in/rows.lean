section
/-! ===== numbers: lN under shifts, masks, or (some rows turned from kit/laws/BITS.to-paste) ===== -/
theorem rd_tb (n : Nat) : (lN n).toBitVec = BitVec.ofNat 64 n := rfl
theorem rd_inj {a b : Int64} (h : a.toBitVec = b.toBitVec) : a = b := Int64.toBitVec_inj.mp h
theorem rd_tn {n : Nat} (h : n < 2 ^ 64) : (lN n).toBitVec.toNat = n := by rw [rd_tb, BitVec.toNat_ofNat, Nat.mod_eq_of_lt h]
theorem rd_sc : ∀ j, j < 4 → ((15 * nI j).toInt64 &&& 63) = lN (15 * j) := by decide +kernel
theorem rd_sc3 : ∀ j, j < 4 → (((15 * nI j) + 3).toInt64 &&& 63) = lN (15 * j + 3) := by decide +kernel
theorem rd_sm : ∀ k, k < 64 → ((lN k).toBitVec.smod 64).toNat = k := by decide +kernel
theorem rd_sm' : ∀ k, k < 64 → (lN k).toBitVec.smod 64 = BitVec.ofNat 64 k := by decide +kernel
theorem rd_shr0 {a d : Nat} {D : Int64} (hD : (D.toBitVec.smod 64).toNat = d) (h : a < 2 ^ 62) : lN a >>> D = lN (a / 2 ^ d) := by
  have hd : a / 2 ^ d ≤ a := Nat.div_le_self _ _
  apply Int64.toInt_inj.mp
  have e : (lN a >>> D).toInt = (lN a).toInt >>> d := by
    rw [← hD]
    exact BitVec.toInt_sshiftRight ..
  rw [e, Int.shiftRight_eq_div_pow, pk_lT (by omega), pk_lT (by omega)]
  rfl
theorem rd_shl0 {a k : Nat} {y : Int64} (hy : y.toBitVec.smod 64 = BitVec.ofNat 64 k) (hk : k < 64) (ha : a < 2 ^ 64) : lN a <<< y = lN (a * 2 ^ k) := by
  apply Int64.toBitVec_inj.mp
  rw [Int64.toBitVec_shiftLeft, hy]
  apply BitVec.eq_of_toNat_eq
  have hb : (lN a).toBitVec.toNat = a := Nat.mod_eq_of_lt ha
  have hk' : (BitVec.ofNat 64 k).toNat = k := Nat.mod_eq_of_lt (by omega)
  have h : ((lN a).toBitVec <<< BitVec.ofNat 64 k).toNat = (a * 2 ^ k) % 2 ^ 64 := by simp only [BitVec.shiftLeft_eq', BitVec.toNat_shiftLeft, hb, hk', Nat.shiftLeft_eq]
  exact h
theorem rd_and0 {a b : Nat} (ha : a < 2 ^ 64) (hb : b < 2 ^ 64) : lN a &&& lN b = lN (a &&& b) := by
  apply rd_inj
  rw [Int64.toBitVec_and, rd_tb, rd_tb, rd_tb]
  apply BitVec.eq_of_toNat_eq
  rw [BitVec.toNat_and, BitVec.toNat_ofNat, BitVec.toNat_ofNat, BitVec.toNat_ofNat, Nat.mod_eq_of_lt ha, Nat.mod_eq_of_lt hb, Nat.mod_eq_of_lt (Nat.and_lt_two_pow _ hb)]
theorem rd_or0 {a b : Nat} (ha : a < 2 ^ 64) (hb : b < 2 ^ 64) : lN a ||| lN b = lN (a ||| b) := by
  apply rd_inj
  rw [Int64.toBitVec_or, rd_tb, rd_tb, rd_tb]
  apply BitVec.eq_of_toNat_eq
  rw [BitVec.toNat_or, BitVec.toNat_ofNat, BitVec.toNat_ofNat, BitVec.toNat_ofNat, Nat.mod_eq_of_lt ha, Nat.mod_eq_of_lt hb, Nat.mod_eq_of_lt (Nat.or_lt_two_pow ha hb)]
theorem rd_mask {n k : Nat} (hn : n < 2 ^ 64) (hk : k < 64) : lN n &&& lN (2 ^ k - 1) = lN (n % 2 ^ k) := by
  have h2 : 2 ^ k < 2 ^ 64 := Nat.pow_lt_pow_right (by decide) hk
  rw [rd_and0 hn (by omega), Nat.and_two_pow_sub_one_eq_mod]
theorem rd_or {k a b : Nat} (ha : a < 2 ^ k) (h : a + b * 2 ^ k < 2 ^ 64) : lN a ||| lN (b * 2 ^ k) = lN (a + b * 2 ^ k) := by
  have h1 : b * 2 ^ k ||| a = b * 2 ^ k + a := by rw [← Nat.shiftLeft_eq, Nat.shiftLeft_add_eq_or_of_lt ha]
  rw [Int64.or_comm, rd_or0 (by omega) (by omega), h1, Nat.add_comm]
/-- and with the complement of a low mask -/
theorem rd_high {x k : Nat} : lN x &&& (lN (2 ^ k - 1) ^^^ (-1)) = lN (x / 2 ^ k * 2 ^ k) := by
  apply rd_inj
  rw [Int64.toBitVec_and, Int64.toBitVec_xor, rd_tb, rd_tb, rd_tb, show (-1 : Int64).toBitVec = BitVec.allOnes 64 from by decide]
  apply BitVec.eq_of_getLsbD_eq
  intro i hi
  rw [BitVec.getLsbD_and, BitVec.getLsbD_xor, BitVec.getLsbD_ofNat, BitVec.getLsbD_ofNat, BitVec.getLsbD_ofNat, BitVec.getLsbD_allOnes, ← Nat.shiftLeft_eq, ← Nat.shiftRight_eq_div_pow, Nat.testBit_shiftLeft, Nat.testBit_shiftRight, Nat.testBit_two_pow_sub_one]
  rcases Nat.lt_or_ge i k with h | h
  · simp [h, hi, Nat.not_le.mpr h]
  · simp [h, hi, Nat.not_lt.mpr h, show k + (i - k) = i by omega]
theorem rd_shr {a j : Nat} (ha : a < 2 ^ 62) (hj : j < 4) : lN a >>> ((15 * nI j).toInt64 &&& 63) = lN (a / 2 ^ (15 * j)) := by
  rw [rd_sc j hj]
  exact rd_shr0 (rd_sm (15 * j) (by omega)) ha
theorem rd_shr3 {a j : Nat} (ha : a < 2 ^ 62) (hj : j < 4) : lN a >>> (((15 * nI j) + 3).toInt64 &&& 63) = lN (a / 2 ^ (15 * j + 3)) := by
  rw [rd_sc3 j hj]
  exact rd_shr0 (rd_sm (15 * j + 3) (by omega)) ha
theorem rd_shl {a j : Nat} (ha : a < 2 ^ 64) (hj : j < 4) : lN a <<< ((15 * nI j).toInt64 &&& 63) = lN (a * 2 ^ (15 * j)) := by
  rw [rd_sc j hj]
  exact rd_shl0 (rd_sm' (15 * j) (by omega)) (by omega) ha
theorem rd_shl15 {a : Nat} (ha : a < 2 ^ 64) : lN a <<< ((15 : Int32).toInt64 &&& 63) = lN (a * 2 ^ 15) :=
  rd_shl0 (k := 15) (by decide) (by omega) ha
theorem rd_m15 {n : Nat} (hn : n < 2 ^ 64) : lN n &&& 32767 = lN (n % 32768) := rd_mask (k := 15) hn (by decide)
theorem rd_m4 {n : Nat} (hn : n < 2 ^ 64) : lN n &&& 15 = lN (n % 16) := rd_mask (k := 4) hn (by decide)
theorem rd_m3 {n : Nat} (hn : n < 2 ^ 64) : lN n &&& 7 = lN (n % 8) := rd_mask (k := 3) hn (by decide)
theorem rd_lN0 : lN 0 = 0 := rfl
/-! ===== fields of 15 bits ===== -/
def rd_up (f : Nat → Nat) (k x : Nat) : Nat → Nat := fun j => if j = k then x else f j
theorem rd_us {f : Nat → Nat} {k x : Nat} : rd_up f k x k = x := if_pos rfl
theorem rd_un {f : Nat → Nat} {k j x : Nat} (h : j ≠ k) : rd_up f k x j = f j := if_neg h
def rd_E (g : Nat → Nat) : Nat → Nat
  | 0 => 0
  | m + 1 => rd_E g m + g m * 2 ^ (15 * m)
theorem rd_pw (m : Nat) : 2 ^ (15 * (m + 1)) = 32768 * 2 ^ (15 * m) := by
  rw [Nat.mul_succ, Nat.pow_add]
  omega
theorem rd_E_lt {g : Nat → Nat} : ∀ m, (∀ i, i < m → g i < 32768) → rd_E g m < 2 ^ (15 * m)
  | 0, _ => by
    show 0 < 2 ^ (15 * 0)
    decide
  | m + 1, h => by
    have h1 := rd_E_lt m (fun i hi => h i (by omega))
    have h2 := h m (by omega)
    have h4 : (g m + 1) * 2 ^ (15 * m) ≤ 32768 * 2 ^ (15 * m) := Nat.mul_le_mul_right _ (by omega)
    rw [Nat.add_mul, Nat.one_mul] at h4
    rw [rd_pw]
    show rd_E g m + g m * 2 ^ (15 * m) < 32768 * 2 ^ (15 * m)
    omega
theorem rd_E_60 {g : Nat → Nat} {m : Nat} (hm : m ≤ 4) (h : ∀ i, i < m → g i < 32768) : rd_E g m < 2 ^ 60 :=
  Nat.lt_of_lt_of_le (rd_E_lt m h) (Nat.pow_le_pow_right (by decide) (by omega))
theorem rd_E_get {g : Nat → Nat} {j : Nat} : ∀ m, (∀ i, i < m → g i < 32768) → j < m → rd_E g m / 2 ^ (15 * j) % 32768 = g j
  | 0, _, h => absurd h (by omega)
  | m + 1, hg, hj => by
    have hp : 0 < 2 ^ (15 * j) := Nat.two_pow_pos _
    by_cases e : j = m
    · subst e
      have h1 := rd_E_lt j (fun i hi => hg i (by omega))
      show (rd_E g j + g j * 2 ^ (15 * j)) / 2 ^ (15 * j) % 32768 = g j
      rw [Nat.add_mul_div_right _ _ hp, Nat.div_eq_of_lt h1, Nat.zero_add, Nat.mod_eq_of_lt (hg j (by omega))]
    · have ih := rd_E_get (j := j) m (fun i hi => hg i (by omega)) (by omega)
      have e1 : 2 ^ (15 * m) = 2 ^ (15 * (m - j - 1)) * 32768 * 2 ^ (15 * j) := by
        rw [show (32768 : Nat) = 2 ^ 15 from rfl, ← Nat.pow_add, ← Nat.pow_add]
        congr 1
        omega
      have e2 : g m * 2 ^ (15 * m) = (g m * 2 ^ (15 * (m - j - 1)) * 32768) * 2 ^ (15 * j) := by
        rw [e1]
        simp only [Nat.mul_assoc]
      show (rd_E g m + g m * 2 ^ (15 * m)) / 2 ^ (15 * j) % 32768 = g j
      rw [e2, Nat.add_mul_div_right _ _ hp, Nat.add_mul_mod_self_right]
      exact ih
theorem rd_E_cg {g h : Nat → Nat} : ∀ m, (∀ i, i < m → g i = h i) → rd_E g m = rd_E h m
  | 0, _ => rfl
  | m + 1, e => by
    show rd_E g m + g m * 2 ^ (15 * m) = rd_E h m + h m * 2 ^ (15 * m)
    rw [rd_E_cg m (fun i hi => e i (by omega)), e m (by omega)]
theorem rd_E_0 : ∀ m, rd_E (fun _ => 0) m = 0
  | 0 => rfl
  | m + 1 => by
    show rd_E (fun _ => 0) m + 0 * 2 ^ (15 * m) = 0
    rw [rd_E_0 m, Nat.zero_mul]
theorem rd_E_up {g : Nat → Nat} {j v : Nat} : ∀ m, j < m → rd_E (rd_up g j (g j + v)) m = rd_E g m + v * 2 ^ (15 * j)
  | 0, h => absurd h (by omega)
  | m + 1, h => by
    show rd_E (rd_up g j (g j + v)) m + rd_up g j (g j + v) m * 2 ^ (15 * m) = rd_E g m + g m * 2 ^ (15 * m) + v * 2 ^ (15 * j)
    by_cases e : j = m
    · subst e
      rw [rd_us, rd_E_cg (h := g) j (fun i hi => rd_un (by omega)), Nat.add_mul]
      omega
    · rw [rd_E_up m (by omega), rd_un (by omega)]
      omega
theorem rd_E_split {g : Nat → Nat} {a : Nat} : ∀ b, rd_E g (a + b) = rd_E g a + rd_E (fun j => g (a + j)) b * 2 ^ (15 * a)
  | 0 => by
    show rd_E g a = rd_E g a + 0 * 2 ^ (15 * a)
    omega
  | b + 1 => by
    show rd_E g (a + b) + g (a + b) * 2 ^ (15 * (a + b)) = rd_E g a + (rd_E (fun j => g (a + j)) b + g (a + b) * 2 ^ (15 * b)) * 2 ^ (15 * a)
    rw [rd_E_split b, Nat.add_mul, Nat.mul_assoc (g (a + b)), ← Nat.pow_add, show 15 * b + 15 * a = 15 * (a + b) by omega]
    omega
/-- a field read out of the word -/
theorem rd_get {g : Nat → Nat} {m j : Nat} (hm : m ≤ 4) (hg : ∀ i, i < m → g i < 32768) (hj : j < m) : (lN (rd_E g m) >>> ((15 * nI j).toInt64 &&& 63)) &&& 32767 = lN (g j) := by
  have h1 := rd_E_60 hm hg
  have h2 : rd_E g m / 2 ^ (15 * j) ≤ rd_E g m := Nat.div_le_self _ _
  rw [rd_shr (by omega) (by omega), rd_m15 (by omega), rd_E_get m hg hj]
/-- the cost of a task read out of the word -/
theorem rd_get3 {g : Nat → Nat} {m j : Nat} (hm : m ≤ 4) (hg : ∀ i, i < m → g i < 32768) (hj : j < m) : (lN (rd_E g m) >>> (((15 * nI j) + 3).toInt64 &&& 63)) &&& 15 = lN (g j / 8 % 16) := by
  have h1 := rd_E_60 hm hg
  have h2 : rd_E g m / 2 ^ (15 * j + 3) ≤ rd_E g m := Nat.div_le_self _ _
  rw [rd_shr3 (by omega) (by omega), rd_m4 (by omega), Nat.pow_add, ← Nat.div_div_eq_div_mul]
  have h3 := rd_E_get m hg hj
  revert h3
  generalize rd_E g m / 2 ^ (15 * j) = x
  intro h3
  rw [← h3]
  exact congrArg lN (by omega)
/-! ===== sums ===== -/
def rd_S (h : Nat → Nat) : Nat → Nat
  | 0 => 0
  | m + 1 => rd_S h m + h m
theorem rd_S_cg {h h' : Nat → Nat} : ∀ m, (∀ i, i < m → h i = h' i) → rd_S h m = rd_S h' m
  | 0, _ => rfl
  | m + 1, e => by
    show rd_S h m + h m = rd_S h' m + h' m
    rw [rd_S_cg m (fun i hi => e i (by omega)), e m (by omega)]
theorem rd_S_add {h h' : Nat → Nat} : ∀ m, rd_S (fun i => h i + h' i) m = rd_S h m + rd_S h' m
  | 0 => rfl
  | m + 1 => by
    show rd_S (fun i => h i + h' i) m + (h m + h' m) = rd_S h m + h m + (rd_S h' m + h' m)
    rw [rd_S_add m]
    omega
theorem rd_S_mono {h h' : Nat → Nat} : ∀ m, (∀ i, i < m → h i ≤ h' i) → rd_S h m ≤ rd_S h' m
  | 0, _ => Nat.le_refl 0
  | m + 1, e => Nat.add_le_add (rd_S_mono m (fun i hi => e i (by omega))) (e m (by omega))
theorem rd_S_0 {h : Nat → Nat} : ∀ m, (∀ i, i < m → h i = 0) → rd_S h m = 0
  | 0, _ => rfl
  | m + 1, e => by
    show rd_S h m + h m = 0
    rw [rd_S_0 m (fun i hi => e i (by omega)), e m (by omega)]
theorem rd_S_up {h : Nat → Nat} {j v : Nat} : ∀ m, j < m → rd_S (rd_up h j (h j + v)) m = rd_S h m + v
  | 0, z => absurd z (by omega)
  | m + 1, z => by
    show rd_S (rd_up h j (h j + v)) m + rd_up h j (h j + v) m = rd_S h m + h m + v
    by_cases e : j = m
    · subst e
      rw [rd_us, rd_S_cg (h' := h) j (fun i hi => rd_un (by omega))]
      omega
    · rw [rd_S_up m (by omega), rd_un (by omega)]
      omega
theorem rd_S_le {h : Nat → Nat} {b : Nat} : ∀ m, (∀ i, i < m → h i ≤ b) → rd_S h m ≤ m * b
  | 0, _ => Nat.zero_le _
  | m + 1, e => by
    have h1 := rd_S_le m (fun i hi => e i (by omega))
    have h2 := e m (by omega)
    rw [Nat.add_mul, Nat.one_mul]
    exact Nat.add_le_add h1 h2
/-! ===== small sets as bits ===== -/
def rd_b (P k : Nat) : Nat := P / 2 ^ k % 2
theorem rd_bit : ∀ P, P < 32 → ∀ k, k < 5 → (nI P >>> (nI k &&& 31)) &&& 1 = nI (rd_b P k) := by decide +kernel
theorem rd_or1 : ∀ P, P < 32 → ∀ k, k < 5 → nI P ||| ((1 : Int32) <<< (nI k &&& 31)) = nI (P ||| 2 ^ k) := by decide +kernel
theorem rd_orlt : ∀ P, P < 32 → ∀ k, k < 5 → P ||| 2 ^ k < 32 := by decide +kernel
theorem rd_orlt4 : ∀ P, P < 16 → ∀ k, k < 4 → P ||| 2 ^ k < 16 := by decide +kernel
theorem rd_b_or : ∀ P, P < 32 → ∀ m, m < 5 → ∀ k, k < 5 → rd_b (P ||| 2 ^ m) k = if k = m then 1 else rd_b P k := by decide +kernel
theorem rd_clr : ∀ P, P < 16 → ∀ k, k < 4 → nI P &&& (((1 : Int32) <<< (nI k &&& 31)) ^^^ (-1)) = nI (P &&& (31 - 2 ^ k)) := by decide +kernel
theorem rd_clrlt : ∀ P, P < 16 → ∀ k, k < 4 → P &&& (31 - 2 ^ k) < 16 := by decide +kernel
theorem rd_b_clr : ∀ P, P < 16 → ∀ m, m < 4 → ∀ k, k < 5 → rd_b (P &&& (31 - 2 ^ m)) k = if k = m then 0 else rd_b P k := by decide +kernel
theorem rd_15 : ∀ P, P < 16 → nI P &&& 15 = nI P := by decide +kernel
theorem rd_b_lt (P k : Nat) : rd_b P k < 2 := Nat.mod_lt _ (by omega)
theorem rd_b4 : ∀ P, P < 16 → rd_b P 4 = 0 := by decide +kernel
theorem rd_ext {P M : Nat} (hP : P < 32) (hM : M < 32) (h : ∀ k, k < 5 → (rd_b P k = 1 ↔ rd_b M k = 1)) : P = M := by
  have h0 := h 0 (by omega)
  have h1 := h 1 (by omega)
  have h2 := h 2 (by omega)
  have h3 := h 3 (by omega)
  have h4 := h 4 (by omega)
  simp only [rd_b, Nat.reducePow] at h0 h1 h2 h3 h4
  omega
theorem rd_by : ∀ v, v < 16 → (nI v).toInt8.toInt32 = nI v := by decide +kernel
theorem rd_nb (v : Nat) (h : v < 16) : vp_nar .byte (nI v) = nI v := by rw [vp_nar_byte, rd_by v h]
end
section
/-! ===== the plain law: time that covers the work, and the run unit by unit ===== -/
def rd_c (v : Nat) : Nat := v / 8 % 16
def rd_d (v : Nat) : Nat := v / 128 % 16
def rd_p (v : Nat) : Nat := v / 2048
/-- a task's code is well formed -/
def rd_V (v : Nat) : Prop := v < 32768 ∧ v % 8 < 4 ∧ 1 ≤ rd_c v ∧ rd_c v ≤ rd_d v ∧ rd_d v ≤ rd_p v
theorem rd_V_p {v : Nat} (h : rd_V v) : 1 ≤ rd_p v ∧ rd_p v ≤ 15 ∧ 1 ≤ rd_c v ∧ rd_c v ≤ 15 ∧ rd_d v ≤ 15 ∧ rd_c v ≤ rd_d v ∧ rd_d v ≤ rd_p v ∧ v < 32768 ∧ 0 < v := by
  obtain ⟨h1, h2, h3, h4, h5⟩ := h
  unfold rd_c rd_d rd_p at *
  omega
/-- the work of task v that gets ready in the first t units -/
def rd_A (v t : Nat) : Nat := (t + rd_p v - 1) / rd_p v * rd_c v
/-- what gets ready at unit t -/
def rd_ar (v t : Nat) : Nat := if t % rd_p v = 0 then rd_c v else 0
theorem rd_ceil : ∀ t, t < 16 → ∀ p, p < 16 → 0 < p → (t + 1 + p - 1) / p = (t + p - 1) / p + (if t % p = 0 then 1 else 0) := by decide +kernel
theorem rd_A_succ {v t : Nat} (hv : rd_V v) (ht : t < 16) : rd_A v (t + 1) = rd_A v t + rd_ar v t := by
  obtain ⟨h1, h2, _⟩ := rd_V_p hv
  unfold rd_A rd_ar
  rw [rd_ceil t ht (rd_p v) (by omega) (by omega), Nat.add_mul]
  split <;> simp
theorem rd_A_mono {v s t : Nat} (h : s ≤ t) : rd_A v s ≤ rd_A v t := Nat.mul_le_mul_right _ (Nat.div_le_div_right (by omega))
theorem rd_ar_le {v t : Nat} (hv : rd_V v) : rd_ar v t ≤ 15 := by
  have h := rd_V_p hv
  unfold rd_ar
  split <;> omega
theorem rd_ar0 (v : Nat) : rd_ar v 0 = rd_c v := by
  unfold rd_ar
  rw [if_pos (Nat.zero_mod _)]
/-- a task's cost and the work of the tasks above it in the first t units -/
def rd_f (g : Nat → Nat) (q t : Nat) : Nat := rd_c (g q) + rd_S (fun i => rd_A (g i) t) q
theorem rd_f_mono {g : Nat → Nat} {q s t : Nat} (h : s ≤ t) : rd_f g q s ≤ rd_f g q t := Nat.add_le_add_left (rd_S_mono q (fun _ _ => rd_A_mono h)) _
/-- u is the least time up to 16 that covers the work, or 63 -/
def rd_R (f : Nat → Nat) (u : Nat) : Prop := (u ≤ 16 ∧ f u ≤ u ∧ ∀ s, s < u → s < f s) ∨ (u = 63 ∧ ∀ s, s ≤ 16 → s < f s)
/-- the run ahead of unit t: what is left to do (w), what task q has got (dn), the answer so far (u) -/
def rd_Q (g : Nat → Nat) (q t : Nat) (w : Nat → Nat) (dn u : Nat) : Prop :=
  (∀ i, i ≤ q → w i ≤ 15 * t) ∧ dn ≤ t ∧
  ((u = 63 ∧ dn < rd_c (g q) ∧ (∀ s, s < t → s < rd_f g q s) ∧ rd_S w q + t = rd_S (fun i => rd_A (g i) t) q + dn ∧ (0 < t → rd_c (g q) ≤ w q + dn)) ∨
   (u ≤ 16 ∧ rd_f g q u ≤ u ∧ ∀ s, s < u → s < rd_f g q s))
theorem rd_Q0 {g : Nat → Nat} {q : Nat} (hv : rd_V (g q)) : rd_Q g q 0 (fun _ => 0) 0 63 := by
  have h := rd_V_p hv
  refine ⟨fun _ _ => Nat.zero_le _, by omega, Or.inl ⟨rfl, by omega, fun s hs => absurd hs (by omega), ?_, fun z => absurd z (by omega)⟩⟩
  rw [rd_S_0 q (fun _ _ => rfl), rd_S_0 q (fun i _ => ?_)]
  show rd_A (g i) 0 = 0
  unfold rd_A
  by_cases e : rd_p (g i) = 0
  · rw [e, Nat.div_zero, Nat.zero_mul]
  · rw [Nat.div_eq_of_lt (by omega), Nat.zero_mul]
theorem rd_QR {g : Nat → Nat} {q dn u : Nat} {w : Nat → Nat} (h : rd_Q g q 16 w dn u) : rd_R (rd_f g q) u := by
  obtain ⟨_, _, ⟨h1, h2, h3, h4, _⟩ | h⟩ := h
  · refine Or.inr ⟨h1, fun s hs => ?_⟩
    by_cases e : s = 16
    · subst e
      unfold rd_f
      omega
    · exact h3 s (by omega)
  · exact Or.inl h
theorem rd_SA {g : Nat → Nat} {t : Nat} (ht : t < 16) (q : Nat) (hg : ∀ i, i < q → rd_V (g i)) : rd_S (fun i => rd_A (g i) (t + 1)) q = rd_S (fun i => rd_A (g i) t) q + rd_S (fun i => rd_ar (g i) t) q := by
  rw [← rd_S_add]
  exact rd_S_cg q (fun i hi => rd_A_succ (hg i hi) ht)
/-- nobody has a turn -/
theorem rd_stepA {g : Nat → Nat} {q t dn u : Nat} {w w1 : Nat → Nat} (hg : ∀ i, i ≤ q → rd_V (g i)) (hw : ∀ i, i ≤ q → w1 i = w i + rd_ar (g i) t) (h : rd_Q g q t w dn u) (h0 : ∀ i, i ≤ q → w1 i = 0) : u ≤ 16 ∧ rd_Q g q (t + 1) w1 dn u := by
  obtain ⟨hb, hd, ⟨h1, h2, h3, h4, h5⟩ | h⟩ := h
  · exfalso
    have a := h0 q (Nat.le_refl q)
    have b := hw q (Nat.le_refl q)
    by_cases e : t = 0
    · subst e
      rw [rd_ar0] at b
      omega
    · have := h5 (by omega)
      omega
  · exact ⟨h.1, fun i hi => by rw [h0 i hi]; omega, by omega, Or.inr h⟩
/-- task m has the turn -/
theorem rd_stepB {g : Nat → Nat} {q t dn u m dn' : Nat} {w w1 : Nat → Nat} (ht : t < 16) (hg : ∀ i, i ≤ q → rd_V (g i)) (hw : ∀ i, i ≤ q → w1 i = w i + rd_ar (g i) t) (h : rd_Q g q t w dn u) (hm : m ≤ q) (h0 : ∀ i, i < m → w1 i = 0) (hp : 0 < w1 m) (e1 : m = q → dn' = dn + 1) (e2 : m ≠ q → dn' = dn) :
    (u = 63 → dn' = rd_c (g q) → rd_Q g q (t + 1) (rd_up w1 m (w1 m - 1)) dn' (t + 1)) ∧ ((u ≠ 63 ∨ dn' ≠ rd_c (g q)) → rd_Q g q (t + 1) (rd_up w1 m (w1 m - 1)) dn' u) := by
  obtain ⟨hb, hd, h⟩ := h
  have hd' : dn' ≤ t + 1 := by
    by_cases e : m = q
    · have := e1 e
      omega
    · have := e2 e
      omega
  have hb' : ∀ i, i ≤ q → rd_up w1 m (w1 m - 1) i ≤ 15 * (t + 1) := by
    intro i hi
    have a := hb i hi
    have b := hw i hi
    have c := rd_ar_le (t := t) (hg i hi)
    by_cases e : i = m
    · subst e
      rw [rd_us]
      omega
    · rw [rd_un e]
      omega
  rcases h with ⟨h1, h2, h3, h4, h5⟩ | h
  · have hs : ∀ s, s < t + 1 → s < rd_f g q s := by
      intro s hs
      by_cases e : s = t
      · subst e
        unfold rd_f
        omega
      · exact h3 s (by omega)
    have hA := rd_SA ht q (fun i hi => hg i (by omega))
    have hW : rd_S w1 q = rd_S w q + rd_S (fun i => rd_ar (g i) t) q := by
      rw [← rd_S_add]
      exact rd_S_cg q (fun i hi => hw i (by omega))
    have hl : rd_c (g q) ≤ w1 q + dn := by
      have b := hw q (Nat.le_refl q)
      by_cases e : t = 0
      · subst e
        rw [rd_ar0] at b
        omega
      · have := h5 (by omega)
        omega
    by_cases e : m = q
    · have e' := e1 e
      subst e
      have z1 : rd_S w1 m = 0 := rd_S_0 m h0
      have z2 : rd_S (rd_up w1 m (w1 m - 1)) m = 0 := rd_S_0 m (fun i hi => by rw [rd_un (by omega)]; exact h0 i hi)
      refine ⟨fun _ z => ⟨hb', hd', Or.inr ⟨by omega, ?_, hs⟩⟩, fun z => ⟨hb', hd', Or.inl ⟨h1, ?_, hs, ?_, fun _ => ?_⟩⟩⟩
      · unfold rd_f
        omega
      · rcases z with z | z
        · exact absurd h1 z
        · omega
      · rw [z2]
        omega
      · rw [rd_us]
        omega
    · have e' := e2 e
      have z : rd_S (rd_up w1 m (w1 m - 1)) q + 1 = rd_S w1 q := by
        have y := rd_S_up (h := rd_up w1 m (w1 m - 1)) (j := m) (v := 1) q (by omega)
        rw [← y]
        refine rd_S_cg q (fun i hi => ?_)
        by_cases ei : i = m
        · subst ei
          rw [rd_us, rd_us]
          omega
        · rw [rd_un ei, rd_un ei]
      refine ⟨fun _ z => absurd z (by omega), fun _ => ⟨hb', hd', Or.inl ⟨h1, by omega, hs, by omega, fun _ => ?_⟩⟩⟩
      rw [rd_un (fun y => e y.symm)]
      omega
  · exact ⟨fun z => absurd z (by omega), fun _ => ⟨hb', hd', Or.inr h⟩⟩
/-! ===== the class's rounds ===== -/
/-- x is on the way up to the least time that covers the work -/
def rd_I (f : Nat → Nat) (x : Nat) : Prop := x ≤ f x ∧ ∀ s, s < x → s < f s
theorem rd_I0 {g : Nat → Nat} {q : Nat} : rd_I (rd_f g q) (rd_c (g q)) := ⟨Nat.le_add_right _ _, fun _ hs => Nat.lt_of_lt_of_le hs (Nat.le_add_right _ _)⟩
theorem rd_I1 {g : Nat → Nat} {q x : Nat} (h : rd_I (rd_f g q) x) : rd_I (rd_f g q) (rd_f g q x) := by
  refine ⟨rd_f_mono h.1, fun s hs => ?_⟩
  rcases Nat.lt_or_ge s x with z | z
  · exact h.2 s z
  · exact Nat.lt_of_lt_of_le hs (rd_f_mono z)
theorem rd_I2 {g : Nat → Nat} {q x p : Nat} (h : rd_I (rd_f g q) x) (hp : p < rd_f g q x) : ∀ s, s ≤ p → s < rd_f g q s := by
  intro s hs
  rcases Nat.lt_or_ge s x with z | z
  · exact h.2 s z
  · have := rd_f_mono (g := g) (q := q) z
    omega
/-- whether a task is in time -/
def rd_ok (g : Nat → Nat) (q : Nat) : Prop := ∃ x, x ≤ rd_d (g q) ∧ rd_f g q x ≤ x
theorem rd_R_ok {g : Nat → Nat} {q u : Nat} (hv : rd_V (g q)) (h : rd_R (rd_f g q) u) : u ≤ rd_d (g q) ↔ rd_ok g q := by
  have hp := rd_V_p hv
  constructor
  · intro z
    rcases h with h | h
    · exact ⟨u, z, h.2.1⟩
    · omega
  · rintro ⟨x, hx, hf⟩
    rcases h with h | h
    · rcases Nat.lt_or_ge x u with z | z
      · have := h.2.2 x z
        omega
      · omega
    · have := h.2 x (by omega)
      omega
theorem rd_R_eq {f : Nat → Nat} {u x : Nat} (h : rd_R f u) (hx : x ≤ 16) (h1 : f x ≤ x) (h2 : ∀ s, s < x → s < f s) : u = x := by
  rcases h with h | h
  · rcases Nat.lt_trichotomy u x with z | z | z
    · have := h2 u z
      omega
    · exact z
    · have := h.2.2 x z
      omega
  · have := h.2 x hx
    omega
theorem rd_R_gt {f : Nat → Nat} {u p : Nat} (h : rd_R f u) (hp : p ≤ 15) (h2 : ∀ s, s ≤ p → s < f s) : p < u := by
  rcases h with h | h
  · rcases Nat.lt_or_ge p u with z | z
    · exact z
    · have := h2 u z
      omega
  · omega
end
section
/-! ===== the law's units ===== -/
/-- what is left to do, what gets ready at t being put to the tasks below j; to all -/
def rd_wj (w g : Nat → Nat) (t j : Nat) : Nat → Nat := fun a => if a < j then w a + rd_ar (g a) t else w a
def rd_w1 (w g : Nat → Nat) (t : Nat) : Nat → Nat := fun i => w i + rd_ar (g i) t
theorem rd_wj_lo {w g : Nat → Nat} {t j a : Nat} (h : a < j) : rd_wj w g t j a = w a + rd_ar (g a) t := if_pos h
theorem rd_wj_hi {w g : Nat → Nat} {t j a : Nat} (h : j ≤ a) : rd_wj w g t j a = w a := if_neg (by omega)
section
variable {post : Int32 → Prop} {J12 : Int64 → Int32 → Int32 → Int32 → Prop}
theorem rd_lle {a : Nat} (ha : a < 2 ^ 63) : lN a ≤ 0 ↔ a = 0 := by
  have h := pk_lLE (a := a) (b := 0) ha (by decide)
  rw [rd_lN0] at h
  rw [h]
  omega
theorem rd_u92 {J25 : Int64 → Int32 → Int32 → Prop} {X0 : Int64} {x5 x6 x7 x8 : Int32} {j q v : Nat} {y : Nat → Nat} (hj : j ≤ q) (hq : q < 4) (hy : ∀ i, i ≤ q → y i < 32768) (hv : y j + v < 32768)
    (H1 : 0 ≤ x8 → J25 (lN (rd_E (rd_up y j (y j + v)) (q + 1))) x8 (nI (j + 1)))
    (H2 : ¬ 0 ≤ x8 → y j + v = 0 → J25 (lN (rd_E (rd_up y j (y j + v)) (q + 1))) x8 (nI (j + 1)))
    (H3 : ¬ 0 ≤ x8 → 0 < y j + v → J25 (lN (rd_E (rd_up y j (y j + v)) (q + 1))) (nI j) (nI (j + 1))) :
    wL_units_92 post J12 J25 X0 (nI q) x5 x6 x7 x8 (nI j) (lN (v * 2 ^ (15 * j))) (lN (rd_E y (q + 1))) := by
  have hg : (lN (rd_E (rd_up y j (y j + v)) (q + 1)) >>> ((15 * nI j).toInt64 &&& 63)) &&& 32767 = lN (y j + v) := by
    rw [rd_get (by omega) (fun i hi => ?_) (by omega), rd_us]
    by_cases e : i = j
    · rw [e, rd_us]
      exact hv
    · rw [rd_un e]
      exact hy i (by omega)
  unfold wL_units_92
  rw [lN_add, ← rd_E_up (q + 1) (by omega)]
  refine nm_e (br_c (fun h => nm_r (nI_1 j) (H1 h)) (fun h => ?_))
  rw [hg]
  exact br_c (fun z => nm_r (nI_1 j) (H2 h ((rd_lle (by omega)).mp z))) (fun z => nm_r (nI_1 j) (H3 h (Nat.pos_of_ne_zero (fun e => z ((rd_lle (by omega)).mpr e)))))
theorem rd_u25 {g : Nat → Nat} {n q t : Nat} {w : Nat → Nat} {x5 x6 : Int32} (hn : n ≤ 4) (hq : q < n) (hg : ∀ i, i < n → rd_V (g i)) (ht : t < 16) (hb : ∀ i, i ≤ q → w i ≤ 15 * t)
    (Ha : (∀ i, i ≤ q → w i + rd_ar (g i) t = 0) → wL_units_147 post J12 (lN (rd_E g n)) (nI q) x5 x6 (nI t) (-1) 0 (lN (rd_E (rd_w1 w g t) (q + 1))))
    (Hb : ∀ m, m ≤ q → 0 < w m + rd_ar (g m) t → (∀ i, i < m → w i + rd_ar (g i) t = 0) → wL_units_147 post J12 (lN (rd_E g n)) (nI q) x5 x6 (nI t) (nI m) ((1 : Int64) <<< ((15 * nI m).toInt64 &&& 63)) (lN (rd_E (rd_w1 w g t) (q + 1)))) :
    ∃ fu, wL_units_25 post J12 (lN (rd_E g n)) (nI q) x5 x6 (nI t) fu (lN (rd_E w (q + 1))) (-1) 0 := by
  have hm1 : ¬ (0 : Int32) ≤ -1 := by decide
  refine pk_loop (σ := Int64 × Int32) (fun f i s => wL_units_25 post J12 (lN (rd_E g n)) (nI q) x5 x6 (nI t) f s.1 s.2 (nI i))
    (fun i s => s.1 = lN (rd_E (rd_wj w g t i) (q + 1)) ∧ ((s.2 = -1 ∧ ∀ a, a < i → w a + rd_ar (g a) t = 0) ∨ ∃ m, m < i ∧ s.2 = nI m ∧ 0 < w m + rd_ar (g m) t ∧ ∀ a, a < m → w a + rd_ar (g a) t = 0))
    (q + 1) 0 (lN (rd_E w (q + 1)), -1) (by omega) ⟨congrArg lN (rd_E_cg _ (fun a _ => (rd_wj_hi (Nat.zero_le a)).symm)), Or.inl ⟨rfl, fun a ha => absurd ha (by omega)⟩⟩ ?_ ?_
  · rintro f ⟨x3, x8⟩ ⟨h1, h2⟩
    dsimp only at h1 h2 ⊢
    have h1' : x3 = lN (rd_E (rd_w1 w g t) (q + 1)) := by
      rw [h1]
      exact congrArg lN (rd_E_cg _ (fun a ha => rd_wj_lo ha))
    subst h1'
    refine pk_lt q (q + 1) (fun _ => ?_) (fun z => absurd z (by omega))
    rcases h2 with ⟨e, h2⟩ | ⟨m, hm, e, h2, h3⟩
    · subst e
      exact br_f hm1 (Ha (fun i hi => h2 i (by omega)))
    · subst e
      exact br_t (nI_pos' (by omega)) (Hb m (by omega) h2 h3)
  · rintro f j ⟨x3, x8⟩ hj ⟨h1, h2⟩ hw
    dsimp only at h1 h2 hw ⊢
    subst h1
    have hV := rd_V_p (hg j (by omega))
    have hlt : ∀ i, i < n → g i < 32768 := fun i hi => (hg i hi).1
    have har := rd_ar_le (t := t) (hg j (by omega))
    have hbj := hb j (by omega)
    have hy : ∀ i, i ≤ q → rd_wj w g t j i < 32768 := by
      intro i hi
      have a := hb i hi
      have b := rd_ar_le (t := t) (hg i (by omega))
      unfold rd_wj
      split <;> omega
    have hyj : rd_wj w g t j j = w j := rd_wj_hi (Nat.le_refl j)
    have hE : rd_E (rd_up (rd_wj w g t j) j (rd_wj w g t j j + rd_ar (g j) t)) (q + 1) = rd_E (rd_wj w g t (j + 1)) (q + 1) := by
      refine rd_E_cg _ (fun a _ => ?_)
      by_cases e : a = j
      · rw [e, rd_us, hyj, rd_wj_lo (by omega)]
      · rw [rd_un e]
        by_cases e2 : a < j
        · rw [rd_wj_lo e2, rd_wj_lo (by omega)]
        · rw [rd_wj_hi (by omega), rd_wj_hi (by omega)]
    have key : wL_units_92 post J12 (wL_units_25 post J12 (lN (rd_E g n)) (nI q) x5 x6 (nI t) f) (lN (rd_E g n)) (nI q) x5 x6 (nI t) x8 (nI j) (lN (rd_ar (g j) t * 2 ^ (15 * j))) (lN (rd_E (rd_wj w g t j) (q + 1))) := by
      refine rd_u92 (by omega) (by omega) hy (by rw [hyj]; omega) (fun z => ?_) (fun z z2 => ?_) (fun z z2 => ?_)
      · rw [hE]
        refine hw (_, x8) ⟨rfl, ?_⟩
        rcases h2 with ⟨e, h2⟩ | ⟨m, hm, e, h2, h3⟩
        · rw [e] at z
          exact absurd z hm1
        · exact Or.inr ⟨m, by omega, e, h2, h3⟩
      · rw [hE]
        rw [hyj] at z2
        refine hw (_, x8) ⟨rfl, ?_⟩
        rcases h2 with ⟨e, h2⟩ | ⟨m, hm, e, h2, h3⟩
        · refine Or.inl ⟨e, fun a ha => ?_⟩
          by_cases ea : a = j
          · rw [ea]
            exact z2
          · exact h2 a (by omega)
        · exact Or.inr ⟨m, by omega, e, h2, h3⟩
      · rw [hE]
        rw [hyj] at z2
        refine hw (_, nI j) ⟨rfl, ?_⟩
        rcases h2 with ⟨e, h2⟩ | ⟨m, hm, e, h2, h3⟩
        · exact Or.inr ⟨j, by omega, rfl, z2, h2⟩
        · rw [e] at z
          exact absurd (nI_pos' (by omega)) z
    refine pk_lt q j (fun z => absurd z (by omega)) (fun _ => nm_r (e' := nI (g j)) (by rw [rd_get hn hlt (by omega), lN_i]) ?_)
    refine br_f (nI_nle (by omega) (by omega)) ?_
    have hs11 : nI (g j) >>> ((11 : Int32) &&& 31) = nI (rd_p (g j)) := pk_shrN (by omega) _ 11 (by decide)
    have hs3 : (nI (g j) >>> ((3 : Int32) &&& 31)) &&& 15 = nI (rd_c (g j)) := by
      rw [pk_shrN (by omega) _ 3 (by decide), pk_andN (by omega) 4 (by decide)]
      rfl
    rw [hs11]
    refine br_f (nI_nle (by omega) (by omega)) ⟨nI_ne0 (by omega) (by omega), ?_⟩
    rw [pk_rem (by omega) (by omega) (by omega), hs3, nI_l (by omega), rd_shl (by omega) (by omega)]
    refine pk_eq (t % rd_p (g j)) 0 (fun z => ?_) (fun z => ?_) rfl rfl (by have := Nat.mod_le t (rd_p (g j)); omega)
    · rw [show rd_c (g j) = rd_ar (g j) t from (if_pos z).symm]
      exact key
    · unfold wL_units_91
      rw [show rd_ar (g j) t = 0 from if_neg z, Nat.zero_mul, rd_lN0] at key
      exact key
/-- behind a unit: the turn's work is taken off, done and the answer are brought up to date -/
theorem rd_u162 {g : Nat → Nat} {n q t dn u : Nat} {x3 : Int64} {z0 z1 : Int32} (hn : n ≤ 4) (hq : q < n) (hg : ∀ i, i < n → rd_V (g i)) (hz : z1 + z0 = nI dn) (hd : dn ≤ 16) (hu : u ≤ 63)
    (H1 : u = 63 → dn = rd_c (g q) → J12 x3 (nI dn) (nI (t + 1)) (nI (t + 1)))
    (H2 : (u ≠ 63 ∨ dn ≠ rd_c (g q)) → J12 x3 (nI dn) (nI u) (nI (t + 1))) :
    wL_units_162 post J12 (lN (rd_E g n)) (nI q) x3 (nI u) (nI t) z0 z1 := by
  have hV := rd_V_p (hg q hq)
  unfold wL_units_162
  rw [hz, rd_get3 hn (fun i hi => (hg i hi).1) hq, lN_i]
  refine nm_e (pk_eq u 63 (fun z => ?_) (fun z => nm_r (nI_1 t) (H2 (Or.inl z))))
  exact pk_eq dn (rd_c (g q)) (fun y => nm_r (nI_1 t) (nm_r (nI_1 t) (H1 z y))) (fun y => nm_r (nI_1 t) (H2 (Or.inr y)))
end
theorem rd_units {post : Int32 → Prop} {g : Nat → Nat} {n q : Nat} (hn : n ≤ 4) (hq : q < n) (hg : ∀ i, i < n → rd_V (g i)) (H : ∀ u, rd_R (rd_f g q) u → post (nI u)) : wpL_units post () (lN (rd_E g n)) (nI q) := by
  have hg' : ∀ i, i ≤ q → rd_V (g i) := fun i hi => hg i (by omega)
  refine pk_loop (σ := Int64 × Int32 × Int32) (fun f i s => wL_units_12 post (lN (rd_E g n)) (nI q) f s.1 s.2.1 s.2.2 (nI i))
    (fun t s => ∃ w dn u, s = (lN (rd_E w (q + 1)), nI dn, nI u) ∧ rd_Q g q t w dn u) 16 0 (0, 0, 63) (by omega) ⟨fun _ => 0, 0, 63, by rw [rd_E_0]; rfl, rd_Q0 (hg q hq)⟩ ?_ ?_
  · rintro f s ⟨w, dn, u, rfl, h⟩
    exact pk_le 16 16 (fun _ => H u (rd_QR h)) (fun z => absurd z (by omega))
  · rintro f t s ht ⟨w, dn, u, rfl, h⟩ hw
    dsimp only
    have hb := h.1
    have hdn := h.2.1
    have hu : u ≤ 63 := by
      rcases h.2.2 with z | z
      · omega
      · omega
    refine pk_le 16 t (fun z => absurd z (by omega)) (fun _ => rd_u25 hn hq hg ht hb (fun h0 => ?_) (fun m hm hp h0 => ?_))
    · have hs := rd_stepA (w1 := rd_w1 w g t) hg' (fun _ _ => rfl) h h0
      unfold wL_units_147
      refine nm_r (Int64.sub_zero _) (br_f ?_ ?_)
      · intro e
        have h0' : 0 ≤ nI q := nI_pos' (by omega)
        rw [← e] at h0'
        exact absurd h0' (by decide)
      · refine rd_u162 hn hq hg (dn := dn) (by rw [Int32.add_zero]) (by omega) hu (fun z => absurd z (by omega)) (fun _ => ?_)
        exact hw (_, _, _) ⟨_, dn, u, rfl, hs.2⟩
    · have hE : lN (rd_E (rd_w1 w g t) (q + 1)) - ((1 : Int64) <<< ((15 * nI m).toInt64 &&& 63)) = lN (rd_E (rd_up (rd_w1 w g t) m (rd_w1 w g t m - 1)) (q + 1)) := by
        have e1 : (1 : Int64) <<< ((15 * nI m).toInt64 &&& 63) = lN (1 * 2 ^ (15 * m)) := rd_shl (a := 1) (by decide) (by omega)
        have e2 := rd_E_up (g := rd_up (rd_w1 w g t) m (rd_w1 w g t m - 1)) (j := m) (v := 1) (q + 1) (by omega)
        have e3 : rd_E (rd_up (rd_up (rd_w1 w g t) m (rd_w1 w g t m - 1)) m (rd_up (rd_w1 w g t) m (rd_w1 w g t m - 1) m + 1)) (q + 1) = rd_E (rd_w1 w g t) (q + 1) := by
          refine rd_E_cg _ (fun i _ => ?_)
          by_cases e : i = m
          · subst e
            have hp' : 0 < rd_w1 w g t i := hp
            rw [rd_us, rd_us]
            omega
          · rw [rd_un e, rd_un e]
        rw [e1, ← e3, e2, lN_sub (by omega)]
        exact congrArg lN (by omega)
      unfold wL_units_147
      refine nm_r hE (pk_eq m q (fun e => ?_) (fun e => ?_))
      · have hs := rd_stepB (w1 := rd_w1 w g t) (dn' := dn + 1) ht hg' (fun _ _ => rfl) h hm h0 hp (fun _ => rfl) (fun z => absurd e z)
        exact rd_u162 hn hq hg (dn := dn + 1) (nI_1 dn) (by omega) hu (fun z z2 => hw (_, _, _) ⟨_, dn + 1, t + 1, rfl, hs.1 z z2⟩) (fun z => hw (_, _, _) ⟨_, dn + 1, u, rfl, hs.2 z⟩)
      · have hs := rd_stepB (w1 := rd_w1 w g t) (dn' := dn) ht hg' (fun _ _ => rfl) h hm h0 hp (fun z => absurd z e) (fun _ => rfl)
        exact rd_u162 hn hq hg (dn := dn) (by rw [Int32.add_zero]) (by omega) hu (fun z z2 => hw (_, _, _) ⟨_, dn, t + 1, rfl, hs.1 z z2⟩) (fun z => hw (_, _, _) ⟨_, dn, u, rfl, hs.2 z⟩)
end
section
/-! ===== the law's moved ===== -/
/-- the row without its place a -/
def rd_del (g : Nat → Nat) (a : Nat) : Nat → Nat := fun j => if j < a then g j else g (j + 1)
/-- the row with v put at place b -/
def rd_ins (r : Nat → Nat) (b v : Nat) : Nat → Nat := fun j => if j < b then r j else if j = b then v else r (j - 1)
theorem rd_del_lo {g : Nat → Nat} {a j : Nat} (h : j < a) : rd_del g a j = g j := if_pos h
theorem rd_del_hi {g : Nat → Nat} {a j : Nat} (h : a ≤ j) : rd_del g a j = g (j + 1) := if_neg (by omega)
theorem rd_ins_lo {r : Nat → Nat} {b v j : Nat} (h : j < b) : rd_ins r b v j = r j := if_pos h
theorem rd_ins_eq {r : Nat → Nat} {b v : Nat} : rd_ins r b v b = v := by
  unfold rd_ins
  rw [if_neg (by omega), if_pos rfl]
theorem rd_ins_hi {r : Nat → Nat} {b v j : Nat} (h : b < j) : rd_ins r b v j = r (j - 1) := by
  unfold rd_ins
  rw [if_neg (by omega), if_neg (by omega)]
theorem rd_del_lt {g : Nat → Nat} {a n B : Nat} (hg : ∀ i, i < n → g i < B) : ∀ i, i < n - 1 → rd_del g a i < B := by
  intro i hi
  rcases Nat.lt_or_ge i a with z | z
  · rw [rd_del_lo z]
    exact hg i (by omega)
  · rw [rd_del_hi z]
    exact hg (i + 1) (by omega)
theorem rd_insE {r : Nat → Nat} {b v : Nat} (c : Nat) : rd_E (rd_ins r b v) (b + 1 + c) = rd_E r b + v * 2 ^ (15 * b) + rd_E (fun j => r (b + j)) c * 2 ^ (15 * (b + 1)) := by
  rw [rd_E_split c, rd_E_cg (h := fun j => r (b + j)) c (fun j _ => by rw [rd_ins_hi (by omega)]; exact congrArg r (by omega))]
  show rd_E (rd_ins r b v) b + rd_ins r b v b * 2 ^ (15 * b) + _ = _
  rw [rd_ins_eq, rd_E_cg (h := r) b (fun j hj => rd_ins_lo hj)]
/-- the word with a task put in -/
theorem rd_put {r : Nat → Nat} {n b v : Nat} (hn : n < 4) (hb : b ≤ n) (hr : ∀ i, i < n → r i < 32768) (hv : v < 32768) :
    ((lN (rd_E r n) &&& (((1 : Int64) <<< ((15 * nI b).toInt64 &&& 63)) - 1)) ||| (lN v <<< ((15 * nI b).toInt64 &&& 63))) ||| ((lN (rd_E r n) &&& ((((1 : Int64) <<< ((15 * nI b).toInt64 &&& 63)) - 1) ^^^ (-1))) <<< ((15 : Int32).toInt64 &&& 63)) = lN (rd_E (rd_ins r b v) (n + 1)) := by
  obtain ⟨c, rfl⟩ : ∃ c, n = b + c := ⟨n - b, by omega⟩
  have e1 : (1 : Int64) <<< ((15 * nI b).toInt64 &&& 63) = lN (1 * 2 ^ (15 * b)) := rd_shl (a := 1) (by decide) (by omega)
  have hp : 0 < 2 ^ (15 * b) := Nat.two_pow_pos _
  have e2 : lN (1 * 2 ^ (15 * b)) - 1 = lN (2 ^ (15 * b) - 1) := by
    rw [Nat.one_mul]
    exact lN_sub (b := 1) (by omega)
  have hlo := rd_E_lt b (fun i hi => hr i (by omega))
  have hhi := rd_E_lt (g := fun j => r (b + j)) c (fun i hi => hr (b + i) (by omega))
  have h60 := rd_E_60 (by omega) hr
  have hs := rd_E_split (g := r) (a := b) c
  have hmod : rd_E r (b + c) % 2 ^ (15 * b) = rd_E r b := by rw [hs, Nat.add_mul_mod_self_right, Nat.mod_eq_of_lt hlo]
  have hdiv : rd_E r (b + c) / 2 ^ (15 * b) = rd_E (fun j => r (b + j)) c := by rw [hs, Nat.add_mul_div_right _ _ hp, Nat.div_eq_of_lt hlo, Nat.zero_add]
  have hpw := rd_pw b
  have hlo2 : rd_E r b + v * 2 ^ (15 * b) < 2 ^ (15 * (b + 1)) := by
    have h4 : (v + 1) * 2 ^ (15 * b) ≤ 32768 * 2 ^ (15 * b) := Nat.mul_le_mul_right _ (by omega)
    rw [Nat.add_mul, Nat.one_mul] at h4
    omega
  have hi2 : rd_E (fun j => r (b + j)) c * 2 ^ (15 * b) * 2 ^ 15 = rd_E (fun j => r (b + j)) c * 2 ^ (15 * (b + 1)) := by
    rw [Nat.mul_assoc, ← Nat.pow_add]
    rfl
  have htot := rd_insE (r := r) (b := b) (v := v) c
  have htl : rd_E (rd_ins r b v) (b + 1 + c) < 2 ^ 60 := by
    refine rd_E_60 (by omega) (fun i hi => ?_)
    rcases Nat.lt_trichotomy i b with z | z | z
    · rw [rd_ins_lo z]
      exact hr i (by omega)
    · rw [z, rd_ins_eq]
      exact hv
    · rw [rd_ins_hi z]
      exact hr (i - 1) (by omega)
  rw [e1, e2, rd_mask (by omega) (by omega), rd_high, hmod, hdiv, rd_shl (by omega) (by omega), rd_or hlo (by omega), rd_shl15 (by omega), hi2, rd_or hlo2 (by omega), ← htot, show b + 1 + c = b + c + 1 by omega]
section
variable {post : Int64 → Prop} {g : Nat → Nat} {n a k : Nat} {x4 : Int32}
/-- the loop of moved: place a holds the task looked for -/
theorem rd_m12 (hn : n ≤ 4) (ha : a < n) (hg : ∀ i, i < n → g i < 32768) (hk : g a % 8 = k) (hinj : ∀ i, i < n → g i % 8 = k → i = a)
    (H1 : 0 ≤ x4 → wL_moved_127 post x4 (lN (rd_E (rd_del g a) (n - 1))) (lN (g a)) (((1 : Int64) <<< ((15 * x4).toInt64 &&& 63)) - 1))
    (H2 : ¬ 0 ≤ x4 → wL_moved_127 post x4 (lN (rd_E (rd_del g a) (n - 1))) (lN (g a)) (-1)) :
    wpL_moved post () (lN (rd_E g n)) (nI n) (nI k) x4 := by
  have L0 := pk_loop (σ := Unit) (fun f i _ => wL_moved_12 post (lN (rd_E g n)) (nI n) (nI k) x4 f (lN (rd_E (rd_del g a) (if a < i then i - 1 else i))) (lN (if a < i then g a else 0)) (nI (if a < i then i - 1 else i)) (nI i)) (fun _ _ => True) n 0 () (by omega) trivial ?_ ?_
  · exact L0
  · intro f _ _
    rw [if_pos ha, if_pos ha]
    exact pk_le n n (fun _ => br_c H1 H2) (fun z => absurd z (by omega))
  · intro f j _ hj _ hw
    have hw' := hw () trivial
    clear hw
    have hgj := hg j hj
    refine pk_le n j (fun z => absurd z (by omega)) (fun _ => nm_r (e' := lN (g j)) (rd_get hn hg hj) ?_)
    rw [rd_m3 (by omega), nI_l (by omega)]
    by_cases e : j = a
    · subst e
      refine br_t (by rw [hk]) ?_
      rw [if_pos (by omega), if_pos (by omega), show j + 1 - 1 = j by omega] at hw'
      rw [if_neg (by omega), if_neg (by omega)]
      unfold wL_moved_48
      refine br_f (by decide) ?_
      unfold wL_moved_62
      refine br_f (by decide) ?_
      unfold wL_moved_83
      exact nm_r (Int64.or_zero) (br_f (by decide) (nm_r (Int32.add_zero _) (nm_r (nI_1 j) hw')))
    · refine br_f (fun z => ?_) ?_
      · have hgj8 := Nat.mod_lt (g j) (show 0 < 8 by omega)
        have hk8 := Nat.mod_lt (g a) (show 0 < 8 by omega)
        exact e (hinj j hj ((pk_lEQ (by omega) (by omega)).mp z))
      · unfold wL_moved_48
        refine br_t rfl ?_
        unfold wL_moved_62
        refine br_t rfl ?_
        unfold wL_moved_83
        have hr : ∀ m, m ≤ n - 1 → rd_E (rd_del g a) m < 2 ^ (15 * m) := fun m hm => rd_E_lt m (fun i hi => rd_del_lt hg i (by omega))
        have hr2 : ∀ m, m ≤ n - 1 → rd_E (rd_del g a) m < 2 ^ 60 := fun m hm => rd_E_60 (by omega) (fun i hi => rd_del_lt hg i (by omega))
        rcases Nat.lt_or_ge a j with z | z
        · rw [if_pos (by omega), if_pos (by omega), show j + 1 - 1 = j - 1 + 1 by omega] at hw'
          rw [if_pos z, if_pos z, rd_shl (by omega) (by omega)]
          have e1 : rd_E (rd_del g a) (j - 1) + g j * 2 ^ (15 * (j - 1)) = rd_E (rd_del g a) (j - 1 + 1) := by
            show _ = rd_E (rd_del g a) (j - 1) + rd_del g a (j - 1) * 2 ^ (15 * (j - 1))
            rw [rd_del_hi (by omega), show j - 1 + 1 = j by omega]
          have h2 := hr2 (j - 1 + 1) (by omega)
          rw [rd_or (hr (j - 1) (by omega)) (by omega), e1]
          exact nm_e (br_t rfl (nm_r (nI_1 _) (nm_r (nI_1 j) hw')))
        · rw [if_neg (by omega), if_neg (by omega)] at hw'
          rw [if_neg (by omega), if_neg (by omega), rd_shl (by omega) (by omega)]
          have e1 : rd_E (rd_del g a) j + g j * 2 ^ (15 * j) = rd_E (rd_del g a) (j + 1) := by
            show _ = rd_E (rd_del g a) j + rd_del g a j * 2 ^ (15 * j)
            rw [rd_del_lo (by omega)]
          have h2 := hr2 (j + 1) (by omega)
          rw [rd_or (hr j (by omega)) (by omega), e1]
          exact nm_e (br_t rfl (nm_r (nI_1 _) (nm_r (nI_1 j) hw')))
theorem rd_moveTo {b : Nat} (hn : n ≤ 4) (ha : a < n) (hb : b < n) (hg : ∀ i, i < n → g i < 32768) (hk : g a % 8 = k) (hinj : ∀ i, i < n → g i % 8 = k → i = a) (H : post (lN (rd_E (rd_ins (rd_del g a) b (g a)) n))) : wpL_moved post () (lN (rd_E g n)) (nI n) (nI k) (nI b) := by
  have h0 : 0 ≤ nI b := nI_pos' (by omega)
  refine rd_m12 hn ha hg hk hinj (fun _ => br_t h0 ?_) (fun z => absurd h0 z)
  rw [rd_put (by omega) (by omega) (rd_del_lt hg) (hg a ha), show n - 1 + 1 = n by omega]
  exact H
theorem rd_moveOut (hn : n ≤ 4) (ha : a < n) (hg : ∀ i, i < n → g i < 32768) (hk : g a % 8 = k) (hinj : ∀ i, i < n → g i % 8 = k → i = a) (H : post (lN (rd_E (rd_del g a) (n - 1)))) : wpL_moved post () (lN (rd_E g n)) (nI n) (nI k) (-1) := by
  have h0 : ¬ (0 : Int32) ≤ -1 := by decide
  exact rd_m12 hn ha hg hk hinj (fun z => absurd z h0) (fun _ => br_f h0 H)
end
end
section
/-! ===== the picture of the class ===== -/
def rd_K (n : Nat) (g : Nat → Nat) (P : Nat) (a1 a2 a3 a4 : Nat → Int32) : Prop :=
  n ≤ 4 ∧ (∀ i, i < n → rd_V (g i)) ∧ (∀ i j, i < n → j < n → g i % 8 = g j % 8 → i = j) ∧
  (∀ i, i < n → a4 i = nI (g i % 8) ∧ a1 (g i % 8) = nI (rd_c (g i)) ∧ a2 (g i % 8) = nI (rd_d (g i)) ∧ a3 (g i % 8) = nI (rd_p (g i))) ∧
  P < 16 ∧ (∀ k, k < 5 → (rd_b P k = 1 ↔ ∃ i, i < n ∧ g i % 8 = k))
/-- the tasks above place m, as bits -/
def rd_U (g : Nat → Nat) : Nat → Nat
  | 0 => 0
  | m + 1 => rd_U g m ||| 2 ^ (g m % 8)
theorem rd_U_lt {g : Nat → Nat} : ∀ m, (∀ i, i < m → g i % 8 < 4) → rd_U g m < 16
  | 0, _ => (show 0 < 16 by decide)
  | m + 1, h => rd_orlt4 _ (rd_U_lt m (fun i hi => h i (by omega))) _ (h m (by omega))
theorem rd_U_b {g : Nat → Nat} {k : Nat} (hk : k < 5) : ∀ m, (∀ i, i < m → g i % 8 < 4) → (rd_b (rd_U g m) k = 1 ↔ ∃ i, i < m ∧ g i % 8 = k)
  | 0, _ => by
    constructor
    · intro z
      have : rd_b 0 k = 0 := by
        unfold rd_b
        rw [Nat.zero_div]
      exact absurd z (by rw [show rd_U g 0 = 0 from rfl, this]; decide)
    · rintro ⟨i, hi, _⟩
      exact absurd hi (by omega)
  | m + 1, h => by
    have ih := rd_U_b hk m (fun i hi => h i (by omega))
    have hl := rd_U_lt m (fun i hi => h i (by omega))
    have hm := h m (by omega)
    show rd_b (rd_U g m ||| 2 ^ (g m % 8)) k = 1 ↔ _
    rw [rd_b_or _ (by omega) _ (by omega) k hk]
    by_cases e : k = g m % 8
    · rw [if_pos e]
      exact ⟨fun _ => ⟨m, by omega, e.symm⟩, fun _ => rfl⟩
    · rw [if_neg e, ih]
      constructor
      · rintro ⟨i, hi, e2⟩
        exact ⟨i, by omega, e2⟩
      · rintro ⟨i, hi, e2⟩
        refine ⟨i, ?_, e2⟩
        by_cases ei : i = m
        · subst ei
          exact absurd e2.symm e
        · omega
/-- a sum over a set with one more member -/
theorem rd_sum1 {F : Nat → Nat} {S m : Nat} (hS : S < 32) (hm : m < 5) (h0 : rd_b S m ≠ 1) : rd_S (fun k => if rd_b (S ||| 2 ^ m) k = 1 then F k else 0) 5 = rd_S (fun k => if rd_b S k = 1 then F k else 0) 5 + F m := by
  have h := rd_S_up (h := fun k => if rd_b S k = 1 then F k else 0) (j := m) (v := F m) 5 hm
  rw [← h]
  refine rd_S_cg 5 (fun k hk => ?_)
  rw [rd_b_or S hS m hm k hk]
  by_cases e : k = m
  · subst e
    rw [rd_us, if_pos rfl, if_pos rfl]
    rw [if_neg h0, Nat.zero_add]
  · rw [rd_un e, if_neg e]
theorem rd_sumU {g F : Nat → Nat} : ∀ m, (∀ i, i < m → g i % 8 < 4) → (∀ i j, i < m → j < m → g i % 8 = g j % 8 → i = j) → rd_S (fun k => if rd_b (rd_U g m) k = 1 then F k else 0) 5 = rd_S (fun i => F (g i % 8)) m
  | 0, _, _ => by
    show rd_S (fun k => if rd_b 0 k = 1 then F k else 0) 5 = 0
    refine rd_S_0 5 (fun k _ => if_neg ?_)
    unfold rd_b
    rw [Nat.zero_div]
    decide
  | m + 1, h, hi => by
    have hl := rd_U_lt m (fun i hi => h i (by omega))
    have hm := h m (by omega)
    show rd_S (fun k => if rd_b (rd_U g m ||| 2 ^ (g m % 8)) k = 1 then F k else 0) 5 = rd_S (fun i => F (g i % 8)) m + F (g m % 8)
    rw [rd_sum1 (by omega) (by omega) (fun z => ?_), rd_sumU m (fun i hi => h i (by omega)) (fun i j a b => hi i j (by omega) (by omega))]
    obtain ⟨i, h1, h2⟩ := (rd_U_b (by omega) m (fun i hi => h i (by omega))).mp z
    have := hi i m (by omega) (by omega) h2
    omega
section
variable {n P : Nat} {g : Nat → Nat} {a1 a2 a3 a4 a5 a6 : Nat → Int32}
theorem rd_has {post : Int32 → Prop} {x : Int32} {k : Nat} (hP : P < 32) (hk : k < 5) (H0 : rd_b P k ≠ 1 → post 0) (H1 : rd_b P k = 1 → post 1) : wpX_has post (nI P, x, a1, a2, a3, a4, a5, a6) (nI k) := by
  have hb := rd_b_lt P k
  refine br_f (nI_pos (by omega)) (br_f (nI_ge (b := 5) hk (by decide)) ?_)
  rw [rd_bit P hP k hk]
  exact pk_eq (rd_b P k) 0 (fun z => H0 (by omega)) (fun z => H1 (by omega))
theorem rd_placeOf {post : Int32 → Prop} {x : Int32} {q : Nat} (hK : rd_K n g P a1 a2 a3 a4) (hq : q < n) (H : post (nI q)) : wpX_placeOf post (x, nI n, a1, a2, a3, a4, a5, a6) (nI (g q % 8)) := by
  obtain ⟨hn, hV, hinj, ha, _, _⟩ := hK
  have hc : nI n - 1 = nI (n - 1) := pk_sub (b := 1) (by omega)
  refine pk_loop (σ := Unit) (fun f i _ => wX_placeOf_2 post (nI (g q % 8)) x (nI n) a1 a2 a3 a4 a5 a6 f (nI i)) (fun _ _ => True) q 0 () (by omega) trivial ?_ ?_
  · intro f _ _
    refine pk_le (n - 1) q (fun _ => H) (fun z => ⟨pk_in q 5 (by omega), br_t ?_ H⟩) hc
    rw [nI_clamp (by omega), (ha q hq).1]
  · intro f i _ hi _ hw
    refine pk_le (n - 1) i (fun z => absurd z (by omega)) (fun z => ⟨pk_in i 5 (by omega), br_f ?_ (nm_r (nI_1 i) (hw () trivial))⟩) hc
    rw [nI_clamp (by omega), (ha i (by omega)).1]
    have h1 := Nat.mod_lt (g i) (show 0 < 8 by omega)
    have h2 := Nat.mod_lt (g q) (show 0 < 8 by omega)
    intro e
    have := hinj i q (by omega) hq ((nI_eq (by omega) (by omega)).mp e)
    omega
theorem rd_more {post : Int32 → Prop} {x : Int32} {q : Nat} (hK : rd_K n g P a1 a2 a3 a4) (hq : q < n) (H : post (nI (rd_U g q))) : wpX_moreUrgent post (x, nI n, a1, a2, a3, a4, a5, a6) (nI (g q % 8)) := by
  unfold wpX_moreUrgent
  dsimp only
  refine rd_placeOf hK hq ?_
  obtain ⟨hn, hV, hinj, ha, _, _⟩ := hK
  refine pk_loop (σ := Unit) (fun f i _ => wX_moreUrgent_11 post (nI q) x (nI n) a1 a2 a3 a4 a5 a6 f (nI (rd_U g i)) (nI i)) (fun _ _ => True) q 0 () (by omega) trivial ?_ ?_
  · intro f _ _
    exact pk_le q q (fun _ => H) (fun z => absurd z (by omega))
  · intro f i _ hi _ hw
    have h4 := (hV i (by omega)).2.1
    have hl := rd_U_lt i (fun j hj => (hV j (by omega)).2.1)
    refine pk_le q i (fun z => absurd z (by omega)) (fun z => ⟨pk_in i 5 (by omega), nm_r (e' := nI (rd_U g (i + 1))) ?_ (nm_r (nI_1 i) (hw () trivial))⟩)
    rw [nI_clamp (by omega), (ha i (by omega)).1]
    exact rd_or1 _ (by omega) _ (by omega)
/-- the work of a set, key by key -/
theorem rd_work0 {post : Int32 → Prop} {x y : Int32} {S t : Nat} {pe co : Nat → Nat} (hS : S < 32) (ht : t ≤ 15) (h : ∀ k, k < 5 → rd_b S k = 1 → a3 k = nI (pe k) ∧ a1 k = nI (co k) ∧ 1 ≤ pe k ∧ pe k ≤ 15 ∧ co k ≤ 15)
    (H : post (nI (rd_S (fun k => if rd_b S k = 1 then (t + pe k - 1) / pe k * co k else 0) 5))) : wpX_workIn post (x, y, a1, a2, a3, a4, a5, a6) (nI S) (nI t) := by
  refine pk_loop (σ := Unit) (fun f i _ => wX_workIn_5 post (nI S) (nI t) x y a1 a2 a3 a4 a5 a6 f (nI (rd_S (fun k => if rd_b S k = 1 then (t + pe k - 1) / pe k * co k else 0) i)) (nI i)) (fun _ _ => True) 5 0 () (by omega) trivial ?_ ?_
  · intro f _ _
    exact pk_le 5 5 (fun _ => H) (fun z => absurd z (by omega))
  · intro f k _ hk _ hw
    have hw' := hw () trivial
    clear hw
    have hb := rd_b_lt S k
    refine pk_le 5 k (fun z => absurd z (by omega)) (fun _ => ?_)
    unfold wpX_in
    rw [rd_bit S hS k hk]
    refine pk_eq (rd_b S k) 0 (fun z => br_t rfl (nm_r (nI_1 k) ?_)) (fun z => br_f (by decide) ⟨pk_in k 5 hk, ?_⟩)
    · have e : rd_S (fun k => if rd_b S k = 1 then (t + pe k - 1) / pe k * co k else 0) (k + 1) = rd_S (fun k => if rd_b S k = 1 then (t + pe k - 1) / pe k * co k else 0) k := by
        show _ + (if rd_b S k = 1 then (t + pe k - 1) / pe k * co k else 0) = _
        rw [if_neg (by omega), Nat.add_zero]
      rw [e] at hw'
      exact hw'
    · obtain ⟨h3, h1, hp1, hp2, hc⟩ := h k hk (by omega)
      rw [nI_clamp (by omega), h3]
      refine br_f (nI_nle (by omega) (by omega)) ⟨pk_in k 5 hk, ?_⟩
      unfold wX_workIn_41
      refine ⟨nI_ne0 (by omega) (by omega), pk_in k 5 hk, nm_r (e' := nI (rd_S (fun k => if rd_b S k = 1 then (t + pe k - 1) / pe k * co k else 0) (k + 1))) ?_ (nm_r (nI_1 k) hw')⟩
      rw [nI_clamp (by omega), h1, nI_add, show nI (t + pe k) - 1 = nI (t + pe k - 1) from pk_sub (b := 1) (by omega), pk_div (by omega) (by omega) (by omega), pk_mul, nI_add]
      refine congrArg nI ?_
      show _ = _ + (if rd_b S k = 1 then (t + pe k - 1) / pe k * co k else 0)
      rw [if_pos (by omega)]
theorem rd_work {post : Int32 → Prop} {x : Int32} {q t : Nat} (hK : rd_K n g P a1 a2 a3 a4) (hq : q ≤ n) (ht : t ≤ 15) (H : post (nI (rd_S (fun i => rd_A (g i) t) q))) : wpX_workIn post (x, nI n, a1, a2, a3, a4, a5, a6) (nI (rd_U g q)) (nI t) := by
  obtain ⟨hn, hV, hinj, ha, _, _⟩ := hK
  have h4 : ∀ i, i < q → g i % 8 < 4 := fun i hi => (hV i (by omega)).2.1
  have hl := rd_U_lt q h4
  refine rd_work0 (pe := fun k => (a3 k).toNatClampNeg) (co := fun k => (a1 k).toNatClampNeg) (by omega) ht (fun k hk hb => ?_) ?_
  · obtain ⟨i, hi, e⟩ := (rd_U_b hk q h4).mp hb
    have hv := rd_V_p (hV i (by omega))
    obtain ⟨_, h1, _, h3⟩ := ha i (by omega)
    rw [e] at h1 h3
    rw [h1, h3, nI_clamp (by omega), nI_clamp (by omega)]
    exact ⟨rfl, rfl, by omega, by omega, by omega⟩
  · have e := rd_sumU (F := fun k => (t + (a3 k).toNatClampNeg - 1) / (a3 k).toNatClampNeg * (a1 k).toNatClampNeg) q h4 (fun i j hi hj => hinj i j (by omega) (by omega))
    rw [e, rd_S_cg (h' := fun i => rd_A (g i) t) q (fun i hi => ?_)]
    · exact H
    · have hv := rd_V_p (hV i (by omega))
      obtain ⟨_, h1, _, h3⟩ := ha i (by omega)
      rw [h1, h3, nI_clamp (by omega), nI_clamp (by omega)]
      rfl
/-- the rounds: the least time that covers the work, or LATE -/
theorem rd_resp {post : Int32 → Prop} {x : Int32} {q : Nat} (hK : rd_K n g P a1 a2 a3 a4) (hq : q < n)
    (H1 : ∀ u, u ≤ rd_p (g q) → rd_f g q u ≤ u → (∀ s, s < u → s < rd_f g q s) → post (nI u))
    (H2 : (∀ s, s ≤ rd_p (g q) → s < rd_f g q s) → post (-3)) : wpX_responseUnder post (x, nI n, a1, a2, a3, a4, a5, a6) (nI (g q % 8)) (nI (rd_U g q)) := by
  have hK' := hK
  obtain ⟨hn, hV, hinj, ha, _, _⟩ := hK'
  have hv := rd_V_p (hV q hq)
  have h4 := (hV q hq).2.1
  obtain ⟨_, h1, _, h3⟩ := ha q hq
  have hcl : (nI (g q % 8)).toNatClampNeg = g q % 8 := nI_clamp (by omega)
  refine ⟨pk_in (g q % 8) 5 (by omega), nm_r (e' := nI (rd_c (g q))) (by rw [hcl, h1]) ?_⟩
  refine pk_loop (σ := Int32) (fun f i s => wX_responseUnder_10 post (nI (g q % 8)) (nI (rd_U g q)) x (nI n) a1 a2 a3 a4 a5 a6 f s (nI i)) (fun i s => ∃ u, s = nI u ∧ rd_I (rd_f g q) u ∧ u ≤ rd_p (g q) ∧ i + 1 ≤ u) 15 0 _ (by omega) ⟨rd_c (g q), rfl, rd_I0, by omega, by omega⟩ ?_ ?_
  · rintro f s ⟨u, rfl, _, hu, hi⟩
    omega
  · rintro f i s hi ⟨u, rfl, hI, hu, hui⟩ hw
    refine pk_lt 15 i (fun z => absurd z (by omega)) (fun _ => ⟨pk_in (g q % 8) 5 (by omega), ?_⟩)
    refine rd_work hK (by omega) (by omega) ?_
    have hS : rd_f g q u ≤ 4 * 225 + 15 := by
      have a := rd_S_le (h := fun i => rd_A (g i) u) (b := 225) q (fun j hj => ?_)
      · have b : q * 225 ≤ 4 * 225 := Nat.mul_le_mul_right _ (by omega)
        unfold rd_f
        omega
      · have hvj := rd_V_p (hV j (by omega))
        unfold rd_A
        have c : (u + rd_p (g j) - 1) / rd_p (g j) ≤ 15 := by
          rw [Nat.div_le_iff_le_mul (by omega)]
          have d : 15 * 1 ≤ 15 * rd_p (g j) := Nat.mul_le_mul_left _ (by omega)
          omega
        exact Nat.mul_le_mul c (show rd_c (g j) ≤ 15 by omega)
    refine nm_r (e' := nI (rd_f g q u)) (by rw [hcl, h1, nI_add]; rfl) ?_
    refine pk_eq (rd_f g q u) u (fun z => H1 u hu (by omega) hI.2) (fun z => ⟨pk_in (g q % 8) 5 (by omega), ?_⟩)
    rw [hcl, h3]
    refine pk_le (rd_f g q u) (rd_p (g q)) (fun y => nm_r (nI_1 i) (hw _ ⟨rd_f g q u, rfl, rd_I1 hI, y, ?_⟩)) (fun y => H2 (rd_I2 hI y))
    have := hI.1
    omega
theorem rd_inTU {post : Int32 → Prop} {x : Int32} {q : Nat} (hK : rd_K n g P a1 a2 a3 a4) (hq : q < n) (H1 : rd_ok g q → post 1) (H0 : ¬ rd_ok g q → post 0) : wpX_inTimeUnder post (x, nI n, a1, a2, a3, a4, a5, a6) (nI (g q % 8)) (nI (rd_U g q)) := by
  have hK' := hK
  obtain ⟨hn, hV, hinj, ha, _, _⟩ := hK'
  have hv := rd_V_p (hV q hq)
  have h4 := (hV q hq).2.1
  obtain ⟨_, _, h2, _⟩ := ha q hq
  unfold wpX_inTimeUnder
  dsimp only
  refine rd_resp hK hq (fun u hu hf hs => br_f (fun e => ?_) ⟨pk_in (g q % 8) 5 (by omega), ?_⟩) (fun hs => br_t rfl (H0 ?_))
  · have h0' : 0 ≤ nI u := nI_pos' (by omega)
    rw [e] at h0'
    exact absurd h0' (by decide)
  · rw [nI_clamp (by omega), h2]
    refine pk_lt (rd_d (g q)) u (fun z => H0 ?_) (fun z => H1 ⟨u, z, hf⟩)
    rintro ⟨y, hy, hy2⟩
    have := hs y (by omega)
    omega
  · rintro ⟨y, hy, hy2⟩
    have := hs y (by omega)
    omega
theorem rd_response {post : Int32 → Prop} {q u : Nat} (hK : rd_K n g P a1 a2 a3 a4) (hq : q < n) (hR : rd_R (rd_f g q) u) (H1 : u ≤ rd_p (g q) → post (nI u)) (H2 : rd_p (g q) < u → post (-3)) : wpX_response post (nI P, nI n, a1, a2, a3, a4, a5, a6) (nI (g q % 8)) := by
  have hK' := hK
  obtain ⟨hn, hV, hinj, ha, hP, hPb⟩ := hK'
  have hv := rd_V_p (hV q hq)
  have h4 := (hV q hq).2.1
  unfold wpX_response
  dsimp only
  refine rd_has (by omega) (by omega) (fun z => absurd ((hPb _ (by omega)).mpr ⟨q, hq, rfl⟩) z) (fun _ => br_f (by decide) ?_)
  refine rd_more hK hq ?_
  refine rd_resp hK hq (fun v hv1 hv2 hv3 => ?_) (fun hs => H2 (rd_R_gt hR (by omega) hs))
  have e := rd_R_eq hR (by omega) hv2 hv3
  subst e
  exact H1 hv1
theorem rd_at {post : Int32 → Prop} {x : Int32} {q : Nat} (hK : rd_K n g P a1 a2 a3 a4) (hq : q < n) (H : post (nI (g q % 8))) : wpX_at post (x, nI n, a1, a2, a3, a4, a5, a6) (nI q) := by
  obtain ⟨hn, hV, hinj, ha, hP, hPb⟩ := hK
  refine br_f (nI_pos (by omega)) (br_t (nI_lt hq (by omega)) ⟨pk_in q 5 (by omega), ?_⟩)
  rw [nI_clamp (by omega), (ha q hq).1]
  exact H
/-- the bits of the tasks in time -/
theorem rd_inTime {post : Int32 → Prop} (hK : rd_K n g P a1 a2 a3 a4) (H : ∀ M, M < 32 → (∀ k, k < 5 → (rd_b M k = 1 ↔ ∃ i, i < n ∧ g i % 8 = k ∧ rd_ok g i)) → post (nI M)) : wpX_inTime post (nI P, nI n, a1, a2, a3, a4, a5, a6) := by
  have hK' := hK
  obtain ⟨hn, hV, hinj, ha, hP, hPb⟩ := hK'
  have hb0 : ∀ k, rd_b 0 k = 0 := fun k => by
    unfold rd_b
    rw [Nat.zero_div]
  refine pk_loop (σ := Int32) (fun f i s => wX_inTime_4 post (nI P) (nI n) a1 a2 a3 a4 a5 a6 f s (nI i)) (fun j s => ∃ M, s = nI M ∧ M < 32 ∧ ∀ k, k < 5 → (rd_b M k = 1 ↔ k < j ∧ ∃ i, i < n ∧ g i % 8 = k ∧ rd_ok g i)) 5 0 _ (by omega) ⟨0, rfl, by omega, fun k _ => ⟨fun z => absurd z (by rw [hb0]; decide), fun z => absurd z.1 (by omega)⟩⟩ ?_ ?_
  · rintro f s ⟨M, rfl, hM, hMb⟩
    exact pk_le 5 5 (fun _ => H M hM (fun k hk => by rw [hMb k hk]; exact ⟨fun z => z.2, fun z => ⟨hk, z⟩⟩)) (fun z => absurd z (by omega))
  · rintro f j s hj ⟨M, rfl, hM, hMb⟩ hw
    have no : (¬ ∃ i, i < n ∧ g i % 8 = j ∧ rd_ok g i) → ∃ M', nI M = nI M' ∧ M' < 32 ∧ ∀ k, k < 5 → (rd_b M' k = 1 ↔ k < j + 1 ∧ ∃ i, i < n ∧ g i % 8 = k ∧ rd_ok g i) := by
      intro hno
      refine ⟨M, rfl, hM, fun k hk => ?_⟩
      rw [hMb k hk]
      constructor
      · rintro ⟨a, b⟩
        exact ⟨by omega, b⟩
      · rintro ⟨a, b⟩
        refine ⟨?_, b⟩
        by_cases e : k = j
        · subst e
          exact absurd b hno
        · omega
    refine pk_le 5 j (fun z => absurd z (by omega)) (fun _ => ?_)
    refine rd_has (by omega) hj (fun z => br_t rfl (nm_r (nI_1 j) (hw _ (no ?_)))) (fun z => br_f (by decide) ?_)
    · rintro ⟨i, hi, e, _⟩
      exact z ((hPb j hj).mpr ⟨i, hi, e⟩)
    · obtain ⟨q, hq, e⟩ := (hPb j hj).mp z
      subst e
      refine rd_more hK hq ?_
      refine rd_inTU hK hq (fun hok => br_f (by decide) (nm_r (rd_or1 M hM _ hj) (nm_r (nI_1 _) (hw _ ⟨_, rfl, rd_orlt M hM _ hj, fun k hk => ?_⟩)))) (fun hok => br_t rfl (nm_r Int32.or_zero (nm_r (nI_1 _) (hw _ (no ?_)))))
      · rw [rd_b_or M hM _ hj k hk]
        by_cases e : k = g q % 8
        · rw [if_pos e]
          exact ⟨fun _ => ⟨by omega, q, hq, e.symm, hok⟩, fun _ => rfl⟩
        · rw [if_neg e, hMb k hk]
          exact ⟨fun z => ⟨by omega, z.2⟩, fun z => ⟨by omega, z.2⟩⟩
      · rintro ⟨i, hi, e, ok⟩
        have := hinj i q hi hq e
        subst this
        exact hok ok
end
end
section
/-! ===== add, remove, place ===== -/
section
variable {n P : Nat} {g : Nat → Nat} {a1 a2 a3 a4 a5 a6 : Nat → Int32}
theorem rd_code {k c d p : Nat} (hk : k < 4) (h1 : 1 ≤ c) (h2 : c ≤ d) (h3 : d ≤ p) (h4 : p ≤ 15) : rd_V (k + 8 * c + 128 * d + 2048 * p) ∧ (k + 8 * c + 128 * d + 2048 * p) % 8 = k ∧ rd_c (k + 8 * c + 128 * d + 2048 * p) = c ∧ rd_d (k + 8 * c + 128 * d + 2048 * p) = d ∧ rd_p (k + 8 * c + 128 * d + 2048 * p) = p := by
  have b1 : (k + 8 * c + 128 * d + 2048 * p) / 8 = c + 16 * d + 256 * p := by omega
  have b2 : (k + 8 * c + 128 * d + 2048 * p) / 128 = d + 16 * p := by omega
  have b3 : (k + 8 * c + 128 * d + 2048 * p) / 2048 = p := by omega
  have b4 : (k + 8 * c + 128 * d + 2048 * p) % 8 = k := by omega
  have c3 : rd_c (k + 8 * c + 128 * d + 2048 * p) = c := by
    unfold rd_c
    rw [b1]
    omega
  have c4 : rd_d (k + 8 * c + 128 * d + 2048 * p) = d := by
    unfold rd_d
    rw [b2]
    omega
  refine ⟨⟨by omega, by omega, ?_, ?_, ?_⟩, b4, c3, c4, b3⟩
  · rw [c3]
    exact h1
  · rw [c3, c4]
    exact h2
  · rw [c4]
    unfold rd_p
    rw [b3]
    exact h3
theorem rd_K_add {k c d p : Nat} (hK : rd_K n g P a1 a2 a3 a4) (hn : n < 4) (hk : k < 4) (hb : rd_b P k ≠ 1) (h1 : 1 ≤ c) (h2 : c ≤ d) (h3 : d ≤ p) (h4 : p ≤ 15) :
    rd_K (n + 1) (rd_up g n (k + 8 * c + 128 * d + 2048 * p)) (P ||| 2 ^ k) (upd a1 k (nI c)) (upd a2 k (nI d)) (upd a3 k (nI p)) (upd a4 n (nI k)) := by
  obtain ⟨_, hV, hinj, ha, hP, hPb⟩ := hK
  obtain ⟨c1, c2, c3, c4, c5⟩ := rd_code hk h1 h2 h3 h4
  have hne : ∀ i, i < n → g i % 8 ≠ k := fun i hi e => hb ((hPb k (by omega)).mpr ⟨i, hi, e⟩)
  revert c1 c2 c3 c4 c5
  generalize k + 8 * c + 128 * d + 2048 * p = v
  intro c1 c2 c3 c4 c5
  refine ⟨by omega, fun i hi => ?_, fun i j hi hj e => ?_, fun i hi => ?_, rd_orlt4 P hP k hk, fun m hm => ?_⟩
  · by_cases ei : i = n
    · subst ei
      rw [rd_us]
      exact c1
    · rw [rd_un ei]
      exact hV i (by omega)
  · by_cases ei : i = n
    · by_cases ej : j = n
      · rw [ei, ej]
      · subst ei
        rw [rd_us, rd_un ej, c2] at e
        exact absurd e.symm (hne j (by omega))
    · by_cases ej : j = n
      · subst ej
        rw [rd_us, rd_un ei, c2] at e
        exact absurd e (hne i (by omega))
      · rw [rd_un ei, rd_un ej] at e
        exact hinj i j (by omega) (by omega) e
  · by_cases ei : i = n
    · subst ei
      rw [rd_us, c2, c3, c4, c5]
      exact ⟨pk_us, pk_us, pk_us, pk_us⟩
    · rw [rd_un ei, pk_un ei, pk_un (hne i (by omega)), pk_un (hne i (by omega)), pk_un (hne i (by omega))]
      exact ha i (by omega)
  · rw [rd_b_or P (by omega) k (by omega) m hm]
    by_cases e : m = k
    · subst e
      rw [if_pos rfl]
      exact ⟨fun _ => ⟨n, by omega, by rw [rd_us]; exact c2⟩, fun _ => rfl⟩
    · rw [if_neg e, hPb m hm]
      constructor
      · rintro ⟨i, hi, e2⟩
        exact ⟨i, by omega, by rw [rd_un (by omega)]; exact e2⟩
      · rintro ⟨i, hi, e2⟩
        by_cases ei : i = n
        · subst ei
          rw [rd_us, c2] at e2
          exact absurd e2.symm e
        · rw [rd_un ei] at e2
          exact ⟨i, by omega, e2⟩
theorem rd_addBad {post : Int32 → St1 → Prop} {u : St1} {c d p : Nat} (hc : 1 ≤ c) (hd : d < 1000) (hc2 : c < 1000) (hp : p < 1000) (h : ¬ (c ≤ d ∧ p ≤ 15)) (hdp : d ≤ p) (H : post (-1) u) : wpX_add post u (nI c) (nI d) (nI p) := by
  obtain ⟨f1, f2, b1, b2, b3, b4, b5, b6⟩ := u
  refine pk_lt c 1 (fun z => absurd z (by omega)) (fun _ => pk_lt d c (fun _ => br_t rfl H) (fun z => pk_lt p d (fun z => absurd z (by omega)) (fun _ => pk_lt 15 p (fun _ => br_t rfl H) (fun y => absurd ⟨z, y⟩ h))))
theorem rd_add {post : Int32 → St1 → Prop} {k c d p : Nat} (hK : rd_K n g P a1 a2 a3 a4) (hn : n < 4) (hk : k < 4) (hb : rd_b P k ≠ 1) (hlow : ∀ j, j < k → rd_b P j = 1) (h1 : 1 ≤ c) (h2 : c ≤ d) (h3 : d ≤ p) (h4 : p ≤ 15)
    (H : ∀ b1 b2 b3 b4, rd_K (n + 1) (rd_up g n (k + 8 * c + 128 * d + 2048 * p)) (P ||| 2 ^ k) b1 b2 b3 b4 → post (nI k) (nI (P ||| 2 ^ k), nI (n + 1), b1, b2, b3, b4, a5, a6)) : wpX_add post (nI P, nI n, a1, a2, a3, a4, a5, a6) (nI c) (nI d) (nI p) := by
  have hN := rd_K_add hK hn hk hb h1 h2 h3 h4
  have hP := hK.2.2.2.2.1
  refine pk_lt c 1 (fun z => absurd z (by omega)) (fun _ => pk_lt d c (fun z => absurd z (by omega)) (fun _ => pk_lt p d (fun z => absurd z (by omega)) (fun _ => pk_lt 15 p (fun z => absurd z (by omega)) (fun _ => br_f (by decide) ?_))))
  refine pk_loop (σ := Unit) (fun f i _ => wX_add_14 post (nI c) (nI d) (nI p) (nI P) (nI n) a1 a2 a3 a4 a5 a6 f (nI i)) (fun _ _ => True) k 0 () (by omega) trivial ?_ ?_
  · intro f _ _
    refine pk_le 5 k (fun z => absurd z (by omega)) (fun _ => rd_has (by omega) (by omega) (fun _ => br_t rfl ?_) (fun z => absurd z hb))
    refine nm_r (rd_or1 P (by omega) k (by omega)) ⟨pk_in k 5 (by omega), nm_r (e' := upd a1 k (nI c)) (by rw [nI_clamp (by omega), rd_by c (by omega)]) ⟨pk_in k 5 (by omega), nm_r (e' := upd a2 k (nI d)) (by rw [nI_clamp (by omega), rd_by d (by omega)]) ⟨pk_in k 5 (by omega), nm_r (e' := upd a3 k (nI p)) (by rw [nI_clamp (by omega), rd_by p (by omega)]) ⟨pk_in n 5 (by omega), nm_r (e' := upd a4 n (nI k)) (by rw [nI_clamp (by omega), rd_by k (by omega)]) (nm_r (nI_1 n) (H _ _ _ _ hN))⟩⟩⟩⟩
  · intro f i _ hi _ hw
    exact pk_le 5 i (fun z => absurd z (by omega)) (fun _ => rd_has (by omega) (by omega) (fun z => absurd (hlow i hi) z) (fun _ => br_f (by decide) (nm_r (nI_1 i) (hw () trivial))))
/-! where a place of the new row stood -/
def rd_sd (q j : Nat) : Nat := if j < q then j else j + 1
def rd_si (q b j : Nat) : Nat := if j < b then rd_sd q j else if j = b then q else rd_sd q (j - 1)
theorem rd_del_sd (q j : Nat) : rd_del g q j = g (rd_sd q j) := by
  unfold rd_del rd_sd
  split <;> rfl
theorem rd_ins_si (q b j : Nat) : rd_ins (rd_del g q) b (g q) j = g (rd_si q b j) := by
  unfold rd_ins rd_si
  by_cases h : j < b
  · rw [if_pos h, if_pos h, rd_del_sd]
  · by_cases h2 : j = b
    · rw [if_neg h, if_neg h, if_pos h2, if_pos h2]
    · rw [if_neg h, if_neg h, if_neg h2, if_neg h2, rd_del_sd]
theorem rd_K_perm {n' P' : Nat} {g' s : Nat → Nat} {b4 : Nat → Int32} (hK : rd_K n g P a1 a2 a3 a4) (hn : n' ≤ 4) (hs : ∀ i, i < n' → s i < n) (hi : ∀ i j, i < n' → j < n' → s i = s j → i = j) (hg : ∀ i, i < n' → g' i = g (s i)) (h4 : ∀ i, i < n' → b4 i = a4 (s i)) (hP : P' < 16) (hb : ∀ k, k < 5 → (rd_b P' k = 1 ↔ ∃ i, i < n' ∧ g (s i) % 8 = k)) : rd_K n' g' P' a1 a2 a3 b4 := by
  obtain ⟨_, hV, hinj, ha, _, _⟩ := hK
  refine ⟨hn, fun i z => ?_, fun i j z y e => ?_, fun i z => ?_, hP, fun k hk => ?_⟩
  · rw [hg i z]
    exact hV _ (hs i z)
  · rw [hg i z, hg j y] at e
    exact hi i j z y (hinj _ _ (hs i z) (hs j y) e)
  · rw [hg i z, h4 i z]
    exact ha _ (hs i z)
  · rw [hb k hk]
    constructor
    · rintro ⟨i, z, e⟩
      exact ⟨i, z, by rw [hg i z]; exact e⟩
    · rintro ⟨i, z, e⟩
      exact ⟨i, z, by rw [← hg i z]; exact e⟩
theorem rd_K_del {q : Nat} {b4 : Nat → Int32} (hK : rd_K n g P a1 a2 a3 a4) (hq : q < n) (h4 : ∀ j, j < n - 1 → b4 j = a4 (rd_sd q j)) : rd_K (n - 1) (rd_del g q) (P &&& (31 - 2 ^ (g q % 8))) a1 a2 a3 b4 := by
  have hK' := hK
  obtain ⟨hn, hV, hinj, ha, hP, hPb⟩ := hK'
  have hk4 := (hV q hq).2.1
  refine rd_K_perm (s := rd_sd q) hK (by omega) (fun i hi => ?_) (fun i j hi hj e => ?_) (fun i _ => rd_del_sd q i) h4 (rd_clrlt P hP _ hk4) (fun k hk => ?_)
  · unfold rd_sd
    split <;> omega
  · unfold rd_sd at e
    split at e <;> split at e <;> omega
  · rw [rd_b_clr P hP _ hk4 k hk]
    by_cases e : k = g q % 8
    · rw [if_pos e]
      refine ⟨fun z => absurd z (by decide), ?_⟩
      rintro ⟨i, hi, e2⟩
      exfalso
      have h2 : rd_sd q i < n ∧ rd_sd q i ≠ q := by
        unfold rd_sd
        split <;> omega
      exact h2.2 (hinj _ _ h2.1 hq (by rw [e2, e]))
    · rw [if_neg e, hPb k hk]
      constructor
      · rintro ⟨i, hi, e2⟩
        have hne : i ≠ q := fun z => e (by rw [← e2, z])
        refine ⟨if i < q then i else i - 1, by split <;> omega, ?_⟩
        have : rd_sd q (if i < q then i else i - 1) = i := by
          unfold rd_sd
          by_cases z : i < q
          · rw [if_pos z, if_pos z]
          · rw [if_neg z, if_neg (by omega)]
            omega
        rw [this]
        exact e2
      · rintro ⟨i, hi, e2⟩
        refine ⟨rd_sd q i, ?_, e2⟩
        unfold rd_sd
        split <;> omega
theorem rd_si_lt {q b j : Nat} (hq : q < n) (hb : b < n) (hj : j < n) : rd_si q b j < n := by
  unfold rd_si rd_sd
  split
  · split <;> omega
  · split
    · omega
    · split <;> omega
theorem rd_si_inj {q b i j : Nat} (e : rd_si q b i = rd_si q b j) : i = j := by
  unfold rd_si rd_sd at e
  repeat' split at e
  all_goals omega
theorem rd_si_sur {q b i : Nat} (hq : q < n) (hb : b < n) (hi : i < n) : ∃ j, j < n ∧ rd_si q b j = i := by
  by_cases e : i = q
  · refine ⟨b, hb, ?_⟩
    unfold rd_si
    rw [if_neg (by omega), if_pos rfl, e]
  · by_cases z : i < q
    · by_cases y : i < b
      · refine ⟨i, hi, ?_⟩
        unfold rd_si rd_sd
        rw [if_pos y, if_pos z]
      · refine ⟨i + 1, by omega, ?_⟩
        unfold rd_si rd_sd
        rw [if_neg (by omega), if_neg (by omega), if_pos (by omega)]
        omega
    · by_cases y : i - 1 < b
      · refine ⟨i - 1, by omega, ?_⟩
        unfold rd_si rd_sd
        rw [if_pos y, if_neg (by omega)]
        omega
      · refine ⟨i, hi, ?_⟩
        unfold rd_si rd_sd
        rw [if_neg (by omega), if_neg (by omega), if_neg (by omega)]
        omega
theorem rd_K_move {q b : Nat} {b4 : Nat → Int32} (hK : rd_K n g P a1 a2 a3 a4) (hq : q < n) (hb : b < n) (h4 : ∀ j, j < n → b4 j = a4 (rd_si q b j)) : rd_K n (rd_ins (rd_del g q) b (g q)) P a1 a2 a3 b4 := by
  have hK' := hK
  obtain ⟨hn, hV, hinj, ha, hP, hPb⟩ := hK'
  refine rd_K_perm (s := rd_si q b) hK hn (fun i hi => rd_si_lt hq hb hi) (fun i j _ _ e => rd_si_inj e) (fun i _ => rd_ins_si q b i) h4 hP (fun k hk => ?_)
  rw [hPb k hk]
  constructor
  · rintro ⟨i, hi, e⟩
    obtain ⟨j, hj, ej⟩ := rd_si_sur hq hb hi
    exact ⟨j, hj, by rw [ej]; exact e⟩
  · rintro ⟨j, hj, e⟩
    exact ⟨_, rd_si_lt hq hb hj, e⟩
theorem rd_remove0 {post : Int32 → St1 → Prop} {x : Int32} {k : Nat} (hP : P < 32) (hk : k < 5) (hb : rd_b P k ≠ 1) (H : post 0 (nI P, x, a1, a2, a3, a4, a5, a6)) : wpX_remove post (nI P, x, a1, a2, a3, a4, a5, a6) (nI k) := by
  unfold wpX_remove
  dsimp only
  exact rd_has hP hk (fun _ => br_t rfl H) (fun z => absurd z hb)
theorem rd_place0 {post : Int32 → St1 → Prop} {k b : Nat} (hP : P < 32) (hk : k < 5) (hb5 : b < 5) (hn : n ≤ 4) (hb : ¬ (rd_b P k = 1 ∧ b < n)) (H : post 0 (nI P, nI n, a1, a2, a3, a4, a5, a6)) : wpX_place post (nI P, nI n, a1, a2, a3, a4, a5, a6) (nI k) (nI b) := by
  unfold wpX_place
  dsimp only
  refine rd_has hP hk (fun _ => br_t rfl H) (fun z => br_f (by decide) (br_f (nI_pos (by omega)) ?_))
  exact pk_lt b n (fun y => absurd ⟨z, y⟩ hb) (fun _ => H)
theorem rd_a4 {i : Nat} (hK : rd_K n g P a1 a2 a3 a4) (hi : i < n) : vp_nar .byte (a4 i) = a4 i := by
  have h4 := (hK.2.1 i hi).2.1
  rw [(hK.2.2.2.1 i hi).1]
  exact rd_nb _ (by omega)
theorem rd_shiftL {s : Nat → Int32} {q i : Nat} (hqi : q ≤ i) (h : ∀ j, j < n → s j = if q ≤ j ∧ j < i then a4 (j + 1) else a4 j) : ∀ j, j < n → upd s i (a4 (i + 1)) j = if q ≤ j ∧ j < i + 1 then a4 (j + 1) else a4 j := by
  intro j hj
  by_cases e : j = i
  · subst e
    rw [pk_us, if_pos (by omega)]
  · rw [pk_un e, h j hj]
    by_cases z : q ≤ j ∧ j < i
    · rw [if_pos z, if_pos (by omega)]
    · rw [if_neg z, if_neg (by omega)]
theorem rd_remove1 {post : Int32 → St1 → Prop} {q : Nat} (hK : rd_K n g P a1 a2 a3 a4) (hq : q < n) (H : ∀ b4, rd_K (n - 1) (rd_del g q) (P &&& (31 - 2 ^ (g q % 8))) a1 a2 a3 b4 → post 1 (nI (P &&& (31 - 2 ^ (g q % 8))), nI (n - 1), a1, a2, a3, b4, a5, a6)) : wpX_remove post (nI P, nI n, a1, a2, a3, a4, a5, a6) (nI (g q % 8)) := by
  have hK' := hK
  obtain ⟨hn, hV, hinj, ha, hP, hPb⟩ := hK'
  have hk4 := (hV q hq).2.1
  unfold wpX_remove
  dsimp only
  refine rd_has (by omega) (by omega) (fun z => absurd ((hPb _ (by omega)).mpr ⟨q, hq, rfl⟩) z) (fun _ => br_f (by decide) ?_)
  refine rd_placeOf hK hq (nm_r (e' := nI (n - 1)) (pk_sub (b := 1) (by omega)) ?_)
  refine pk_loop (fun f i s => wX_remove_28 post (nI (g q % 8)) (nI P) (nI (n - 1)) f (nI i) a1 a2 a3 s a5 a6) (fun i s => q ≤ i ∧ ∀ j, j < n → s j = if q ≤ j ∧ j < i then a4 (j + 1) else a4 j) (n - 1) q a4 (by omega) ⟨Nat.le_refl q, fun j _ => (if_neg (by omega)).symm⟩ ?_ ?_
  · rintro f s ⟨_, h⟩
    refine pk_le (n - 1) (n - 1) (fun _ => nm_r (rd_clr P hP _ hk4) (H s (rd_K_del hK hq (fun j hj => ?_)))) (fun z => absurd z (by omega))
    rw [h j (by omega)]
    unfold rd_sd
    by_cases z : j < q
    · rw [if_neg (by omega), if_pos z]
    · rw [if_pos (by omega), if_neg z]
  · rintro f i s hi ⟨hqi, h⟩ hw
    have hs : s (i + 1) = a4 (i + 1) := by rw [h (i + 1) (by omega), if_neg (by omega)]
    refine pk_le (n - 1) i (fun z => absurd z (by omega)) (fun _ => ⟨pk_in (i + 1) 5 (by omega) (nI_1 i), pk_in i 5 (by omega), nm_r (e' := upd s i (a4 (i + 1))) ?_ (nm_r (nI_1 i) (hw _ ⟨by omega, fun j hj => ?_⟩))⟩)
    · rw [nI_1, nI_clamp (by omega), nI_clamp (by omega), hs, rd_a4 hK (by omega)]
    · exact rd_shiftL hqi h j hj
theorem rd_place1 {post : Int32 → St1 → Prop} {q b : Nat} (hK : rd_K n g P a1 a2 a3 a4) (hq : q < n) (hb : b < n) (H : ∀ b4, rd_K n (rd_ins (rd_del g q) b (g q)) P a1 a2 a3 b4 → post 1 (nI P, nI n, a1, a2, a3, b4, a5, a6)) : wpX_place post (nI P, nI n, a1, a2, a3, a4, a5, a6) (nI (g q % 8)) (nI b) := by
  have hK' := hK
  obtain ⟨hn, hV, hinj, ha, hP, hPb⟩ := hK'
  have hk4 := (hV q hq).2.1
  have hby : (nI (g q % 8)).toInt8.toInt32 = a4 q := by rw [rd_by _ (by omega), (ha q hq).1]
  unfold wpX_place
  dsimp only
  refine rd_has (by omega) (by omega) (fun z => absurd ((hPb _ (by omega)).mpr ⟨q, hq, rfl⟩) z) (fun _ => br_f (by decide) (br_f (nI_pos (by omega)) (br_t (nI_lt hb (by omega)) ?_)))
  refine rd_placeOf hK hq ?_
  -- the last store
  have fin : ∀ f s, (∀ j, j < n → upd s b (a4 q) j = a4 (rd_si q b j)) → wX_place_53 post (nI (g q % 8)) (nI b) (nI P) (nI n) (f + 1) (nI b) a1 a2 a3 s a5 a6 := by
    intro f s h
    refine pk_le b b (fun _ => ⟨pk_in b 5 (by omega), nm_r (e' := upd s b (a4 q)) ?_ (H _ (rd_K_move hK hq hb h))⟩) (fun z => absurd z (by omega))
    rw [nI_clamp (by omega), hby]
  rcases Nat.lt_or_ge b q with hbq | hbq
  · -- down
    refine ⟨1, pk_le b q (fun _ => ?_) (fun z => absurd z (by omega))⟩
    refine pk_loop (fun f c s => wX_place_53 post (nI (g q % 8)) (nI b) (nI P) (nI n) f (nI (q - c)) a1 a2 a3 s a5 a6) (fun c s => ∀ j, j < n → s j = if q - c < j ∧ j ≤ q then a4 (j - 1) else a4 j) (q - b) 0 a4 (by omega) (fun j _ => (if_neg (by omega)).symm) ?_ ?_
    · intro f s h
      rw [show q - (q - b) = b by omega] at h ⊢
      refine fin f s (fun j hj => ?_)
      unfold rd_si rd_sd
      by_cases e : j = b
      · subst e
        rw [pk_us, if_neg (by omega), if_pos rfl]
      · rw [pk_un e, h j hj]
        by_cases z : j < b
        · rw [if_neg (by omega), if_pos z, if_pos (by omega)]
        · by_cases y : j ≤ q
          · rw [if_pos (by omega), if_neg z, if_neg e, if_pos (by omega)]
          · rw [if_neg (by omega), if_neg z, if_neg e, if_neg (by omega), show j - 1 + 1 = j by omega]
    · intro f c s hc h hw
      have hs : s (q - c - 1) = a4 (q - c - 1) := by rw [h _ (by omega), if_neg (by omega)]
      have e1 : nI (q - c) - 1 = nI (q - c - 1) := pk_sub (b := 1) (by omega)
      have e2 : nI (q - c) + (-1) = nI (q - (c + 1)) := by
        rw [show q - c = q - (c + 1) + 1 by omega]
        exact pk_m1 _
      refine pk_le (q - c) b (fun z => absurd z (by omega)) (fun _ => ⟨pk_in (q - c - 1) 5 (by omega) e1, pk_in (q - c) 5 (by omega), nm_r (e' := upd s (q - c) (a4 (q - c - 1))) ?_ (nm_r e2 (hw _ (fun j hj => ?_)))⟩)
      · rw [e1, nI_clamp (by omega), nI_clamp (by omega), hs, rd_a4 hK (by omega)]
      · by_cases e : j = q - c
        · subst e
          rw [pk_us, if_pos (by omega)]
        · rw [pk_un e, h j hj]
          by_cases z : q - c < j ∧ j ≤ q
          · rw [if_pos z, if_pos (by omega)]
          · rw [if_neg z, if_neg (by omega)]
  · -- up
    refine pk_loop (fun f i s => wX_place_28 post (nI (g q % 8)) (nI b) (nI P) (nI n) f (nI i) a1 a2 a3 s a5 a6) (fun i s => q ≤ i ∧ ∀ j, j < n → s j = if q ≤ j ∧ j < i then a4 (j + 1) else a4 j) b q a4 hbq ⟨Nat.le_refl q, fun j _ => (if_neg (by omega)).symm⟩ ?_ ?_
    · rintro f s ⟨_, h⟩
      refine pk_le b b (fun _ => ⟨1, fin 0 s (fun j hj => ?_)⟩) (fun z => absurd z (by omega))
      unfold rd_si rd_sd
      by_cases e : j = b
      · subst e
        rw [pk_us, if_neg (by omega), if_pos rfl]
      · rw [pk_un e, h j hj]
        by_cases z : j < b
        · by_cases y : j < q
          · rw [if_neg (by omega), if_pos z, if_pos y]
          · rw [if_pos (by omega), if_pos z, if_neg y]
        · rw [if_neg (by omega), if_neg z, if_neg e, if_neg (by omega), show j - 1 + 1 = j by omega]
    · rintro f i s hi ⟨hqi, h⟩ hw
      have hs : s (i + 1) = a4 (i + 1) := by rw [h (i + 1) (by omega), if_neg (by omega)]
      refine pk_le b i (fun z => absurd z (by omega)) (fun _ => ⟨pk_in (i + 1) 5 (by omega) (nI_1 i), pk_in i 5 (by omega), nm_r (e' := upd s i (a4 (i + 1))) ?_ (nm_r (nI_1 i) (hw _ ⟨by omega, fun j hj => ?_⟩))⟩)
      · rw [nI_1, nI_clamp (by omega), nI_clamp (by omega), hs, rd_a4 hK (by omega)]
      · exact rd_shiftL hqi h j hj
end
end
section
/-! ===== the law's loops ===== -/
section
variable {post : Int32 → Prop} {L : Nat} {xs : Nat → Int32} {J : Int64 → Int32 → Int32 → Int32 → Int32 → Int32 → (Nat → Int32) → (Nat → Int32) → (Nat → Int32) → (Nat → Int32) → (Nat → Int32) → (Nat → Int32) → Prop} {x6 : Int32} {kc ks : Nat}
variable {n P : Nat} {g : Nat → Nat} {a1 a2 a3 a4 a5 a6 : Nat → Int32}
theorem rd_R63 {f : Nat → Nat} {u : Nat} (h : rd_R f u) : u ≤ 63 := by
  rcases h with h | h
  · omega
  · omega
/-- one task's checks -/
theorem rd_506 {J447 : Int32 → Int32 → Prop} {z0 z1 : Int32} {j u M : Nat} (hK : rd_K n g P a1 a2 a3 a4) (hj : j < n) (hR : rd_R (rd_f g j) u) (hz : z1 ||| z0 = nI M) (H : J447 (nI M) (nI (j + 1))) :
    wL_law_506 post L xs J J447 (lN (rd_E g n)) (nI n) (nI P) x6 (nI j) (nI (g j)) (nI (g j % 8)) (nI u) z0 z1 kc ks (nI P) (nI n) a1 a2 a3 a4 a5 a6 := by
  have hv := rd_V_p (hK.2.1 j hj)
  have hu := rd_R63 hR
  have hn := hK.1
  have hs11 : nI (g j) >>> ((11 : Int32) &&& 31) = nI (rd_p (g j)) := pk_shrN (by omega) _ 11 (by decide)
  unfold wL_law_506
  rw [hz, hs11]
  refine nm_e (rd_at hK hj (br_t rfl ?_))
  refine rd_response hK hj hR (fun z => br_t (nI_le z (by omega)) ?_) (fun z => br_f (nI_ge z (by omega)) ?_)
  · exact br_t rfl (nm_r (nI_1 j) H)
  · exact br_t rfl (nm_r (nI_1 j) H)
/-- all the checks of a turn -/
theorem rd_447 (hK : rd_K n g P a1 a2 a3 a4) (H : J (lN (rd_E g n)) (nI n) (nI P) (x6 + 4) (nI P) (nI n) a1 a2 a3 a4 a5 a6) :
    ∃ fu, wL_law_447 post L xs J (lN (rd_E g n)) (nI n) (nI P) x6 kc ks (nI P) (nI n) a1 a2 a3 a4 a5 a6 fu 0 0 := by
  have hK' := hK
  obtain ⟨hn, hV, hinj, ha, hP, hPb⟩ := hK'
  have hlt : ∀ i, i < n → g i < 32768 := fun i hi => (hV i hi).1
  have hb0 : ∀ k, rd_b 0 k = 0 := fun k => by
    unfold rd_b
    rw [Nat.zero_div]
  refine pk_loop (σ := Int32) (fun f j s => wL_law_447 post L xs J (lN (rd_E g n)) (nI n) (nI P) x6 kc ks (nI P) (nI n) a1 a2 a3 a4 a5 a6 f s (nI j)) (fun j s => ∃ M, s = nI M ∧ M < 32 ∧ ∀ k, k < 5 → (rd_b M k = 1 ↔ ∃ i, i < j ∧ g i % 8 = k ∧ rd_ok g i)) n 0 _ (by omega) ⟨0, rfl, by omega, fun k _ => ⟨fun z => absurd z (by rw [hb0]; decide), fun ⟨i, hi, _⟩ => absurd hi (by omega)⟩⟩ ?_ ?_
  · rintro f s ⟨M, rfl, hM, hMb⟩
    refine pk_le n n (fun _ => br_t rfl ?_) (fun z => absurd z (by omega))
    refine rd_inTime hK (fun M1 hM1 hb1 => ?_)
    have e1 : M1 = M := rd_ext hM1 hM (fun k hk => by rw [hb1 k hk, hMb k hk])
    subst e1
    refine br_t rfl ?_
    unfold wpX_good
    dsimp only
    refine rd_inTime hK (fun M2 hM2 hb2 => ?_)
    have e2 : M2 = M1 := rd_ext hM2 hM1 (fun k hk => by rw [hb2 k hk, hb1 k hk])
    subst e2
    refine pk_eq M2 P (fun e => br_t (congrArg nI e) (br_t rfl (nm_e H))) (fun e => br_f (fun z => e ((nI_eq (by omega) (by omega)).mp z)) (br_t rfl (nm_e H)))
  · rintro f j s hj ⟨M, rfl, hM, hMb⟩ hw
    have hVj := hV j hj
    have hv := rd_V_p hVj
    have h4 := hVj.2.1
    have hs7 : (nI (g j) >>> ((7 : Int32) &&& 31)) &&& 15 = nI (rd_d (g j)) := by
      rw [pk_shrN (by omega) _ 7 (by decide), pk_andN (by omega) 4 (by decide)]
      rfl
    have hs0 : nI (g j) &&& 7 = nI (g j % 8) := pk_andN (by omega) 3 (by decide)
    refine pk_le n j (fun z => absurd z (by omega)) (fun _ => nm_r (e' := nI (g j)) (by rw [rd_get hn hlt hj, lN_i]) (nm_r hs0 ?_))
    rw [hs7]
    refine rd_units hn hj hV (fun u hR => ?_)
    have hu := rd_R63 hR
    have hok := rd_R_ok hVj hR
    refine pk_lt (rd_d (g j)) u (fun z => rd_506 (M := M) hK hj hR Int32.or_zero (hw _ ⟨M, rfl, hM, fun k hk => ?_⟩)) (fun z => rd_506 (M := M ||| 2 ^ (g j % 8)) hK hj hR (rd_or1 M hM _ (by omega)) (hw _ ⟨_, rfl, rd_orlt M hM _ (by omega), fun k hk => ?_⟩))
    · rw [hMb k hk]
      constructor
      · rintro ⟨i, hi, e⟩
        exact ⟨i, by omega, e⟩
      · rintro ⟨i, hi, e, ok⟩
        refine ⟨i, ?_, e, ok⟩
        by_cases ei : i = j
        · subst ei
          exact absurd (hok.mpr ok) (by omega)
        · omega
    · rw [rd_b_or M hM _ (by omega) k hk]
      by_cases e : k = g j % 8
      · rw [if_pos e]
        exact ⟨fun _ => ⟨j, by omega, e.symm, hok.mp z⟩, fun _ => rfl⟩
      · rw [if_neg e, hMb k hk]
        constructor
        · rintro ⟨i, hi, y⟩
          exact ⟨i, by omega, y⟩
        · rintro ⟨i, hi, y⟩
          refine ⟨i, ?_, y⟩
          by_cases ei : i = j
          · subst ei
            exact absurd y.1.symm e
          · omega
/-! ===== moves ===== -/
theorem rd_359no {x11 x12 x14 : Int32} (hK : rd_K n g P a1 a2 a3 a4) (H : J (lN (rd_E g n)) (nI n) (nI P) (x6 + 4) (nI P) (nI n) a1 a2 a3 a4 a5 a6) :
    wL_law_359 post L xs J (lN (rd_E g n)) (nI n) (nI P) x6 x11 x12 x14 0 0 kc ks (nI P) (nI n) a1 a2 a3 a4 a5 a6 := by
  unfold wL_law_359
  refine br_t rfl (br_t rfl ?_)
  unfold wL_law_394
  refine br_t rfl ?_
  unfold wL_law_411 wL_law_412
  exact nm_r (Int32.sub_zero _) (br_t rfl (nm_r (rd_15 P hK.2.2.2.2.1) (rd_447 hK H)))
theorem rd_335rem {x12 : Int32} {k : Nat} (HJ : ∀ n g P b1 b2 b3 b4, rd_K n g P b1 b2 b3 b4 → J (lN (rd_E g n)) (nI n) (nI P) (x6 + 4) (nI P) (nI n) b1 b2 b3 b4 a5 a6) (hK : rd_K n g P a1 a2 a3 a4) (hk : k < 5) :
    wL_law_335 post L xs J (lN (rd_E g n)) (nI n) (nI P) x6 (nI k) x12 0 (nI (rd_b P k)) kc ks (nI P) (nI n) a1 a2 a3 a4 a5 a6 := by
  have hK' := hK
  obtain ⟨hn, hV, hinj, ha, hP, hPb⟩ := hK'
  have hb2 := rd_b_lt P k
  unfold wL_law_335
  refine br_t rfl ?_
  by_cases hb : rd_b P k = 1
  · obtain ⟨q, hq, e⟩ := (hPb k hk).mp hb
    have hV4 := (hV q hq).2.1
    subst e
    rw [hb]
    refine rd_remove1 hK hq (fun b4 hN => ?_)
    dsimp only
    unfold wL_law_359
    refine br_t rfl (br_f (by decide) (br_t rfl ?_))
    unfold wL_law_387
    refine rd_moveOut hn hq (fun i hi => (hV i hi).1) rfl (fun i hi e => hinj i q hi hq e) ?_
    unfold wL_law_394
    refine br_f (by decide) (br_t rfl ?_)
    unfold wL_law_412
    exact nm_r (e' := nI (n - 1)) (pk_sub (b := 1) (by omega)) (br_f (by decide) (br_t rfl (nm_r (rd_clr P hP _ hV4) (rd_447 hN (HJ _ _ _ _ _ _ _ hN)))))
  · rw [show rd_b P k = 0 by omega]
    refine rd_remove0 (by omega) hk hb ?_
    exact rd_359no hK (HJ _ _ _ _ _ _ _ hK)
theorem rd_335mov {z : Int32} {k b : Nat} (HJ : ∀ n g P b1 b2 b3 b4, rd_K n g P b1 b2 b3 b4 → J (lN (rd_E g n)) (nI n) (nI P) (x6 + 4) (nI P) (nI n) b1 b2 b3 b4 a5 a6) (hK : rd_K n g P a1 a2 a3 a4) (hk : k < 5) (hb5 : b < 5) (h1 : rd_b P k = 1 ∧ b < n → z = 1) (h0 : ¬ (rd_b P k = 1 ∧ b < n) → z = 0) :
    wL_law_335 post L xs J (lN (rd_E g n)) (nI n) (nI P) x6 (nI k) (nI b) 1 z kc ks (nI P) (nI n) a1 a2 a3 a4 a5 a6 := by
  have hK' := hK
  obtain ⟨hn, hV, hinj, ha, hP, hPb⟩ := hK'
  unfold wL_law_335
  refine br_f (by decide) ?_
  by_cases hb : rd_b P k = 1 ∧ b < n
  · rw [h1 hb]
    obtain ⟨q, hq, e⟩ := (hPb k hk).mp hb.1
    have hV4 := (hV q hq).2.1
    subst e
    refine rd_place1 hK hq hb.2 (fun b4 hN => ?_)
    dsimp only
    unfold wL_law_359
    refine br_t rfl (br_f (by decide) (br_f (by decide) ?_))
    unfold wL_law_387
    refine rd_moveTo hn hq hb.2 (fun i hi => (hV i hi).1) rfl (fun i hi e => hinj i q hi hq e) ?_
    unfold wL_law_394
    refine br_f (by decide) (br_f (by decide) ?_)
    unfold wL_law_411 wL_law_412
    exact nm_r (Int32.sub_zero _) (br_f (by decide) (br_f (by decide) (nm_r (rd_15 P hP) (rd_447 hN (HJ _ _ _ _ _ _ _ hN)))))
  · rw [h0 hb]
    refine rd_place0 (by omega) hk hb5 hn hb ?_
    exact rd_359no hK (HJ _ _ _ _ _ _ _ hK)
theorem rd_299 {op k b : Nat} (HJ : ∀ n g P b1 b2 b3 b4, rd_K n g P b1 b2 b3 b4 → J (lN (rd_E g n)) (nI n) (nI P) (x6 + 4) (nI P) (nI n) b1 b2 b3 b4 a5 a6) (hK : rd_K n g P a1 a2 a3 a4) (hop : op < 8) (hk : k < 5) (hb5 : b < 5) :
    wL_law_299 post L xs J (lN (rd_E g n)) (nI n) (nI P) x6 (nI op) (nI k) (nI b) (nI (rd_b P k)) kc ks (nI P) (nI n) a1 a2 a3 a4 a5 a6 := by
  have hn := hK.1
  have hb2 := rd_b_lt P k
  unfold wL_law_299
  refine pk_lt 6 op (fun _ => ?_) (fun _ => ?_)
  · have key := rd_335rem (post := post) (L := L) (xs := xs) (kc := kc) (ks := ks) (x12 := nI b) HJ hK hk
    unfold wL_law_311 wL_law_334 wL_law_330
    refine pk_eq (rd_b P k) 0 (fun z => ?_) (fun z => br_t rfl ?_)
    · rw [z] at key
      exact key
    · have e : rd_b P k = 1 := by omega
      rw [e] at key
      exact key
  · unfold wL_law_311 wL_law_334 wL_law_330
    refine pk_eq (rd_b P k) 0 (fun z => ?_) (fun z => br_f (by decide) (pk_le n b (fun y => ?_) (fun y => ?_)))
    · exact rd_335mov HJ hK hk hb5 (fun h => absurd h.1 (by omega)) (fun _ => rfl)
    · exact rd_335mov HJ hK hk hb5 (fun h => absurd h.2 (by omega)) (fun _ => rfl)
    · exact rd_335mov HJ hK hk hb5 (fun _ => rfl) (fun h => absurd (show rd_b P k = 1 ∧ b < n from ⟨by omega, y⟩) h)
/-! ===== adds ===== -/
theorem rd_194bad {free : Int32} {c d p : Nat} (HJ : ∀ n g P b1 b2 b3 b4, rd_K n g P b1 b2 b3 b4 → J (lN (rd_E g n)) (nI n) (nI P) (x6 + 4) (nI P) (nI n) b1 b2 b3 b4 a5 a6) (hK : rd_K n g P a1 a2 a3 a4) (h1 : 1 ≤ c) (hc : c ≤ 5) (hd : d ≤ 20) (hp : p ≤ 40) (hdp : d ≤ p) (hf : ¬ (c ≤ d ∧ p ≤ 15)) :
    wL_law_194 post L xs J (lN (rd_E g n)) (nI n) (nI P) x6 (nI d) (nI p) (nI c) 0 free kc ks (nI P) (nI n) a1 a2 a3 a4 a5 a6 := by
  unfold wL_law_194
  refine rd_addBad h1 (by omega) (by omega) (by omega) hf hdp ?_
  dsimp only
  refine br_t rfl ?_
  unfold wL_law_217
  refine br_t rfl (br_t rfl ?_)
  unfold wL_law_261
  refine nm_r Int64.or_zero (br_t rfl ?_)
  unfold wL_law_278
  exact nm_r Int32.or_zero (br_t rfl (nm_r (Int32.add_zero _) (rd_447 hK (HJ _ _ _ _ _ _ _ hK))))
theorem rd_194ok {k c d p : Nat} (HJ : ∀ n g P b1 b2 b3 b4, rd_K n g P b1 b2 b3 b4 → J (lN (rd_E g n)) (nI n) (nI P) (x6 + 4) (nI P) (nI n) b1 b2 b3 b4 a5 a6) (hK : rd_K n g P a1 a2 a3 a4) (hn4 : n < 4) (hk : k < 4) (hb : rd_b P k ≠ 1) (hlow : ∀ j, j < k → rd_b P j = 1) (h1 : 1 ≤ c) (h2 : c ≤ d) (h3 : d ≤ p) (h4 : p ≤ 15) :
    wL_law_194 post L xs J (lN (rd_E g n)) (nI n) (nI P) x6 (nI d) (nI p) (nI c) 1 (nI k) kc ks (nI P) (nI n) a1 a2 a3 a4 a5 a6 := by
  have hK' := hK
  obtain ⟨hn, hV, hinj, ha, hP, hPb⟩ := hK'
  have hlt : ∀ i, i < n → g i < 32768 := fun i hi => (hV i hi).1
  unfold wL_law_194
  refine rd_add hK hn4 hk hb hlow h1 h2 h3 h4 (fun b1 b2 b3 b4 hN => ?_)
  have hvl : k + 8 * c + 128 * d + 2048 * p < 32768 := by omega
  have hE : rd_E g n + (k + 8 * c + 128 * d + 2048 * p) * 2 ^ (15 * n) = rd_E (rd_up g n (k + 8 * c + 128 * d + 2048 * p)) (n + 1) := by
    show _ = rd_E (rd_up g n (k + 8 * c + 128 * d + 2048 * p)) n + rd_up g n (k + 8 * c + 128 * d + 2048 * p) n * 2 ^ (15 * n)
    rw [rd_us, rd_E_cg (h := g) n (fun i hi => rd_un (by omega))]
  have h60 : rd_E (rd_up g n (k + 8 * c + 128 * d + 2048 * p)) (n + 1) < 2 ^ 60 := rd_E_60 (by omega) (fun i hi => (hN.2.1 i hi).1)
  dsimp only
  refine br_f (by decide) ?_
  unfold wL_law_217
  refine br_t rfl (br_f (by decide) ?_)
  have e1 : ((nI k + 8 * nI c) + 128 * nI d) + 2048 * nI p = nI (k + 8 * c + 128 * d + 2048 * p) := by
    rw [show (8 : Int32) * nI c = nI (8 * c) from pk_mul 8 c, show (128 : Int32) * nI d = nI (128 * d) from pk_mul 128 d, show (2048 : Int32) * nI p = nI (2048 * p) from pk_mul 2048 p, nI_add, nI_add, nI_add]
  rw [e1, nI_l (by omega), rd_shl (by omega) hn4]
  unfold wL_law_261
  refine nm_r (e' := lN (rd_E (rd_up g n (k + 8 * c + 128 * d + 2048 * p)) (n + 1))) (by rw [rd_or (rd_E_lt n hlt) (by omega), hE]) (br_f (by decide) ?_)
  unfold wL_law_278
  exact nm_r (rd_or1 P (by omega) k (by omega)) (br_f (by decide) (nm_r (nI_1 n) (rd_447 hN (HJ _ _ _ _ _ _ _ hN))))
theorem rd_free (hK : rd_K n g P a1 a2 a3 a4) (hn : n < 4) (h0 : rd_b P 0 = 1) (h1 : rd_b P 1 = 1) (h2 : rd_b P 2 = 1) : rd_b P 3 ≠ 1 := by
  intro h3
  obtain ⟨_, hV, hinj, ha, hP, hPb⟩ := hK
  obtain ⟨i0, l0, e0⟩ := (hPb 0 (by omega)).mp h0
  obtain ⟨i1, l1, e1⟩ := (hPb 1 (by omega)).mp h1
  obtain ⟨i2, l2, e2⟩ := (hPb 2 (by omega)).mp h2
  obtain ⟨i3, l3, e3⟩ := (hPb 3 (by omega)).mp h3
  have n01 : i0 ≠ i1 := fun z => by rw [z, e1] at e0; omega
  have n02 : i0 ≠ i2 := fun z => by rw [z, e2] at e0; omega
  have n03 : i0 ≠ i3 := fun z => by rw [z, e3] at e0; omega
  have n12 : i1 ≠ i2 := fun z => by rw [z, e2] at e1; omega
  have n13 : i1 ≠ i3 := fun z => by rw [z, e3] at e1; omega
  have n23 : i2 ≠ i3 := fun z => by rw [z, e3] at e2; omega
  omega
theorem rd_t0 : ∀ P, P < 16 → nI P &&& 1 = nI (rd_b P 0) := by decide +kernel
theorem rd_t1 : ∀ P, P < 16 → nI P &&& 2 = nI (2 * rd_b P 1) := by decide +kernel
theorem rd_t2 : ∀ P, P < 16 → nI P &&& 4 = nI (4 * rd_b P 2) := by decide +kernel
theorem rd_158 {x14 x15 x16 z : Int32} (hK : rd_K n g P a1 a2 a3 a4) (hn : n < 4) (C : ∀ k, k < 4 → rd_b P k ≠ 1 → (∀ j, j < k → rd_b P j = 1) → wL_law_194 post L xs J (lN (rd_E g n)) (nI n) (nI P) x6 x14 x15 x16 z (nI k) kc ks (nI P) (nI n) a1 a2 a3 a4 a5 a6) :
    wL_law_158 post L xs J (lN (rd_E g n)) (nI n) (nI P) x6 x14 x15 x16 z kc ks (nI P) (nI n) a1 a2 a3 a4 a5 a6 := by
  have hP := hK.2.2.2.2.1
  have b0 := rd_b_lt P 0
  have b1 := rd_b_lt P 1
  have b2 := rd_b_lt P 2
  unfold wL_law_158
  rw [rd_t0 P hP, rd_t1 P hP, rd_t2 P hP]
  refine pk_eq (rd_b P 0) 0 (fun y0 => C 0 (by omega) (by omega) (fun j hj => absurd hj (by omega))) (fun y0 => pk_eq (2 * rd_b P 1) 0 (fun y1 => C 1 (by omega) (by omega) (fun j hj => ?_)) (fun y1 => pk_eq (4 * rd_b P 2) 0 (fun y2 => C 2 (by omega) (by omega) (fun j hj => ?_)) (fun y2 => C 3 (by omega) (rd_free hK hn (by omega) (by omega) (by omega)) (fun j hj => ?_))))
  · have : j = 0 := by omega
    subst this
    omega
  · have : j = 0 ∨ j = 1 := by omega
    rcases this with rfl | rfl <;> omega
  · have : j = 0 ∨ j = 1 ∨ j = 2 := by omega
    rcases this with rfl | rfl | rfl <;> omega
theorem rd_100 {op a b c k to : Nat} (HJ : ∀ n g P b1 b2 b3 b4, rd_K n g P b1 b2 b3 b4 → J (lN (rd_E g n)) (nI n) (nI P) (x6 + 4) (nI P) (nI n) b1 b2 b3 b4 a5 a6) (hK : rd_K n g P a1 a2 a3 a4) (hop : op < 8) (ha : a < 16) (hb : b < 16) (hc : c < 60) (hk : k < 5) (hto : to < 5) :
    wL_law_100 post L xs J (lN (rd_E g n)) (nI n) (nI P) x6 (nI op) (nI a) (nI b) (nI c) (nI k) (nI to) (nI (rd_b P k)) kc ks (nI P) (nI n) a1 a2 a3 a4 a5 a6 := by
  have hn := hK.1
  unfold wL_law_100
  refine pk_lt 3 op (fun _ => rd_299 HJ hK hop hk hto) (fun _ => pk_le 4 n (fun _ => rd_299 HJ hK hop hk hto) (fun hn4 => ⟨by decide, ?_⟩))
  refine nm_r (e' := nI (4 + a / 2)) (by rw [show nI a / 2 = nI (a / 2) from pk_div (d := 2) (by omega) (by omega) (by omega)]; exact nI_add 4 (a / 2)) ⟨by decide, ?_⟩
  refine nm_r (e' := nI (4 + a / 2 + b / 3)) (by rw [show nI b / 3 = nI (b / 3) from pk_div (d := 3) (by omega) (by omega) (by omega), nI_add]) ⟨by decide, ?_⟩
  refine nm_r (e' := nI (1 + c % 5)) (by rw [show nI c - nI c / 5 * 5 = nI (c % 5) from pk_rem (d := 5) (by omega) (by omega) (by omega)]; exact nI_add 1 (c % 5)) ?_
  refine pk_lt (4 + a / 2) (1 + c % 5) (fun y => ?_) (fun y => pk_lt 15 (4 + a / 2 + b / 3) (fun y2 => ?_) (fun y2 => ?_))
  · unfold wL_law_157
    exact rd_158 hK hn4 (fun _ _ _ _ => rd_194bad HJ hK (by omega) (by omega) (by omega) (by omega) (by omega) (by omega))
  · unfold wL_law_157
    exact rd_158 hK hn4 (fun _ _ _ _ => rd_194bad HJ hK (by omega) (by omega) (by omega) (by omega) (by omega) (by omega))
  · exact rd_158 hK hn4 (fun k' hk' hb' hl' => rd_194ok HJ hK hn4 hk' hb' hl' (by omega) (by omega) (by omega) (by omega))
end
theorem rd_pick {post : Int32 → Prop} {L : Nat} {xs : Nat → Int32} {i m : Nat} {p1 p2 : Int32} (e1 : p1 = nI i) (e2 : p2 = nI m) (hL : L ≤ 260) (hi : i < 1000) (hm : 0 < m) (hm2 : m < 100) (H : ∀ r, r < m → post (nI r)) : wpL_pick post L xs () p1 p2 := by
  subst e1 e2
  have hp : ∀ c : Int32, post ((c &&& 2147483647) - (c &&& 2147483647) / nI m * nI m) := by
    intro c
    obtain ⟨j, hj, e⟩ := pk_andE c (m := 2147483647) 31 (by decide)
    rw [e, pk_rem hj hm (by omega)]
    exact H _ (Nat.mod_lt _ hm)
  have hne : ¬ nI m = 0 := nI_ne0 hm (by omega)
  exact pk_le L i (fun _ => ⟨hne, hp 0⟩) (fun z => ⟨pk_in i L z, nm_e ⟨hne, hp _⟩⟩)
theorem rd_19 {xs : Nat → Int32} {L kc ks : Nat} {a5 a6 : Nat → Int32} (hL : L ≤ 260) : ∀ c i, L ≤ i + 4 * c → i + 4 * c < 900 → ∀ n g P a1 a2 a3 a4, rd_K n g P a1 a2 a3 a4 → wL_law_19 (fun r => r = 1) L xs kc ks (c + 1) (lN (rd_E g n)) (nI n) (nI P) (nI i) (nI P) (nI n) a1 a2 a3 a4 a5 a6
  | 0, i, h, h9, n, g, P, a1, a2, a3, a4, hK => pk_le L i (fun _ => rfl) (fun z => absurd z (by omega))
  | c + 1, i, h, h9, n, g, P, a1, a2, a3, a4, hK => by
    have hP := hK.2.2.2.2.1
    refine pk_le L i (fun _ => rfl) (fun z => ?_)
    refine rd_pick (i := i) (m := 8) rfl rfl hL (by omega) (by omega) (by omega) (fun op hop => ?_)
    refine rd_pick (i := i + 1) (m := 16) (nI_add i 1) rfl hL (by omega) (by omega) (by omega) (fun a ha => ?_)
    refine rd_pick (i := i + 2) (m := 16) (nI_add i 2) rfl hL (by omega) (by omega) (by omega) (fun b hb => ?_)
    refine rd_pick (i := i + 3) (m := 60) (nI_add i 3) rfl hL (by omega) (by omega) (by omega) (fun d hd => ?_)
    have ea : nI a - nI a / 5 * 5 = nI (a % 5) := pk_rem (d := 5) (by omega) (by omega) (by omega)
    have eb : nI b - nI b / 5 * 5 = nI (b % 5) := pk_rem (d := 5) (by omega) (by omega) (by omega)
    refine ⟨by decide, nm_r ea ⟨by decide, nm_r eb ?_⟩⟩
    rw [rd_bit P (by omega) _ (by omega)]
    have hb2 := rd_b_lt P (a % 5)
    have HJ : ∀ n g P b1 b2 b3 b4, rd_K n g P b1 b2 b3 b4 → wL_law_19 (fun r => r = 1) L xs kc ks (c + 1) (lN (rd_E g n)) (nI n) (nI P) (nI i + 4) (nI P) (nI n) b1 b2 b3 b4 a5 a6 := by
      intro n g P b1 b2 b3 b4 hN
      rw [show nI i + 4 = nI (i + 4) from nI_add i 4]
      exact rd_19 hL c (i + 4) (by omega) (by omega) n g P b1 b2 b3 b4 hN
    have key := rd_100 (post := fun r => r = 1) (L := L) (xs := xs) (kc := kc) (ks := ks) HJ hK hop ha hb hd (show a % 5 < 5 by omega) (show b % 5 < 5 by omega)
    refine pk_eq (rd_b P (a % 5)) 1 (fun e => ?_) (fun e => ?_)
    · rw [e] at key
      exact key
    · rw [show rd_b P (a % 5) = 0 by omega] at key
      exact key
theorem rd_K0 : rd_K 0 (fun _ => 0) 0 (fun _ => 0) (fun _ => 0) (fun _ => 0) (fun _ => 0) := by
  refine ⟨by omega, fun i hi => absurd hi (by omega), fun i _ hi => absurd hi (by omega), fun i hi => absurd hi (by omega), by omega, fun k hk => ⟨fun z => ?_, fun ⟨i, hi, _⟩ => absurd hi (by omega)⟩⟩
  unfold rd_b at z
  rw [Nat.zero_div] at z
  exact absurd z (by decide)
theorem i_vc (xs : Nat → Int32) (L : Nat) (hL : L ≤ 260) : wpL_law (fun r => r = 1) L xs := by
  refine ⟨6, 84, by decide, by decide, ?_⟩
  refine ⟨by decide, by decide, by decide, by decide, by decide, by decide, by decide, by decide, by decide, by decide, by decide, by decide, ?_⟩
  exact ⟨66, rd_19 hL 65 0 (by omega) (by omega) 0 (fun _ => 0) 0 (fun _ => 0) (fun _ => 0) (fun _ => 0) (fun _ => 0) rd_K0⟩
end
