section
/-! numbers, bits, sums: no program in sight (the rows on bits began as the family 'Int32 by its bits' of kit/laws/BITS.to-paste) -/
theorem zb_lt {x : Int32} {n : Nat} (h : vp_in x n) : x.toNatClampNeg < n := Nat.lt_of_not_le (fun g => h (Or.inr g))
theorem zb_nn {x : Int32} {n : Nat} (h : vp_in x n) : ¬ x < 0 := fun g => h (Or.inl g)
theorem zb_mono {x : Int32} {n m : Nat} (h : vp_in x n) (hm : n ≤ m) : vp_in x m := fun g => h (g.elim Or.inl (fun g => Or.inr (Nat.le_trans hm g)))
theorem zb_nI {x : Int32} {n : Nat} (h : vp_in x n) (hn : n ≤ 2147483647 := by decide) : x = nI x.toNatClampNeg := by
  obtain ⟨j, hj, e⟩ := vp_in_of h (by omega)
  rw [e, nI_clamp (by omega)]
theorem zb_ge {x : Int32} {n : Nat} (h : vp_in x n) (hn : n ≤ 2147483647 := by decide) : 0 ≤ x := by
  rw [zb_nI h hn]
  exact nI_pos' (by have := zb_lt h; omega)
theorem zb_inj {x y : Int32} {n m : Nat} (hx : vp_in x n) (hy : vp_in y m) (e : x.toNatClampNeg = y.toNatClampNeg) (hn : n ≤ 2147483647 := by decide) (hm : m ≤ 2147483647 := by decide) : x = y := by
  rw [zb_nI hx hn, zb_nI hy hm, e]
theorem zb_in {n N : Nat} (h : n < N) (hN : N ≤ 2147483647 := by decide) : vp_in (nI n) N := vp_in_nI h (by omega)
theorem zb_cl {n N : Nat} (h : n < N) (hN : N ≤ 2147483647 := by decide) : (nI n).toNatClampNeg = n := nI_clamp (by omega)
theorem zb_m1 (n : Nat) : ¬ vp_in (-1) n := fun h => h (Or.inl (by decide))
theorem zb_ne1 {x : Int32} {n : Nat} (h : vp_in x n) : x ≠ -1 := fun e => zb_m1 n (e ▸ h)
theorem zb_b {x : Int32} (h : vp_in x 128) : x.toInt8.toInt32 = x := by
  obtain ⟨j, hj, e⟩ := vp_in_of h (by omega)
  rw [e]
  exact (by decide +kernel : ∀ j, j < 128 → (nI j).toInt8.toInt32 = nI j) j hj
theorem zb_vb {x : Int32} (h : vp_in x 128) : vp_nar .byte x = x := by rw [vp_nar_byte, zb_b h]
theorem zb_s {x : Int32} (h : vp_in x 2048) : x.toInt16.toInt32 = x := by
  obtain ⟨j, hj, e⟩ := vp_in_of h (by omega)
  rw [e]
  exact (by decide +kernel : ∀ j, j < 2048 → (nI j).toInt16.toInt32 = nI j) j hj
theorem zb_b1 : (-1 : Int32).toInt8.toInt32 = -1 := by decide
theorem zb_vb1 : vp_nar .byte (-1) = -1 := by rw [vp_nar_byte, zb_b1]
/-- a value's number, or none -/
def zb_o (x : Int32) : Prop := x = -1 ∨ vp_in x 11
theorem zb_ob {x : Int32} (h : zb_o x) : x.toInt8.toInt32 = x := by
  rcases h with h | h
  · rw [h]; exact zb_b1
  · exact zb_b (zb_mono h (by omega))
theorem zb_ovb {x : Int32} (h : zb_o x) : vp_nar .byte x = x := by rw [vp_nar_byte, zb_ob h]
theorem zb_on {x : Int32} (h : zb_o x) (g : x < 0) : x = -1 := by
  rcases h with h | h
  · exact h
  · exact absurd g (zb_nn h)
theorem zb_op {x : Int32} (h : zb_o x) (g : ¬ x < 0) : vp_in x 11 := by
  rcases h with h | h
  · exact absurd (by rw [h]; decide) g
  · exact h
theorem zb_lt_of {x : Int32} {n : Nat} (h : ¬ x < 0) (hx : x < nI n) (hn : n < 2 ^ 31) : vp_in x n := by
  obtain ⟨j, hj, e⟩ := nI_of h
  rw [e] at hx ⊢
  exact vp_in_nI ((nI_ltI hj hn).mp hx) hn
theorem zb_le_of {x : Int32} {n : Nat} (h : ¬ x < 0) (hx : ¬ nI n < x) (hn : n + 1 < 2 ^ 31) : vp_in x (n + 1) := by
  obtain ⟨j, hj, e⟩ := nI_of h
  rw [e] at hx ⊢
  exact vp_in_nI (by
    rcases Nat.lt_or_ge n j with g | g
    · exact absurd ((nI_ltI (by omega) hj).mpr g) hx
    · omega) hn
theorem zb_le_of' {x : Int32} {n : Nat} (h : ¬ x < 0) (hx : x ≤ nI n) (hn : n + 1 < 2 ^ 31) : vp_in x (n + 1) := by
  obtain ⟨j, hj, e⟩ := nI_of h
  rw [e] at hx ⊢
  exact vp_in_nI (by have := (nI_leI hj (by omega)).mp hx; omega) hn
/-! bits -/
def zb_t (x : Int32) (i : Nat) : Bool := x.toBitVec.getLsbD i
theorem zb_ext {x y : Int32} (h : ∀ i, i < 32 → zb_t x i = zb_t y i) : x = y := Int32.toBitVec_inj.mp (BitVec.eq_of_getLsbD_eq (fun i hi => h i hi))
theorem zb_tor (x y : Int32) (i : Nat) : zb_t (x ||| y) i = (zb_t x i || zb_t y i) := by unfold zb_t; rw [Int32.toBitVec_or, BitVec.getLsbD_or]
theorem zb_tand (x y : Int32) (i : Nat) : zb_t (x &&& y) i = (zb_t x i && zb_t y i) := by unfold zb_t; rw [Int32.toBitVec_and, BitVec.getLsbD_and]
theorem zb_txor (x y : Int32) (i : Nat) : zb_t (x ^^^ y) i = (zb_t x i ^^ zb_t y i) := by unfold zb_t; rw [Int32.toBitVec_xor, BitVec.getLsbD_xor]
theorem zb_tm1 : ∀ i, i < 32 → zb_t (-1) i = true := by decide +kernel
theorem zb_t0 (i : Nat) : zb_t 0 i = false := BitVec.getLsbD_zero
theorem zb_sl : ∀ n, n < 32 → ((nI n &&& 31).toBitVec.smod 32).toNat = n := by decide +kernel
theorem zb_su : ∀ n, n < 32 → (((nI n).toUInt32 &&& Int32.toUInt32 31).toBitVec % 32).toNat = n := by decide +kernel
theorem zb_tshl (n : Nat) (hn : n < 32) (x : Int32) {i : Nat} (hi : i < 32) : zb_t (x <<< (nI n &&& 31)) i = (decide (n ≤ i) && zb_t x (i - n)) := by
  unfold zb_t
  rw [Int32.toBitVec_shiftLeft]
  show (x.toBitVec <<< ((nI n &&& 31).toBitVec.smod 32).toNat).getLsbD i = _
  rw [zb_sl n hn, BitVec.getLsbD_shiftLeft]
  rcases Nat.lt_or_ge i n with h | h
  · simp [h, Nat.not_le.mpr h]
  · simp [hi, h, Nat.not_lt.mpr h]
theorem zb_tushr (n : Nat) (hn : n < 32) (x : Int32) (i : Nat) : zb_t ((x.toUInt32 >>> ((nI n).toUInt32 &&& Int32.toUInt32 31)).toInt32) i = zb_t x (n + i) := by
  show (x.toUInt32 >>> ((nI n).toUInt32 &&& Int32.toUInt32 31)).toBitVec.getLsbD i = x.toUInt32.toBitVec.getLsbD (n + i)
  rw [UInt32.toBitVec_shiftRight]
  show (x.toUInt32.toBitVec >>> (((nI n).toUInt32 &&& Int32.toUInt32 31).toBitVec % 32).toNat).getLsbD i = _
  rw [zb_su n hn, BitVec.getLsbD_ushiftRight]
theorem zb_tsshr (n : Nat) (hn : n < 32) (x : Int32) {i : Nat} (hi : i < 32) : zb_t (x >>> (nI n &&& 31)) i = if n + i < 32 then zb_t x (n + i) else zb_t x 31 := by
  unfold zb_t
  rw [Int32.toBitVec_shiftRight]
  show (x.toBitVec.sshiftRight ((nI n &&& 31).toBitVec.smod 32).toNat).getLsbD i = _
  rw [zb_sl n hn, BitVec.getLsbD_sshiftRight, BitVec.msb_eq_getLsbD_last]
  simp [hi]
theorem zb_t1 : ∀ i, i < 32 → zb_t 1 i = decide (i = 0) := by decide +kernel
theorem zb_and1 (x : Int32) : x &&& 1 = 0 ↔ zb_t x 0 = false := by
  constructor
  · intro h
    have := congrArg (fun y => zb_t y 0) h
    simp only [zb_tand, zb_t0, zb_t1 0 (by omega)] at this
    simpa using this
  · intro h
    apply zb_ext
    intro i hi
    rw [zb_tand, zb_t0, zb_t1 i hi]
    by_cases e : i = 0
    · rw [e, h]; rfl
    · simp [e]
/-- bit v of the mask m, as the program asks for it -/
def zb_i (m v : Int32) : Prop := ¬ ((m >>> (v &&& 31)) &&& 1) = 0
theorem zb_ij (m : Int32) {j : Nat} (hj : j < 32) : zb_i m (nI j) ↔ zb_t m j = true := by
  unfold zb_i
  rw [zb_and1, zb_tsshr j hj m (by omega)]
  simp [hj]
theorem zb_iv (m : Int32) {v : Int32} (hv : vp_in v 32) : zb_i m v ↔ zb_t m v.toNatClampNeg = true := by
  have e := zb_nI hv
  have h := zb_ij m (zb_lt hv)
  rw [← e] at h
  exact h
theorem zb_ior (m k : Int32) {v : Int32} (hv : vp_in v 32) : zb_i (m ||| k) v ↔ zb_i m v ∨ zb_i k v := by
  rw [zb_iv _ hv, zb_iv _ hv, zb_iv _ hv, zb_tor]; simp
theorem zb_iand (m k : Int32) {v : Int32} (hv : vp_in v 32) : zb_i (m &&& k) v ↔ zb_i m v ∧ zb_i k v := by
  rw [zb_iv _ hv, zb_iv _ hv, zb_iv _ hv, zb_tand]; simp
theorem zb_i0 {v : Int32} (hv : vp_in v 32) : ¬ zb_i 0 v := by
  rw [zb_iv _ hv, zb_t0]; simp
theorem zb_tbit {w j : Nat} (hw : w < 32) (hj : j < 32) : zb_t ((1 : Int32) <<< (nI w &&& 31)) j = decide (j = w) := by
  rw [zb_tshl w hw 1 hj, zb_t1 _ (by omega)]
  by_cases e : j = w
  · simp [e]
  · by_cases g : w ≤ j
    · simp [e, g]; omega
    · simp [e, g]
theorem zb_ibit {v w : Int32} (hv : vp_in v 32) (hw : vp_in w 32) : zb_i ((1 : Int32) <<< (w &&& 31)) v ↔ v = w := by
  rw [zb_iv _ hv]
  have e := zb_nI hw
  rw [e, zb_tbit (zb_lt hw) (zb_lt hv), ← e, decide_eq_true_iff]
  exact ⟨fun h => zb_inj hv hw h, fun h => by rw [h]⟩
theorem zb_iclr (m : Int32) {v w : Int32} (hv : vp_in v 32) (hw : vp_in w 32) : zb_i (m &&& (((1 : Int32) <<< (w &&& 31)) ^^^ (-1))) v ↔ zb_i m v ∧ v ≠ w := by
  rw [zb_iand _ _ hv, ne_eq, ← zb_ibit hv hw, zb_iv ((1 : Int32) <<< (w &&& 31)) hv, zb_iv m hv, zb_iv (_ ^^^ _) hv, zb_txor, zb_tm1 _ (zb_lt hv)]
  simp
theorem zb_tn (x : Int32) : x = nI x.toBitVec.toNat := by
  apply Int32.toBitVec_inj.mp
  show x.toBitVec = BitVec.ofNat 32 x.toBitVec.toNat
  rw [BitVec.ofNat_toNat, BitVec.setWidth_eq]
theorem zb_msk {m : Int32} {K : Nat} (hK : K ≤ 30) : vp_in m (2 ^ K) ↔ ∀ j, K ≤ j → j < 32 → zb_t m j = false := by
  have hp : 2 ^ K ≤ 2 ^ 30 := Nat.pow_le_pow_right (by omega) hK
  constructor
  · intro h j h1 h2
    obtain ⟨i, hi, e⟩ := vp_in_of h (by omega)
    rw [e]
    show (BitVec.ofNat 32 i).getLsbD j = false
    rw [BitVec.getLsbD_ofNat]
    simp
    intro _
    exact Nat.testBit_lt_two_pow (Nat.lt_of_lt_of_le hi (Nat.pow_le_pow_right (by omega) h1))
  · intro h
    rw [zb_tn m]
    apply vp_in_nI _ (by omega)
    apply Nat.lt_pow_two_of_testBit
    intro j hj
    rcases Nat.lt_or_ge j 32 with g | g
    · exact h j hj g
    · exact Nat.testBit_lt_two_pow (Nat.lt_of_lt_of_le m.toBitVec.isLt (Nat.pow_le_pow_right (by omega) g))
theorem zb_rm {m : Int32} : vp_in m 2048 ↔ ∀ j, 11 ≤ j → j < 32 → zb_t m j = false := zb_msk (K := 11) (by omega)
theorem zb_ror {m k : Int32} (hm : vp_in m 2048) (hk : vp_in k 2048) : vp_in (m ||| k) 2048 := by
  rw [zb_rm] at *
  intro j h1 h2
  rw [zb_tor, hm j h1 h2, hk j h1 h2]; rfl
theorem zb_rand {m k : Int32} (hm : vp_in m 2048) : vp_in (m &&& k) 2048 := by
  rw [zb_rm] at *
  intro j h1 h2
  rw [zb_tand, hm j h1 h2]; rfl
theorem zb_rbit {w : Int32} (hw : vp_in w 11) : vp_in ((1 : Int32) <<< (w &&& 31)) 2048 := by
  rw [zb_rm]
  intro j h1 h2
  rw [zb_nI hw, zb_tbit (by have := zb_lt hw; omega) h2, decide_eq_false_iff_not]
  have := zb_lt hw
  omega
theorem zb_r0 : vp_in 0 2048 := zb_in (n := 0) (by omega)
theorem zb_iext {m k : Int32} (hm : vp_in m 2048) (hk : vp_in k 2048) (h : ∀ v, vp_in v 11 → (zb_i m v ↔ zb_i k v)) : m = k := by
  rw [zb_rm] at hm hk
  apply zb_ext
  intro i hi
  rcases Nat.lt_or_ge i 11 with g | g
  · have := h (nI i) (zb_in g)
    rw [zb_ij m (by omega), zb_ij k (by omega)] at this
    cases h1 : zb_t m i <;> cases h2 : zb_t k i <;> simp_all
  · rw [hm i g hi, hk i g hi]
theorem zb_clN {m : Int32} {n : Nat} (hm : vp_in m n) (hn : n ≤ 2147483647 := by decide) : m.toBitVec.toNat = m.toNatClampNeg := by
  have h := pk_tn (n := m.toNatClampNeg) (by have := zb_lt hm; omega)
  rwa [← zb_nI hm hn] at h
theorem zb_sub_le {m k : Int32} (hm : vp_in m 2048) (hk : vp_in k 2048) (h : ∀ v, vp_in v 11 → zb_i m v → zb_i k v) : m.toNatClampNeg ≤ k.toNatClampNeg := by
  have e : m ||| k = k := zb_iext (zb_ror hm hk) hk (fun v hv => by
    rw [zb_ior _ _ (zb_mono hv (by omega))]
    exact ⟨fun g => g.elim (h v hv) id, Or.inr⟩)
  have e2 := congrArg (fun z => z.toBitVec.toNat) e
  simp only [Int32.toBitVec_or, BitVec.toNat_or] at e2
  rw [← zb_clN hm, ← zb_clN hk]
  have := Nat.left_le_or (n := m.toBitVec.toNat) (m := k.toBitVec.toNat)
  omega
theorem zb_sub_lt {m k : Int32} (hm : vp_in m 2048) (hk : vp_in k 2048) (h : ∀ v, vp_in v 11 → zb_i m v → zb_i k v) (hne : m ≠ k) : m.toNatClampNeg < k.toNatClampNeg := by
  have := zb_sub_le hm hk h
  rcases Nat.lt_or_eq_of_le this with g | g
  · exact g
  · exact absurd (zb_inj hm hk g) hne
/-! sums -/
def zb_sm (f : Nat → Nat) : Nat → Nat
  | 0 => 0
  | n + 1 => zb_sm f n + f n
theorem zb_sm_congr {f g : Nat → Nat} {n : Nat} (h : ∀ j, j < n → f j = g j) : zb_sm f n = zb_sm g n := by
  induction n with
  | zero => rfl
  | succ n ih => show zb_sm f n + f n = zb_sm g n + g n; rw [ih (fun j hj => h j (by omega)), h n (by omega)]
theorem zb_sm_le {f g : Nat → Nat} {n : Nat} (h : ∀ j, j < n → f j ≤ g j) : zb_sm f n ≤ zb_sm g n := by
  induction n with
  | zero => exact Nat.le_refl 0
  | succ n ih => exact Nat.add_le_add (ih (fun j hj => h j (by omega))) (h n (by omega))
theorem zb_sm_lt {f g : Nat → Nat} {n i : Nat} (h : ∀ j, j < n → f j ≤ g j) (hi : i < n) (hl : f i < g i) : zb_sm f n < zb_sm g n := by
  induction n with
  | zero => omega
  | succ n ih =>
    show zb_sm f n + f n < zb_sm g n + g n
    by_cases e : i = n
    · have := zb_sm_le (fun j hj => h j (Nat.lt_succ_of_lt hj))
      rw [e] at hl
      omega
    · have := ih (fun j hj => h j (by omega)) (by omega)
      have := h n (by omega)
      omega
theorem zb_sm_bd {f : Nat → Nat} {n c : Nat} (h : ∀ j, j < n → f j ≤ c) : zb_sm f n ≤ c * n := by
  induction n with
  | zero => exact Nat.le_refl 0
  | succ n ih =>
    have h1 := ih (fun j hj => h j (by omega))
    have h2 := h n (by omega)
    show zb_sm f n + f n ≤ c * (n + 1)
    rw [Nat.mul_succ]
    omega
theorem zb_sm_mono {f : Nat → Nat} {a b : Nat} (h : a ≤ b) : zb_sm f a ≤ zb_sm f b := by
  induction b with
  | zero => have : a = 0 := by omega
            rw [this]; exact Nat.le_refl _
  | succ b ih =>
    by_cases e : a = b + 1
    · rw [e]; exact Nat.le_refl _
    · exact Nat.le_trans (ih (by omega)) (Nat.le_add_right _ _)
theorem zb_sm_set {f g : Nat → Nat} {n i : Nat} (h : ∀ j, j < n → j ≠ i → f j = g j) (hi : i < n) : zb_sm f n + g i = zb_sm g n + f i := by
  induction n with
  | zero => omega
  | succ n ih =>
    show zb_sm f n + f n + g i = zb_sm g n + g n + f i
    by_cases e : i = n
    · rw [zb_sm_congr (fun j hj => h j (by omega) (by omega)), e]; omega
    · have := ih (fun j hj g => h j (by omega) g) (by omega)
      have := h n (by omega) (fun z => e z.symm)
      omega
theorem zb_sub1 {d : Nat} (h : 0 < d) : nI d - 1 = nI (d - 1) := by
  have e : d = (d - 1) + 1 := by omega
  rw [e, nI_pred]
  rfl
theorem zb_randK {m k : Int32} {K : Nat} (hK : K ≤ 30) (hm : vp_in m (2 ^ K)) : vp_in (m &&& k) (2 ^ K) := by
  rw [zb_msk hK] at *
  intro j h1 h2
  rw [zb_tand, hm j h1 h2]; rfl
theorem zb_rorK {m k : Int32} {K : Nat} (hK : K ≤ 30) (hm : vp_in m (2 ^ K)) (hk : vp_in k (2 ^ K)) : vp_in (m ||| k) (2 ^ K) := by
  rw [zb_msk hK] at *
  intro j h1 h2
  rw [zb_tor, hm j h1 h2, hk j h1 h2]; rfl
theorem zb_rbitK {w K : Nat} (hK : K ≤ 30) (hw : w < K) : vp_in ((1 : Int32) <<< (nI w &&& 31)) (2 ^ K) := by
  rw [zb_msk hK]
  intro j h1 h2
  rw [zb_tbit (by omega) h2, decide_eq_false_iff_not]
  omega
theorem zb_iclrN (m : Int32) {k w : Nat} (hk : k < 32) (hw : w < 32) : zb_i (m &&& (((1 : Int32) <<< (nI w &&& 31)) ^^^ (-1))) (nI k) ↔ zb_i m (nI k) ∧ k ≠ w := by
  rw [zb_iclr m (zb_in hk) (zb_in hw)]
  exact and_congr_right (fun _ => not_congr (nI_eq (by omega) (by omega)))
theorem zb_isetN (m : Int32) {k w : Nat} (hk : k < 32) (hw : w < 32) : zb_i (m ||| ((1 : Int32) <<< (nI w &&& 31))) (nI k) ↔ zb_i m (nI k) ∨ k = w := by
  rw [zb_ior m _ (zb_in hk), zb_ibit (zb_in hk) (zb_in hw), nI_eq (by omega) (by omega)]
end
section
/-! the list of operations: shapes, the forward scan of types, weights -/
/-- the shape of an entry: operation o, made m, first f, second s, number k -/
def zt_sh (o m f s k : Int32) : Prop :=
  (o = 0) ∨
  (o = 1 ∧ vp_in m 11 ∧ f = -1 ∧ s = -1) ∨
  ((o = 2 ∨ o = 13) ∧ vp_in m 11 ∧ vp_in f 11 ∧ s = -1) ∨
  ((¬ o < 3 ∧ ¬ 12 < o) ∧ vp_in m 11 ∧ vp_in f 11 ∧ zb_o s) ∨
  (o = 14 ∧ vp_in m 11 ∧ vp_in f 11 ∧ vp_in s 11) ∨
  (o = 15 ∧ vp_in m 11 ∧ vp_in f 11 ∧ vp_in s 11) ∨
  ((o = 16 ∨ o = 17) ∧ m = -1 ∧ vp_in f 11 ∧ s = -1 ∧ vp_in k 40) ∨
  (o = 18 ∧ m = -1 ∧ f = -1 ∧ s = -1 ∧ vp_in k 40) ∨
  (o = 19 ∧ m = -1 ∧ f = -1 ∧ s = -1 ∧ vp_in k 40) ∨
  (o = 20 ∧ m = -1 ∧ f = -1 ∧ s = -1 ∧ vp_in k 701 ∧ 0 < k.toNatClampNeg) ∨
  ((o = 21 ∨ o = 22) ∧ m = -1 ∧ vp_in f 11 ∧ s = -1)
theorem zt_c23 {o : Int32} (h : ¬ o < 3 ∧ ¬ 12 < o) : vp_in o 23 :=
  zb_mono (zb_le_of (n := 12) (fun g => h.1 (Int32.lt_trans g (by decide))) h.2 (by omega)) (by omega)
/-- none of the operations 3 to 12 -/
theorem zt_cne {o c : Int32} (h : ¬ o < 3 ∧ ¬ 12 < o) (hc : c < 3 ∨ 12 < c) : o ≠ c := by
  intro e
  rw [e] at h
  exact hc.elim h.1 h.2
theorem zt_sh_o {o m f s k : Int32} (h : zt_sh o m f s k) : vp_in o 23 := by
  rcases h with h | h | h | h | h | h | h | h | h | h | h
  · rw [h]; exact zb_in (n := 0) (by omega)
  · rw [h.1]; exact zb_in (n := 1) (by omega)
  · rcases h.1 with g | g <;> rw [g]
    · exact zb_in (n := 2) (by omega)
    · exact zb_in (n := 13) (by omega)
  · exact zt_c23 h.1
  · rw [h.1]; exact zb_in (n := 14) (by omega)
  · rw [h.1]; exact zb_in (n := 15) (by omega)
  · rcases h.1 with g | g <;> rw [g]
    · exact zb_in (n := 16) (by omega)
    · exact zb_in (n := 17) (by omega)
  · rw [h.1]; exact zb_in (n := 18) (by omega)
  · rw [h.1]; exact zb_in (n := 19) (by omega)
  · rw [h.1]; exact zb_in (n := 20) (by omega)
  · rcases h.1 with g | g <;> rw [g]
    · exact zb_in (n := 21) (by omega)
    · exact zb_in (n := 22) (by omega)
theorem zt_sh_v {o m f s k : Int32} (h : zt_sh o m f s k) (h0 : o ≠ 0) : zb_o m ∧ zb_o f ∧ zb_o s := by
  rcases h with h | h | h | h | h | h | h | h | h | h | h
  · exact absurd h h0
  · exact ⟨Or.inr h.2.1, Or.inl h.2.2.1, Or.inl h.2.2.2⟩
  · exact ⟨Or.inr h.2.1, Or.inr h.2.2.1, Or.inl h.2.2.2⟩
  · exact ⟨Or.inr h.2.1, Or.inr h.2.2.1, h.2.2.2⟩
  · exact ⟨Or.inr h.2.1, Or.inr h.2.2.1, Or.inr h.2.2.2⟩
  · exact ⟨Or.inr h.2.1, Or.inr h.2.2.1, Or.inr h.2.2.2⟩
  · exact ⟨Or.inl h.2.1, Or.inr h.2.2.1, Or.inl h.2.2.2.1⟩
  · exact ⟨Or.inl h.2.1, Or.inl h.2.2.1, Or.inl h.2.2.2.1⟩
  · exact ⟨Or.inl h.2.1, Or.inl h.2.2.1, Or.inl h.2.2.2.1⟩
  · exact ⟨Or.inl h.2.1, Or.inl h.2.2.1, Or.inl h.2.2.2.1⟩
  · exact ⟨Or.inl h.2.1, Or.inr h.2.2.1, Or.inl h.2.2.2⟩
/-- the types behind an entry, of the types T ahead of it; G: what holds at a label; the value number -1 stands for 'a step was counted since' -/
def zt_tr (G : Int32 → Int32 → Prop) (o m f k : Int32) (T : Int32 → Prop) (v : Int32) : Prop :=
  if o = 19 then G k v
  else if o = 18 ∨ o = 22 then True
  else if o = 20 then v = -1 ∨ T v
  else if o = 16 ∨ o = 17 ∨ o = 21 then v ≠ -1 ∧ T v
  else if (¬ o < 1 ∧ ¬ 14 < o) ∧ v = m then (o = 1 ∧ vp_in k 3) ∨ (o = 2 ∧ T f)
  else T v
theorem zt_tr_l (G : Int32 → Int32 → Prop) (m f k : Int32) (T : Int32 → Prop) (v : Int32) : zt_tr G 19 m f k T v ↔ G k v := Iff.rfl
theorem zt_tr_e (G : Int32 → Int32 → Prop) {o : Int32} (m f k : Int32) (T : Int32 → Prop) (v : Int32) (h : o = 18 ∨ o = 22) : zt_tr G o m f k T v := by
  rcases h with h | h <;> rw [h] <;> exact trivial
theorem zt_tr_t (G : Int32 → Int32 → Prop) (m f k : Int32) (T : Int32 → Prop) (v : Int32) : zt_tr G 20 m f k T v ↔ v = -1 ∨ T v := Iff.rfl
theorem zt_tr_s (G : Int32 → Int32 → Prop) {o : Int32} (m f k : Int32) (T : Int32 → Prop) (v : Int32) (h : o = 16 ∨ o = 17 ∨ o = 21) : zt_tr G o m f k T v ↔ v ≠ -1 ∧ T v := by
  rcases h with h | h | h <;> rw [h] <;> exact Iff.rfl
theorem zt_tr_k (G : Int32 → Int32 → Prop) {o : Int32} (m f k : Int32) (T : Int32 → Prop) (v : Int32) (h : o = 0 ∨ o = 15) : zt_tr G o m f k T v ↔ T v := by
  unfold zt_tr
  rcases h with h | h <;> subst h <;> rw [if_neg (by decide), if_neg (by decide), if_neg (by decide), if_neg (by decide), if_neg (by rintro ⟨⟨h1, h2⟩, _⟩; revert h1 h2; decide)]
theorem zt_pne {o c : Int32} (h : ¬ o < 1 ∧ ¬ 14 < o) (hc : c < 1 ∨ 14 < c) : o ≠ c := by
  intro e
  rw [e] at h
  exact hc.elim h.1 h.2
theorem zt_tr_p (G : Int32 → Int32 → Prop) {o : Int32} (m f k : Int32) (T : Int32 → Prop) (v : Int32) (h : ¬ o < 1 ∧ ¬ 14 < o) : zt_tr G o m f k T v ↔ (v = m ∧ ((o = 1 ∧ vp_in k 3) ∨ (o = 2 ∧ T f))) ∨ (v ≠ m ∧ T v) := by
  unfold zt_tr
  rw [if_neg (zt_pne h (by decide)), if_neg (fun g => g.elim (zt_pne h (by decide)) (zt_pne h (by decide))), if_neg (zt_pne h (by decide)),
    if_neg (fun g => g.elim (zt_pne h (by decide)) (fun g => g.elim (zt_pne h (by decide)) (zt_pne h (by decide))))]
  by_cases e : v = m
  · rw [if_pos ⟨h, e⟩]
    exact ⟨fun g => Or.inl ⟨e, g⟩, fun g => g.elim (fun g => g.2) (fun g => absurd e g.1)⟩
  · rw [if_neg (fun g => e g.2)]
    exact ⟨fun g => Or.inr ⟨e, g⟩, fun g => g.elim (fun g => absurd g.1 e) (fun g => g.2)⟩
theorem zt_tr_mono {G : Int32 → Int32 → Prop} {o m f k : Int32} {T T' : Int32 → Prop} (h : ∀ v, T v → T' v) (v : Int32) (g : zt_tr G o m f k T v) : zt_tr G o m f k T' v := by
  unfold zt_tr at *
  split
  · rename_i e; rw [if_pos e] at g; exact g
  · rename_i e; rw [if_neg e] at g
    split
    · trivial
    · rename_i e; rw [if_neg e] at g
      split
      · rename_i e; rw [if_pos e] at g; exact g.imp id (h v)
      · rename_i e; rw [if_neg e] at g
        split
        · rename_i e; rw [if_pos e] at g; exact ⟨g.1, h v g.2⟩
        · rename_i e; rw [if_neg e] at g
          split
          · rename_i e; rw [if_pos e] at g; exact g.imp id (fun z => ⟨z.1, h f z.2⟩)
          · rename_i e; rw [if_neg e] at g; exact h v g
/-- what an entry asks of the types ahead of it -/
def zt_ck (G : Int32 → Int32 → Prop) (o f k : Int32) (T : Int32 → Prop) : Prop :=
  (o = 14 ∨ o = 15 → T f) ∧ (o = 16 ∨ o = 17 ∨ o = 18 ∨ o = 19 → ∀ v, G k v → T v) ∧ (o = 16 ∨ o = 17 ∨ o = 18 ∨ o = 21 ∨ o = 22 → T (-1))
theorem zt_ck_mono {G : Int32 → Int32 → Prop} {o f k : Int32} {T T' : Int32 → Prop} (h : ∀ v, T v → T' v) (g : zt_ck G o f k T) : zt_ck G o f k T' :=
  ⟨fun z => h f (g.1 z), fun z v w => h v (g.2.1 z v w), fun z => h _ (g.2.2 z)⟩
/-- an entry that asks for nothing -/
theorem zt_ck_n {G : Int32 → Int32 → Prop} {o f k : Int32} {T : Int32 → Prop} (h : ¬ 13 < o ∨ o = 20) : zt_ck G o f k T := by
  have n : ∀ c : Int32, (13 < c ∧ c ≠ 20) → o ≠ c := by
    rintro c ⟨h1, h2⟩ e
    rw [e] at h
    exact h.elim (fun g => g h1) h2
  refine ⟨fun z => ?_, fun z => ?_, fun z => ?_⟩
  · exact z.elim (fun z => absurd z (n _ (by decide))) (fun z => absurd z (n _ (by decide)))
  · exact z.elim (fun z => absurd z (n _ (by decide))) (fun z => z.elim (fun z => absurd z (n _ (by decide))) (fun z => z.elim (fun z => absurd z (n _ (by decide))) (fun z => absurd z (n _ (by decide)))))
  · exact z.elim (fun z => absurd z (n _ (by decide))) (fun z => z.elim (fun z => absurd z (n _ (by decide))) (fun z => z.elim (fun z => absurd z (n _ (by decide))) (fun z => z.elim (fun z => absurd z (n _ (by decide))) (fun z => absurd z (n _ (by decide))))))
/-- the types ahead of entry j -/
def zt_T (G : Int32 → Int32 → Prop) (o m f k : Nat → Int32) : Nat → Int32 → Prop
  | 0 => fun _ => False
  | j + 1 => zt_tr G (o j) (m j) (f j) (k j) (zt_T G o m f k j)
theorem zt_T_congr {G : Int32 → Int32 → Prop} {o m f k o' m' f' k' : Nat → Int32} {j : Nat} (h : ∀ i, i < j → o i = o' i ∧ m i = m' i ∧ f i = f' i ∧ k i = k' i) : zt_T G o m f k j = zt_T G o' m' f' k' j := by
  induction j with
  | zero => rfl
  | succ j ih =>
    show zt_tr G (o j) (m j) (f j) (k j) (zt_T G o m f k j) = zt_tr G (o' j) (m' j) (f' j) (k' j) (zt_T G o' m' f' k' j)
    obtain ⟨h1, h2, h3, h4⟩ := h j (by omega)
    rw [ih (fun i hi => h i (by omega)), h1, h2, h3, h4]
def zt_ty (e : Nat) (o m f k : Nat → Int32) : Prop :=
  ∃ G : Int32 → Int32 → Prop, (∀ l v, G l v → vp_in v 11) ∧ (∀ j, j < e → zt_ck G (o j) (f j) (k j) (zt_T G o m f k j)) ∧ zt_T G o m f k e (-1)
/-- how many words an entry may want, and the number of a TICK -/
def zt_wt (o k : Int32) : Nat :=
  if o = 0 ∨ o = 19 then 0 else if o = 20 then 1 + k.toNatClampNeg else if o = 18 then 1
  else if o = 16 ∨ o = 17 ∨ o = 21 ∨ o = 22 then 2 else if o = 1 ∨ o = 2 ∨ o = 13 then 3 else 4
theorem zt_wt4 {o k : Int32} (h : o ≠ 20) : zt_wt o k ≤ 4 := by
  unfold zt_wt
  rw [if_neg h]
  split
  · omega
  · split
    · omega
    · split
      · omega
      · split <;> omega
theorem zt_wtc {o k : Int32} (h : ¬ o < 3 ∧ ¬ 12 < o) : zt_wt o k = 4 := by
  unfold zt_wt
  rw [if_neg (fun g => g.elim (zt_cne h (by decide)) (zt_cne h (by decide))), if_neg (zt_cne h (by decide)), if_neg (zt_cne h (by decide)),
    if_neg (fun g => g.elim (zt_cne h (by decide)) (fun g => g.elim (zt_cne h (by decide)) (fun g => g.elim (zt_cne h (by decide)) (zt_cne h (by decide))))),
    if_neg (fun g => g.elim (zt_cne h (by decide)) (fun g => g.elim (zt_cne h (by decide)) (zt_cne h (by decide))))]
def zt_ws (o k : Nat → Int32) (e : Nat) : Nat := zb_sm (fun j => zt_wt (o j) (k j)) e
/-- the list holds -/
def zt_L (e : Nat) (o m f s k : Nat → Int32) : Prop :=
  e ≤ 240 ∧ (∀ j, j < e → zt_sh (o j) (m j) (f j) (s j) (k j)) ∧
  (∀ i j, i < e → j < e → o i = 19 → o j = 19 → k i = k j → i = j) ∧
  (∀ i, i < e → (o i = 16 ∨ o i = 17 ∨ o i = 18) → ∃ j, j < e ∧ o j = 19 ∧ k j = k i) ∧
  zt_ws o k e ≤ 700 ∧ zt_ty e o m f k
def zt_N (e : Nat) (o : Nat → Int32) : Prop := ∀ j, j < e → o j ≠ 0
end
section
/-! the checker, no program in sight: the waiting set, the sorts of the locals, what an instruction makes of a state -/
def zc_b (w : Int64) (j : Nat) : Bool := w.toBitVec.getLsbD j
theorem zc_cu : ∀ j, j < 40 → ((nI j).toInt64.toUInt64 &&& Int64.toUInt64 63).toNat = j := by decide +kernel
theorem zc_tp : ∀ j, j < 40 → ((1 : Int64) <<< ((nI j).toInt64 &&& 63)).toBitVec = BitVec.twoPow 64 j := by decide +kernel
theorem zc_bt {w : Int64} {j : Nat} (hj : j < 40) : (((w.toUInt64 >>> ((nI j).toInt64.toUInt64 &&& Int64.toUInt64 63)).toInt64) &&& 1) = 0 ↔ zc_b w j = false := by
  have hs := zc_cu j hj
  generalize (nI j).toInt64.toUInt64 &&& Int64.toUInt64 63 = s at hs
  have e : (w.toUInt64 >>> s).toInt64.toBitVec = w.toBitVec >>> j := by
    apply BitVec.eq_of_toNat_eq
    show (w.toUInt64 >>> s).toNat = _
    rw [UInt64.toNat_shiftRight, hs, Nat.mod_eq_of_lt (by omega), BitVec.toNat_ushiftRight]
    rfl
  rw [← Int64.toBitVec_inj, Int64.toBitVec_and, e]
  show w.toBitVec >>> j &&& 1#64 = 0#64 ↔ _
  constructor
  · intro h
    have t := congrArg (fun x => x.getLsbD 0) h
    unfold zc_b
    simpa using t
  · intro h
    apply BitVec.eq_of_getLsbD_eq
    intro i hi
    cases i with
    | zero => unfold zc_b at h; simpa using h
    | succ i => simp
theorem zc_bset (w : Int64) {i j : Nat} (hi : i < 40) (hj : j < 40) : zc_b (w ||| ((1 : Int64) <<< ((nI i).toInt64 &&& 63))) j = (zc_b w j || decide (j = i)) := by
  unfold zc_b
  rw [Int64.toBitVec_or, zc_tp i hi, BitVec.getLsbD_or, BitVec.getLsbD_twoPow]
  by_cases e : j = i
  · subst e; simp; omega
  · have e' : i ≠ j := fun z => e z.symm
    simp [e, e']
theorem zc_bclr (w : Int64) {i j : Nat} (hi : i < 40) (hj : j < 40) : zc_b (w &&& (((1 : Int64) <<< ((nI i).toInt64 &&& 63)) ^^^ (-1))) j = (zc_b w j && !decide (j = i)) := by
  have ha : (-1 : Int64).toBitVec = BitVec.allOnes 64 := by decide
  unfold zc_b
  rw [Int64.toBitVec_and, Int64.toBitVec_xor, zc_tp i hi, ha, BitVec.getLsbD_and, BitVec.getLsbD_xor, BitVec.getLsbD_twoPow, BitVec.getLsbD_allOnes]
  by_cases e : j = i
  · subst e
    have : decide (j < 64) = true := decide_eq_true (by omega)
    simp [this]
  · have e' : i ≠ j := fun z => e z.symm
    have : decide (j < 64) = true := decide_eq_true (by omega)
    simp [e, e', this]
def zc_n (w : Int64) : Nat := zb_sm (fun j => if zc_b w j then 1 else 0) 40
theorem zc_n_set {w : Int64} {i : Nat} (hi : i < 40) (h : zc_b w i = false) : zc_n (w ||| ((1 : Int64) <<< ((nI i).toInt64 &&& 63))) = zc_n w + 1 := by
  have := zb_sm_set (f := fun j => if zc_b (w ||| ((1 : Int64) <<< ((nI i).toInt64 &&& 63))) j then 1 else 0) (g := fun j => if zc_b w j then 1 else 0) (n := 40) (i := i)
    (fun j hj hne => by (try dsimp only); rw [zc_bset w hi hj]; simp [hne]) hi
  (try dsimp only at this)
  rw [zc_bset w hi hi, h] at this
  unfold zc_n
  simpa using this
theorem zc_n_clr {w : Int64} {i : Nat} (hi : i < 40) (h : zc_b w i = true) : zc_n (w &&& (((1 : Int64) <<< ((nI i).toInt64 &&& 63)) ^^^ (-1))) + 1 = zc_n w := by
  have := zb_sm_set (f := fun j => if zc_b (w &&& (((1 : Int64) <<< ((nI i).toInt64 &&& 63)) ^^^ (-1))) j then 1 else 0) (g := fun j => if zc_b w j then 1 else 0) (n := 40) (i := i)
    (fun j hj hne => by (try dsimp only); rw [zc_bclr w hi hj]; simp [hne]) hi
  (try dsimp only at this)
  rw [zc_bclr w hi hi, h] at this
  unfold zc_n
  simpa using this
theorem zc_n_lt {w : Int64} {i : Nat} (hi : i < 40) (h : zc_b w i = false) : zc_n w < 40 := by
  have := zb_sm_lt (f := fun j => if zc_b w j then 1 else 0) (g := fun _ => 1) (n := 40) (i := i) (fun j _ => by (try dsimp only); split <;> omega) hi (by (try dsimp only); rw [h]; decide)
  have e : zb_sm (fun _ => 1) 40 = 40 := by decide
  rw [e] at this
  exact this
theorem zc_n_0 {w : Int64} (h : zc_n w = 0) {i : Nat} (hi : i < 40) : zc_b w i = false := by
  cases g : zc_b w i
  · rfl
  · have := zb_sm_lt (f := fun _ => 0) (g := fun j => if zc_b w j then 1 else 0) (n := 40) (i := i) (fun j _ => Nat.zero_le _) hi (by (try dsimp only); rw [g]; decide)
    have e : zb_sm (fun _ => 0) 40 = 0 := by decide
    rw [e] at this
    unfold zc_n at h
    omega
/-! the sorts of the locals: two bits each -/
def zc_q (w m : Nat) : Nat := w / 4 ^ m % 4
theorem zc_qs : ∀ w, w < 256 → ∀ m, m < 4 → ((nI w >>> ((2 * nI m) &&& 31)) &&& 3) = nI (zc_q w m) := by decide +kernel
def zc_set (w m r : Nat) : Nat := w - zc_q w m * 4 ^ m + r * 4 ^ m
theorem zc_sto : ∀ w, w < 256 → ∀ m, m < 4 → ∀ r, r < 3 → (nI w &&& (((3 : Int32) <<< ((2 * nI m) &&& 31)) ^^^ (-1))) ||| (nI r <<< ((2 * nI m) &&& 31)) = nI (zc_set w m r) := by decide +kernel
theorem zc_set_lt : ∀ w, w < 256 → ∀ m, m < 4 → ∀ r, r < 3 → zc_set w m r < 256 := by decide +kernel
theorem zc_set_q : ∀ w, w < 256 → ∀ m, m < 4 → ∀ r, r < 3 → ∀ j, j < 4 → zc_q (zc_set w m r) j = if j = m then r else zc_q w j := by decide +kernel
def zc_mg (a b : Nat) : Nat → Nat
  | 0 => 0
  | i + 1 => zc_mg a b i + (if zc_q a i = zc_q b i then zc_q a i * 4 ^ i else 0)
theorem zc_q4 (w m : Nat) : zc_q w m < 4 := Nat.mod_lt _ (by omega)
theorem zc_mg_lt (a b i : Nat) : zc_mg a b i < 4 ^ i := by
  induction i with
  | zero => exact Nat.zero_lt_one
  | succ i ih =>
    show zc_mg a b i + (if zc_q a i = zc_q b i then zc_q a i * 4 ^ i else 0) < 4 ^ (i + 1)
    have h4 := zc_q4 a i
    rw [Nat.pow_succ]
    split
    · have : zc_q a i * 4 ^ i ≤ 3 * 4 ^ i := Nat.mul_le_mul_right _ (by omega)
      omega
    · omega
theorem zc_orr : ∀ i, i < 4 → ∀ x, x < 4 → ∀ g, g < 4 ^ i → nI g ||| (nI x <<< ((2 * nI i) &&& 31)) = nI (g + x * 4 ^ i) := by decide +kernel
theorem zc_dig {x0 x1 x2 x3 : Nat} (h0 : x0 < 4) (h1 : x1 < 4) (h2 : x2 < 4) (h3 : x3 < 4) :
    zc_q (x0 + x1 * 4 + x2 * 16 + x3 * 64) 0 = x0 ∧ zc_q (x0 + x1 * 4 + x2 * 16 + x3 * 64) 1 = x1 ∧ zc_q (x0 + x1 * 4 + x2 * 16 + x3 * 64) 2 = x2 ∧ zc_q (x0 + x1 * 4 + x2 * 16 + x3 * 64) 3 = x3 := by
  unfold zc_q
  simp only [Nat.pow_zero, Nat.div_one, Nat.reducePow]
  omega
theorem zc_mg_q (a b : Nat) {j : Nat} (hj : j < 4) : zc_q (zc_mg a b 4) j = if zc_q a j = zc_q b j then zc_q a j else 0 := by
  have e : zc_mg a b 4 = (if zc_q a 0 = zc_q b 0 then zc_q a 0 else 0) + (if zc_q a 1 = zc_q b 1 then zc_q a 1 else 0) * 4 + (if zc_q a 2 = zc_q b 2 then zc_q a 2 else 0) * 16 + (if zc_q a 3 = zc_q b 3 then zc_q a 3 else 0) * 64 := by
    simp only [zc_mg]
    repeat' split
    all_goals omega
  have l : ∀ i, (if zc_q a i = zc_q b i then zc_q a i else 0) < 4 := fun i => by
    have := zc_q4 a i
    split <;> omega
  rw [e]
  obtain ⟨d0, d1, d2, d3⟩ := zc_dig (l 0) (l 1) (l 2) (l 3)
  have hj4 : j = 0 ∨ j = 1 ∨ j = 2 ∨ j = 3 := by omega
  rcases hj4 with h | h | h | h <;> rw [h]
  · exact d0
  · exact d1
  · exact d2
  · exact d3
theorem zc_mg_le {a : Nat} (b : Nat) (ha : a < 256) : zc_mg a b 4 ≤ a := by
  have e : zc_mg a b 4 ≤ zc_q a 0 + zc_q a 1 * 4 + zc_q a 2 * 16 + zc_q a 3 * 64 := by
    simp only [zc_mg]
    repeat' split
    all_goals omega
  have e2 : zc_q a 0 + zc_q a 1 * 4 + zc_q a 2 * 16 + zc_q a 3 * 64 = a := by
    unfold zc_q
    simp only [Nat.pow_zero, Nat.div_one, Nat.reducePow]
    omega
  omega
/-- fewer locals are known -/
def zc_lo (w' w : Nat) : Prop := ∀ m, m < 4 → zc_q w' m = 0 ∨ zc_q w' m = zc_q w m
theorem zc_lo_r (w : Nat) : zc_lo w w := fun _ _ => Or.inr rfl
theorem zc_lo_t {a b c : Nat} (h : zc_lo a b) (g : zc_lo b c) : zc_lo a c := fun m hm => by
  rcases h m hm with e | e
  · exact Or.inl e
  · rw [e]; exact g m hm
theorem zc_lo_mg1 (a b : Nat) : zc_lo (zc_mg a b 4) a := fun m hm => by
  rw [zc_mg_q a b hm]
  split
  · exact Or.inr rfl
  · exact Or.inl rfl
theorem zc_lo_mg2 (a b : Nat) : zc_lo (zc_mg a b 4) b := fun m hm => by
  rw [zc_mg_q a b hm]
  split
  · rename_i h; exact Or.inr h
  · exact Or.inl rfl
def zc_q2 (w : Nat) : Prop := ∀ m, m < 4 → zc_q w m ≤ 2
theorem zc_lo_q2 {a b : Nat} (h : zc_lo a b) (g : zc_q2 b) : zc_q2 a := fun m hm => by
  rcases h m hm with e | e
  · omega
  · rw [e]; exact g m hm
/-- the program is well made -/
def zc_P (n : Nat) (a1 a2 : Nat → Int32) : Prop :=
  ∀ j, j < n → vp_in (a1 j) 27 ∧ (a1 j = 1 ∨ a1 j = 2 → vp_in (a2 j) 4) ∧ (a1 j = 17 → vp_in (a2 j) 3)
/-- what instruction (o, n) makes of the state (d, s, w) -/
def zc_E (o n : Int32) (d : Nat) (s : Int32) (w d' : Nat) (s' : Int32) (w' : Nat) : Prop :=
  d' ≤ 6 ∧ vp_in s' 64 ∧ w' < 256 ∧ zc_q2 w' ∧
  ((o = 0 ∧ d' = d + 1 ∧ w' = w ∧ ∀ k, k < d' → zb_i s' (nI k) → k < d ∧ zb_i s (nI k)) ∨
   (o = 17 ∧ vp_in n 3 ∧ d' = d + 1 ∧ w' = w ∧ ∀ k, k < d' → zb_i s' (nI k) → k = d ∨ (k < d ∧ zb_i s (nI k))) ∨
   (o = 1 ∧ ∃ m, m < 4 ∧ n = nI m ∧ d' = d + 1 ∧ w' = w ∧ ∀ k, k < d' → zb_i s' (nI k) → (k = d ∧ zc_q w m = 2) ∨ (k < d ∧ zb_i s (nI k))) ∨
   (o = 2 ∧ ∃ m, m < 4 ∧ n = nI m ∧ d = d' + 1 ∧ (∀ k, k < d' → zb_i s' (nI k) → zb_i s (nI k)) ∧ ∀ j, j < 4 → zc_q w' j = 2 → (j = m ∧ zb_i s (nI d')) ∨ (j ≠ m ∧ zc_q w j = 2)) ∨
   (((¬ o < 3 ∧ ¬ 12 < o) ∨ o = 20) ∧ d = d' + 1 ∧ 0 < d' ∧ w' = w ∧ ∀ k, k < d' → zb_i s' (nI k) → k + 1 < d' ∧ zb_i s (nI k)) ∨
   (o = 13 ∧ d' = d ∧ 0 < d ∧ w' = w ∧ ∀ k, k < d' → zb_i s' (nI k) → k + 1 < d ∧ zb_i s (nI k)) ∨
   (o = 14 ∧ d' = d + 1 ∧ 0 < d ∧ w' = w ∧ ∀ k, k < d' → zb_i s' (nI k) → (k = d ∧ zb_i s (nI (d - 1))) ∨ (k < d ∧ zb_i s (nI k))) ∨
   (o = 15 ∧ d = d' + 1 ∧ w' = w ∧ ∀ k, k < d' → zb_i s' (nI k) → zb_i s (nI k)) ∨
   (o = 16 ∧ d' = d ∧ 2 ≤ d ∧ w' = w ∧ ∀ k, k < d' → zb_i s' (nI k) → (k = d - 1 ∧ zb_i s (nI (d - 2))) ∨ (k = d - 2 ∧ zb_i s (nI (d - 1))) ∨ (k < d - 2 ∧ zb_i s (nI k))) ∨
   (o = 18 ∧ d = d' + 1 ∧ 0 < d' ∧ zb_i s (nI (d' - 1)) ∧ w' = w ∧ ∀ k, k < d' → zb_i s' (nI k) → k + 1 < d' ∧ zb_i s (nI k)) ∨
   (o = 19 ∧ d = d' + 3 ∧ zb_i s (nI d') ∧ w' = w ∧ ∀ k, k < d' → zb_i s' (nI k) → zb_i s (nI k)) ∨
   ((o = 21 ∨ o = 26) ∧ d' = d ∧ w' = w ∧ ∀ k, k < d' → zb_i s' (nI k) → zb_i s (nI k)) ∨
   ((o = 22 ∨ o = 23 ∨ o = 24 ∨ o = 25) ∧ d = d' + 1 ∧ w' = w ∧ ∀ k, k < d' → zb_i s' (nI k) → zb_i s (nI k)))
/-- a state (d, s, w) at place j -/
def zc_at (a3 a4 a5 : Nat → Int32) (j d : Nat) (s : Int32) (w : Nat) : Prop := a3 j = nI d ∧ a4 j = s ∧ a5 j = nI w ∧ d ≤ 6 ∧ vp_in s 64 ∧ w < 256 ∧ zc_q2 w
/-- the state (d, s, w) has been passed to t -/
def zc_fl (n : Nat) (a3 a4 a5 : Nat → Int32) (t : Int32) (d : Nat) (s : Int32) (w : Nat) : Prop :=
  vp_in t n ∧ ∃ w', zc_at a3 a4 a5 t.toNatClampNeg d s w' ∧ zc_lo w' w
/-- every place has a state or none -/
def zc_V (n : Nat) (a3 a4 a5 : Nat → Int32) : Prop := ∀ j, j < n → a3 j = -1 ∨ ∃ d s w, zc_at a3 a4 a5 j d s w
/-- the place j has been followed -/
def zc_cl (n : Nat) (a1 a2 a3 a4 a5 : Nat → Int32) (j : Nat) : Prop :=
  ∃ d s w d' s' w', zc_at a3 a4 a5 j d s w ∧ zc_E (a1 j) (a2 j) d s w d' s' w' ∧
    (a1 j = 21 ∨ a1 j = 22 ∨ a1 j = 23 → zc_fl n a3 a4 a5 (a2 j) d' s' w') ∧
    (a1 j ≠ 21 → a1 j ≠ 25 → a1 j ≠ 26 → zc_fl n a3 a4 a5 (nI (j + 1)) d' s' w')
/-- the states went on: none is lost, locals only become unknown -/
def zc_le (n : Nat) (a3 a4 a5 b3 b4 b5 : Nat → Int32) : Prop := ∀ j, j < n → ∀ d s w, zc_at a3 a4 a5 j d s w → ∃ w', zc_at b3 b4 b5 j d s w' ∧ zc_lo w' w
theorem zc_le_r (n : Nat) (a3 a4 a5 : Nat → Int32) : zc_le n a3 a4 a5 a3 a4 a5 := fun _ _ _ _ w h => ⟨w, h, zc_lo_r w⟩
theorem zc_le_t {n : Nat} {a3 a4 a5 b3 b4 b5 c3 c4 c5 : Nat → Int32} (h : zc_le n a3 a4 a5 b3 b4 b5) (g : zc_le n b3 b4 b5 c3 c4 c5) : zc_le n a3 a4 a5 c3 c4 c5 := fun j hj d s w z => by
  obtain ⟨w1, z1, l1⟩ := h j hj d s w z
  obtain ⟨w2, z2, l2⟩ := g j hj d s w1 z1
  exact ⟨w2, z2, zc_lo_t l2 l1⟩
theorem zc_fl_le {n : Nat} {a3 a4 a5 b3 b4 b5 : Nat → Int32} {t : Int32} {d : Nat} {s : Int32} {w : Nat} (h : zc_le n a3 a4 a5 b3 b4 b5) (g : zc_fl n a3 a4 a5 t d s w) : zc_fl n b3 b4 b5 t d s w := by
  obtain ⟨g1, w1, g2, g3⟩ := g
  obtain ⟨w2, z2, l2⟩ := h _ (zb_lt g1) d s w1 g2
  exact ⟨g1, w2, z2, zc_lo_t l2 g3⟩
/-- what is still to be done -/
def zc_pot (n : Nat) (a3 a5 : Nat → Int32) : Nat := zb_sm (fun j => if a3 j = -1 then 256 else (a5 j).toNatClampNeg) n
/-- the waiting places -/
def zc_Q (n : Nat) (a3 a6 : Nat → Int32) (c : Nat) (iw : Int64) : Prop :=
  c = zc_n iw ∧ (∀ k, k < c → vp_in (a6 k) n ∧ zc_b iw (a6 k).toNatClampNeg = true) ∧ (∀ i k, i < k → k < c → a6 i ≠ a6 k) ∧ (∀ k, k < n → zc_b iw k = true → a3 k ≠ -1)
theorem zc_Q_up {n : Nat} {a3 b3 a6 : Nat → Int32} {c : Nat} {iw : Int64} (h : zc_Q n a3 a6 c iw) (g : ∀ k, k < n → a3 k ≠ -1 → b3 k ≠ -1) : zc_Q n b3 a6 c iw :=
  ⟨h.1, h.2.1, h.2.2.1, fun k hk z => g k hk (h.2.2.2 k hk z)⟩
/-- a place with a state that isn't waiting has been followed -/
def zc_C (n : Nat) (a1 a2 a3 a4 a5 : Nat → Int32) (iw : Int64) : Prop := ∀ j, j < n → a3 j ≠ -1 → zc_b iw j = false → zc_cl n a1 a2 a3 a4 a5 j
/-- the first place -/
def zc_0 (a3 a4 a5 : Nat → Int32) : Prop := ∃ s w, zc_at a3 a4 a5 0 0 s w ∧ zc_q w 0 ≤ 1 ∧ zc_q w 1 ≤ 1 ∧ zc_q w 2 = 0 ∧ zc_q w 3 = 0
theorem zc_0_le {n : Nat} {a3 a4 a5 b3 b4 b5 : Nat → Int32} (hn : 0 < n) (h : zc_le n a3 a4 a5 b3 b4 b5) (g : zc_0 a3 a4 a5) : zc_0 b3 b4 b5 := by
  obtain ⟨s, w, g1, g2, g5, g3, g4⟩ := g
  obtain ⟨w', z1, z2⟩ := h 0 hn 0 s w g1
  refine ⟨s, w', z1, ?_, ?_, ?_, ?_⟩
  · rcases z2 0 (by omega) with e | e <;> omega
  · rcases z2 1 (by omega) with e | e <;> omega
  · rcases z2 2 (by omega) with e | e <;> omega
  · rcases z2 3 (by omega) with e | e <;> omega
end
section
/-! the checker: the walk -/
section
variable {le ck va dn sn ln wc tr tf li tk tc lv ce sc gi pc : Int32} {iw : Int64} {a1 a2 a3 a4 a5 a6 a7 a8 a9 a10 a11 a12 a13 a14 a15 a16 a17 a18 a19 a20 a21 a22 a23 a24 a25 a26 a27 a28 a29 a30 : Nat → Int32}
theorem zc_pop {post : Int32 → St1 → Prop} {d : Nat} (hd : d ≤ 6)
    (h0 : d = 0 → post 0 (le, ck, va, nI d, sn, ln, wc, iw, tr, tf, li, tk, tc, lv, ce, sc, gi, pc, a1, a2, a3, a4, a5, a6, a7, a8, a9, a10, a11, a12, a13, a14, a15, a16, a17, a18, a19, a20, a21, a22, a23, a24, a25, a26, a27, a28, a29, a30))
    (h1 : ∀ r s', 0 < d → ((r = 1 ∧ ¬ zb_i sn (nI (d - 1))) ∨ (r = 2 ∧ zb_i sn (nI (d - 1)))) → (∀ k, k < 32 → (zb_i s' (nI k) ↔ zb_i sn (nI k) ∧ k ≠ d - 1)) → (vp_in sn 64 → vp_in s' 64) → post r (le, ck, va, nI (d - 1), s', ln, wc, iw, tr, tf, li, tk, tc, lv, ce, sc, gi, pc, a1, a2, a3, a4, a5, a6, a7, a8, a9, a10, a11, a12, a13, a14, a15, a16, a17, a18, a19, a20, a21, a22, a23, a24, a25, a26, a27, a28, a29, a30)) :
    wpX_pop post (le, ck, va, nI d, sn, ln, wc, iw, tr, tf, li, tk, tc, lv, ce, sc, gi, pc, a1, a2, a3, a4, a5, a6, a7, a8, a9, a10, a11, a12, a13, a14, a15, a16, a17, a18, a19, a20, a21, a22, a23, a24, a25, a26, a27, a28, a29, a30) := by
  refine pk_eq d 0 (fun e => h0 e) (fun e => nm_r (zb_sub1 (by omega)) ?_)
  refine br_c (fun z => ?_) (fun z => ?_)
  · exact nm_e (h1 1 _ (by omega) (Or.inl ⟨rfl, fun g => g z⟩) (fun k hk => zb_iclrN sn hk (by omega)) (fun g => zb_randK (K := 6) (by omega) g))
  · exact nm_e (h1 2 _ (by omega) (Or.inr ⟨rfl, z⟩) (fun k hk => zb_iclrN sn hk (by omega)) (fun g => zb_randK (K := 6) (by omega) g))
theorem zc_push {post : Int32 → St1 → Prop} {d : Nat} {p0 : Int32} (hd : d ≤ 6)
    (h0 : d = 6 → post 0 (le, ck, va, nI d, sn, ln, wc, iw, tr, tf, li, tk, tc, lv, ce, sc, gi, pc, a1, a2, a3, a4, a5, a6, a7, a8, a9, a10, a11, a12, a13, a14, a15, a16, a17, a18, a19, a20, a21, a22, a23, a24, a25, a26, a27, a28, a29, a30))
    (h1 : ∀ s', d < 6 → (∀ k, k < 32 → (zb_i s' (nI k) ↔ (k ≠ d ∧ zb_i sn (nI k)) ∨ (k = d ∧ p0 = 2))) → (vp_in sn 64 → vp_in s' 64) → post 1 (le, ck, va, nI (d + 1), s', ln, wc, iw, tr, tf, li, tk, tc, lv, ce, sc, gi, pc, a1, a2, a3, a4, a5, a6, a7, a8, a9, a10, a11, a12, a13, a14, a15, a16, a17, a18, a19, a20, a21, a22, a23, a24, a25, a26, a27, a28, a29, a30)) :
    wpX_push post (le, ck, va, nI d, sn, ln, wc, iw, tr, tf, li, tk, tc, lv, ce, sc, gi, pc, a1, a2, a3, a4, a5, a6, a7, a8, a9, a10, a11, a12, a13, a14, a15, a16, a17, a18, a19, a20, a21, a22, a23, a24, a25, a26, a27, a28, a29, a30) p0 := by
  refine pk_lt d 6 (fun e => ?_) (fun e => h0 (by omega))
  refine br_c (fun z => nm_e ?_) (fun z => nm_e ?_)
  · refine nm_r (nI_1 d) (h1 _ e (fun k hk => ?_) (fun g => zb_rorK (K := 6) (by omega) g (zb_rbitK (by omega) (by omega))))
    rw [zb_isetN sn hk (by omega)]
    by_cases g : k = d <;> simp [g, z]
  · refine nm_r (nI_1 d) (h1 _ e (fun k hk => ?_) (fun g => zb_randK (K := 6) (by omega) g))
    rw [zb_iclrN sn hk (by omega)]
    by_cases g : k = d <;> simp [g, z]
theorem zc_popOne {post : Int32 → St1 → Prop} {d : Nat} {p0 : Int32} (hd : d ≤ 6) (hp : p0 = 1 ∨ p0 = 2)
    (h0 : ∀ dn sn, post 0 (le, ck, va, dn, sn, ln, wc, iw, tr, tf, li, tk, tc, lv, ce, sc, gi, pc, a1, a2, a3, a4, a5, a6, a7, a8, a9, a10, a11, a12, a13, a14, a15, a16, a17, a18, a19, a20, a21, a22, a23, a24, a25, a26, a27, a28, a29, a30))
    (h1 : ∀ s', 0 < d → (p0 = 2 ↔ zb_i sn (nI (d - 1))) → (∀ k, k < 32 → (zb_i s' (nI k) ↔ zb_i sn (nI k) ∧ k ≠ d - 1)) → (vp_in sn 64 → vp_in s' 64) → post 1 (le, ck, va, nI (d - 1), s', ln, wc, iw, tr, tf, li, tk, tc, lv, ce, sc, gi, pc, a1, a2, a3, a4, a5, a6, a7, a8, a9, a10, a11, a12, a13, a14, a15, a16, a17, a18, a19, a20, a21, a22, a23, a24, a25, a26, a27, a28, a29, a30)) :
    wpX_popOne post (le, ck, va, nI d, sn, ln, wc, iw, tr, tf, li, tk, tc, lv, ce, sc, gi, pc, a1, a2, a3, a4, a5, a6, a7, a8, a9, a10, a11, a12, a13, a14, a15, a16, a17, a18, a19, a20, a21, a22, a23, a24, a25, a26, a27, a28, a29, a30) p0 := by
  unfold wpX_popOne
  refine zc_pop hd (fun e => ?_) (fun r s' e hr hb hg => ?_)
  · refine br_f (fun z => ?_) (h0 _ _)
    rcases hp with g | g <;> rw [g] at z <;> revert z <;> decide
  · refine br_c (fun z => h1 s' e ?_ hb hg) (fun z => h0 _ _)
    rcases hr with ⟨g1, g2⟩ | ⟨g1, g2⟩
    · rw [← z, g1]; exact ⟨fun t => absurd t (by decide), fun t => absurd t g2⟩
    · rw [← z, g1]; exact ⟨fun _ => g2, fun _ => rfl⟩
theorem zc_popTwo {post : Int32 → St1 → Prop} {d : Nat} {p0 p1 : Int32} (hd : d ≤ 6) (hp : p0 = 1 ∨ p0 = 2) (hp1 : p1 = 1 ∨ p1 = 2)
    (h0 : ∀ dn sn, post 0 (le, ck, va, dn, sn, ln, wc, iw, tr, tf, li, tk, tc, lv, ce, sc, gi, pc, a1, a2, a3, a4, a5, a6, a7, a8, a9, a10, a11, a12, a13, a14, a15, a16, a17, a18, a19, a20, a21, a22, a23, a24, a25, a26, a27, a28, a29, a30))
    (h1 : ∀ s', 2 ≤ d → (p1 = 2 ↔ zb_i sn (nI (d - 1))) → (p0 = 2 ↔ zb_i sn (nI (d - 2))) → (∀ k, k < 32 → (zb_i s' (nI k) ↔ zb_i sn (nI k) ∧ k ≠ d - 1 ∧ k ≠ d - 2)) → (vp_in sn 64 → vp_in s' 64) → post 1 (le, ck, va, nI (d - 2), s', ln, wc, iw, tr, tf, li, tk, tc, lv, ce, sc, gi, pc, a1, a2, a3, a4, a5, a6, a7, a8, a9, a10, a11, a12, a13, a14, a15, a16, a17, a18, a19, a20, a21, a22, a23, a24, a25, a26, a27, a28, a29, a30)) :
    wpX_popTwo post (le, ck, va, nI d, sn, ln, wc, iw, tr, tf, li, tk, tc, lv, ce, sc, gi, pc, a1, a2, a3, a4, a5, a6, a7, a8, a9, a10, a11, a12, a13, a14, a15, a16, a17, a18, a19, a20, a21, a22, a23, a24, a25, a26, a27, a28, a29, a30) p0 p1 := by
  unfold wpX_popTwo
  refine zc_popOne hd hp1 (fun dn sn => br_t rfl (h0 _ _)) (fun s' e hr hb hg => br_f (by decide) ?_)
  refine zc_popOne (d := d - 1) (by omega) hp (fun dn sn => br_t rfl (h0 _ _)) (fun s2 e2 hr2 hb2 hg2 => br_f (by decide) ?_)
  have e3 : d - 1 - 1 = d - 2 := by omega
  rw [e3] at hr2 hb2 ⊢
  refine h1 s2 (by omega) hr ?_ (fun k hk => ?_) (fun g => hg2 (hg g))
  · rw [hr2, hb _ (by omega)]
    exact ⟨fun g => g.1, fun g => ⟨g, by omega⟩⟩
  · rw [hb2 k hk, hb k hk, and_assoc]
theorem zc_nb0 : narrow .boolean (.int 0) = .int 0 := by rfl
theorem zc_nb1 : narrow .boolean (.int 1) = .int 1 := by rfl
theorem zc_eff75 {post : Int32 → St1 → Prop} {o n : Int32} {d w : Nat} (hd : d ≤ 6) (hs : vp_in sn 64) (hw : w < 256) (hq : zc_q2 w) (ho : vp_in o 27) (ho3 : 12 < o) (hn : o = 17 → vp_in n 3)
    (h0 : ∀ dn sn ln, post 0 (le, ck, va, dn, sn, ln, wc, iw, tr, tf, li, tk, tc, lv, ce, sc, gi, pc, a1, a2, a3, a4, a5, a6, a7, a8, a9, a10, a11, a12, a13, a14, a15, a16, a17, a18, a19, a20, a21, a22, a23, a24, a25, a26, a27, a28, a29, a30))
    (h1 : ∀ d' s' w', zc_E o n d sn w d' s' w' → post 1 (le, ck, va, nI d', s', nI w', wc, iw, tr, tf, li, tk, tc, lv, ce, sc, gi, pc, a1, a2, a3, a4, a5, a6, a7, a8, a9, a10, a11, a12, a13, a14, a15, a16, a17, a18, a19, a20, a21, a22, a23, a24, a25, a26, a27, a28, a29, a30)) :
    wX_effect_75 post o le ck va (nI d) sn (nI w) wc iw tr tf li tk tc lv ce sc gi pc a1 a2 a3 a4 a5 a6 a7 a8 a9 a10 a11 a12 a13 a14 a15 a16 a17 a18 a19 a20 a21 a22 a23 a24 a25 a26 a27 a28 a29 a30 := by
  refine br_c (fun e => ?_) (fun e13 => br_c (fun e => ?_) (fun e14 => br_c (fun e => ?_) (fun e15 => br_c (fun e => ?_) (fun e16 => br_c (fun e => ?_) (fun e17 => br_c (fun e => ?_) (fun e18 => br_c (fun e => ?_) (fun e19 => br_c (fun e => ?_) (fun e20 => br_c (fun e => ?_) (fun e21 => br_c (fun e => ?_) (fun e26 => ?_))))))))))
  · -- NOT
    refine zc_popOne hd (Or.inl rfl) (fun dn sn => br_t rfl (h0 _ _ _)) (fun s1 g1 g2 g3 g4 => br_f (by decide) ?_)
    refine zc_push (d := d - 1) (by omega) (fun g => absurd g (by omega)) (fun s2 k1 k2 k3 => br_f (by decide) ?_)
    have e3 : d - 1 + 1 = d := by omega
    rw [e3]
    refine h1 d s2 w ⟨hd, k3 (g4 hs), hw, hq, Or.inr (Or.inr (Or.inr (Or.inr (Or.inr (Or.inl ⟨e, rfl, g1, rfl, fun k hk hb => ?_⟩)))))⟩
    rcases (k2 k (by omega)).mp hb with z | z
    · exact ⟨by omega, ((g3 k (by omega)).mp z.2).1⟩
    · exact absurd z.2 (by decide)
  · -- DUP
    unfold wX_effect_115 wpX_copyEffect
    refine zc_pop hd (fun _ => br_t rfl ⟨zc_nb0, h0 _ _ _⟩) (fun r s1 g1 g2 g3 g4 => br_f ?_ (br_f (by rw [e]; decide) ?_))
    · rcases g2 with z | z <;> rw [z.1] <;> decide
    refine zc_push (d := d - 1) (by omega) (fun g => absurd g (by omega)) (fun s2 k1 k2 k3 => br_f (by decide) ?_)
    refine zc_push (d := d - 1 + 1) (by omega) (fun g => br_t rfl ⟨zc_nb0, h0 _ _ _⟩) (fun s3 l1 l2 l3 => br_f (by decide) ⟨zc_nb1, ?_⟩)
    have e3 : d - 1 + 1 = d := by omega
    rw [e3] at l1 l2 ⊢
    refine h1 (d + 1) s3 w ⟨by omega, l3 (k3 (g4 hs)), hw, hq, Or.inr (Or.inr (Or.inr (Or.inr (Or.inr (Or.inr (Or.inl ⟨e, rfl, g1, rfl, fun k hk hb => ?_⟩))))))⟩
    have hr : r = 2 → zb_i sn (nI (d - 1)) := fun t => by
      rcases g2 with z | z
      · rw [z.1] at t; exact absurd t (by decide)
      · exact z.2
    rcases (l2 k (by omega)).mp hb with z | z
    · rcases (k2 k (by omega)).mp z.2 with y | y
      · exact Or.inr ⟨by omega, ((g3 k (by omega)).mp y.2).1⟩
      · exact Or.inr ⟨by omega, by rw [y.1]; exact hr y.2⟩
    · exact Or.inl ⟨z.1, hr z.2⟩
  · -- POP
    unfold wX_effect_115 wpX_copyEffect
    refine zc_pop hd (fun _ => br_t rfl ⟨zc_nb0, h0 _ _ _⟩) (fun r s1 g1 g2 g3 g4 => br_f ?_ (br_t e ⟨zc_nb1, ?_⟩))
    · rcases g2 with z | z <;> rw [z.1] <;> decide
    refine h1 (d - 1) s1 w ⟨by omega, g4 hs, hw, hq, Or.inr (Or.inr (Or.inr (Or.inr (Or.inr (Or.inr (Or.inr (Or.inl ⟨e, by omega, rfl, fun k hk hb => ?_⟩)))))))⟩
    exact ((g3 k (by omega)).mp hb).1
  · -- SWAP
    unfold wpX_swapEffect
    refine zc_pop hd (fun _ => ?_) (fun r s1 g1 g2 g3 g4 => ?_)
    · refine zc_pop hd (fun _ => br_t rfl ⟨zc_nb0, h0 _ _ _⟩) (fun r s1 g1 g2 g3 g4 => by omega)
    refine zc_pop (d := d - 1) (by omega) (fun _ => br_t rfl ⟨zc_nb0, h0 _ _ _⟩) (fun r2 s2 i1 i2 i3 i4 => br_f ?_ ?_)
    · rcases i2 with z | z <;> rw [z.1] <;> decide
    refine zc_push (d := d - 1 - 1) (by omega) (fun g => absurd g (by omega)) (fun s3 k1 k2 k3 => br_f (by decide) ?_)
    refine zc_push (d := d - 1 - 1 + 1) (by omega) (fun g => absurd g (by omega)) (fun s4 l1 l2 l3 => br_f (by decide) ⟨zc_nb1, ?_⟩)
    have e3 : d - 1 - 1 + 1 + 1 = d := by omega
    have e4 : d - 1 - 1 = d - 2 := by omega
    have e5 : d - 1 - 1 + 1 = d - 1 := by omega
    rw [e3]
    rw [e5] at l2
    rw [e4] at k2 i2 i3
    refine h1 d s4 w ⟨hd, l3 (k3 (i4 (g4 hs))), hw, hq, Or.inr (Or.inr (Or.inr (Or.inr (Or.inr (Or.inr (Or.inr (Or.inr (Or.inl ⟨e, rfl, by omega, rfl, fun k hk hb => ?_⟩))))))))⟩
    have hr : r = 2 → zb_i sn (nI (d - 1)) := fun t => by
      rcases g2 with z | z
      · rw [z.1] at t; exact absurd t (by decide)
      · exact z.2
    have hr2 : r2 = 2 → zb_i sn (nI (d - 2)) := fun t => by
      rcases i2 with z | z
      · rw [z.1] at t; exact absurd t (by decide)
      · exact ((g3 _ (by omega)).mp z.2).1
    rcases (l2 k (by omega)).mp hb with z | z
    · rcases (k2 k (by omega)).mp z.2 with y | y
      · have y1 := (i3 k (by omega)).mp y.2
        exact Or.inr (Or.inr ⟨by omega, ((g3 k (by omega)).mp y1.1).1⟩)
      · exact Or.inr (Or.inl ⟨y.1, hr y.2⟩)
    · exact Or.inl ⟨z.1, hr2 z.2⟩
  · -- ARRAY
    refine zc_push hd (fun g => ⟨zc_nb0, h0 _ _ _⟩) (fun s2 k1 k2 k3 => ⟨zc_nb1, ?_⟩)
    refine h1 (d + 1) s2 w ⟨by omega, k3 hs, hw, hq, Or.inr (Or.inl ⟨e, hn e, rfl, rfl, fun k hk hb => ?_⟩)⟩
    rcases (k2 k (by omega)).mp hb with z | z
    · exact Or.inr ⟨by omega, z.2⟩
    · exact Or.inl z.1
  · -- GET
    refine zc_popTwo hd (Or.inr rfl) (Or.inl rfl) (fun dn sn => br_t rfl (h0 _ _ _)) (fun s1 g1 g2 g2' g3 g4 => br_f (by decide) ?_)
    refine zc_push (d := d - 2) (by omega) (fun g => absurd g (by omega)) (fun s2 k1 k2 k3 => br_f (by decide) ?_)
    refine h1 (d - 2 + 1) s2 w ⟨by omega, k3 (g4 hs), hw, hq, Or.inr (Or.inr (Or.inr (Or.inr (Or.inr (Or.inr (Or.inr (Or.inr (Or.inr (Or.inl ⟨e, by omega, by omega, ?_, rfl, fun k hk hb => ?_⟩)))))))))⟩
    · have e3 : d - 2 + 1 - 1 = d - 2 := by omega
      rw [e3]; exact g2'.mp rfl
    · rcases (k2 k (by omega)).mp hb with z | z
      · exact ⟨by omega, ((g3 k (by omega)).mp z.2).1⟩
      · exact absurd z.2 (by decide)
  · -- PUT
    refine zc_popOne hd (Or.inl rfl) (fun dn sn => br_t rfl (h0 _ _ _)) (fun s1 g1 g2 g3 g4 => br_f (by decide) ?_)
    refine zc_popTwo (d := d - 1) (by omega) (Or.inr rfl) (Or.inl rfl) (fun dn sn => br_t rfl (h0 _ _ _)) (fun s2 i1 i2 i2' i3 i4 => br_f (by decide) ?_)
    refine h1 (d - 1 - 2) s2 w ⟨by omega, i4 (g4 hs), hw, hq, Or.inr (Or.inr (Or.inr (Or.inr (Or.inr (Or.inr (Or.inr (Or.inr (Or.inr (Or.inr (Or.inl ⟨e, by omega, ?_, rfl, fun k hk hb => ?_⟩))))))))))⟩
    · exact ((g3 _ (by omega)).mp (i2'.mp rfl)).1
    · exact ((g3 k (by omega)).mp ((i3 k (by omega)).mp hb).1).1
  · -- EQUAL
    refine zc_popTwo hd (Or.inr rfl) (Or.inr rfl) (fun dn sn => br_t rfl (h0 _ _ _)) (fun s1 g1 g2 g2' g3 g4 => br_f (by decide) ?_)
    refine zc_push (d := d - 2) (by omega) (fun g => absurd g (by omega)) (fun s2 k1 k2 k3 => br_f (by decide) ?_)
    refine h1 (d - 2 + 1) s2 w ⟨by omega, k3 (g4 hs), hw, hq, Or.inr (Or.inr (Or.inr (Or.inr (Or.inl ⟨Or.inr e, by omega, by omega, rfl, fun k hk hb => ?_⟩))))⟩
    rcases (k2 k (by omega)).mp hb with z | z
    · exact ⟨by omega, ((g3 k (by omega)).mp z.2).1⟩
    · exact absurd z.2 (by decide)
  · -- JUMP
    exact h1 d sn w ⟨hd, hs, hw, hq, Or.inr (Or.inr (Or.inr (Or.inr (Or.inr (Or.inr (Or.inr (Or.inr (Or.inr (Or.inr (Or.inr (Or.inl ⟨Or.inl e, rfl, rfl, fun k hk hb => hb⟩)))))))))))⟩
  · -- STOP
    exact h1 d sn w ⟨hd, hs, hw, hq, Or.inr (Or.inr (Or.inr (Or.inr (Or.inr (Or.inr (Or.inr (Or.inr (Or.inr (Or.inr (Or.inr (Or.inl ⟨Or.inr e, rfl, rfl, fun k hk hb => hb⟩)))))))))))⟩
  · -- ZERO ABOVE OUT RETURN
    have hk : o = 22 ∨ o = 23 ∨ o = 24 ∨ o = 25 := by
      obtain ⟨j, hj, rfl⟩ := vp_in_of ho (by omega)
      have c : 12 < j := (nI_ltI (a := 12) (by omega) (by omega)).mp ho3
      have n13 : j ≠ 13 := fun z => e13 (by rw [z]; rfl)
      have n14 : j ≠ 14 := fun z => e14 (by rw [z]; rfl)
      have n15 : j ≠ 15 := fun z => e15 (by rw [z]; rfl)
      have n16 : j ≠ 16 := fun z => e16 (by rw [z]; rfl)
      have n17 : j ≠ 17 := fun z => e17 (by rw [z]; rfl)
      have n18 : j ≠ 18 := fun z => e18 (by rw [z]; rfl)
      have n19 : j ≠ 19 := fun z => e19 (by rw [z]; rfl)
      have n20 : j ≠ 20 := fun z => e20 (by rw [z]; rfl)
      have n21 : j ≠ 21 := fun z => e21 (by rw [z]; rfl)
      have n26 : j ≠ 26 := fun z => e26 (by rw [z]; rfl)
      have c4 : j = 22 ∨ j = 23 ∨ j = 24 ∨ j = 25 := by omega
      rcases c4 with z | z | z | z <;> rw [z]
      · exact Or.inl rfl
      · exact Or.inr (Or.inl rfl)
      · exact Or.inr (Or.inr (Or.inl rfl))
      · exact Or.inr (Or.inr (Or.inr rfl))
    refine zc_popOne hd (Or.inl rfl) (fun dn sn => br_t rfl (h0 _ _ _)) (fun s1 g1 g2 g3 g4 => br_f (by decide) ?_)
    refine h1 (d - 1) s1 w ⟨by omega, g4 hs, hw, hq, Or.inr (Or.inr (Or.inr (Or.inr (Or.inr (Or.inr (Or.inr (Or.inr (Or.inr (Or.inr (Or.inr (Or.inr ⟨hk, by omega, rfl, fun k hk hb => ?_⟩)))))))))))⟩
    exact ((g3 k (by omega)).mp hb).1
theorem zc_effect {post : Int32 → St1 → Prop} {o n : Int32} {d w : Nat} (hd : d ≤ 6) (hs : vp_in sn 64) (hw : w < 256) (hq : zc_q2 w) (ho : vp_in o 27) (hn4 : o = 1 ∨ o = 2 → vp_in n 4) (hn : o = 17 → vp_in n 3)
    (h0 : ∀ dn sn ln, post 0 (le, ck, va, dn, sn, ln, wc, iw, tr, tf, li, tk, tc, lv, ce, sc, gi, pc, a1, a2, a3, a4, a5, a6, a7, a8, a9, a10, a11, a12, a13, a14, a15, a16, a17, a18, a19, a20, a21, a22, a23, a24, a25, a26, a27, a28, a29, a30))
    (h1 : ∀ d' s' w', zc_E o n d sn w d' s' w' → post 1 (le, ck, va, nI d', s', nI w', wc, iw, tr, tf, li, tk, tc, lv, ce, sc, gi, pc, a1, a2, a3, a4, a5, a6, a7, a8, a9, a10, a11, a12, a13, a14, a15, a16, a17, a18, a19, a20, a21, a22, a23, a24, a25, a26, a27, a28, a29, a30)) :
    wpX_effect post (le, ck, va, nI d, sn, nI w, wc, iw, tr, tf, li, tk, tc, lv, ce, sc, gi, pc, a1, a2, a3, a4, a5, a6, a7, a8, a9, a10, a11, a12, a13, a14, a15, a16, a17, a18, a19, a20, a21, a22, a23, a24, a25, a26, a27, a28, a29, a30) o n := by
  refine br_c (fun e => ?_) (fun e0 => br_c (fun e => ?_) (fun e1 => br_c (fun e => ?_) (fun e2 => br_c (fun e3 => ?_) (fun e3 => br_c (fun e4 => ?_) (fun e4 => ?_)))))
  · -- PUSH
    refine zc_push hd (fun g => ⟨zc_nb0, h0 _ _ _⟩) (fun s2 k1 k2 k3 => ⟨zc_nb1, ?_⟩)
    refine h1 (d + 1) s2 w ⟨by omega, k3 hs, hw, hq, Or.inl ⟨e, rfl, rfl, fun k hk hb => ?_⟩⟩
    rcases (k2 k (by omega)).mp hb with z | z
    · exact ⟨by omega, z.2⟩
    · exact absurd z.2 (by decide)
  · -- LOAD
    obtain ⟨m, hm, en⟩ := vp_in_of (hn4 (Or.inl e)) (by omega)
    rw [en, zc_qs w hw m hm]
    refine br_c (fun z => ⟨zc_nb0, h0 _ _ _⟩) (fun z => ?_)
    refine zc_push hd (fun g => br_t rfl ⟨zc_nb0, h0 _ _ _⟩) (fun s2 k1 k2 k3 => br_f (by decide) ⟨zc_nb1, ?_⟩)
    refine h1 (d + 1) s2 w ⟨by omega, k3 hs, hw, hq, Or.inr (Or.inr (Or.inl ⟨e, m, hm, en, rfl, rfl, fun k hk hb => ?_⟩))⟩
    rcases (k2 k (by omega)).mp hb with y | y
    · exact Or.inr ⟨by omega, y.2⟩
    · exact Or.inl ⟨y.1, (nI_eq (by have := zc_q4 w m; omega) (by omega)).mp y.2⟩
  · -- STORE
    obtain ⟨m, hm, en⟩ := vp_in_of (hn4 (Or.inr e)) (by omega)
    rw [en]
    unfold wpX_storeEffect
    refine zc_pop hd (fun _ => nm_e (br_t rfl ⟨zc_nb0, h0 _ _ _⟩)) (fun r s1 g1 g2 g3 g4 => ?_)
    have hr : ∃ q, r = nI q ∧ 0 < q ∧ q < 3 ∧ (q = 2 → zb_i sn (nI (d - 1))) := by
      rcases g2 with z | z
      · exact ⟨1, z.1, by omega, by omega, fun t => by omega⟩
      · exact ⟨2, z.1, by omega, by omega, fun _ => z.2⟩
    obtain ⟨q, hr1, hr0, hr3, hr2⟩ := hr
    rw [hr1]
    refine nm_r (zc_sto w hw m hm q hr3) (br_f (nI_ne0 hr0 (by omega)) ⟨zc_nb1, ?_⟩)
    refine h1 (d - 1) s1 (zc_set w m q) ⟨by omega, g4 hs, zc_set_lt w hw m hm q hr3, fun j hj => ?_, Or.inr (Or.inr (Or.inr (Or.inl ⟨e, m, hm, en, by omega, fun k hk hb => ((g3 k (by omega)).mp hb).1, fun j hj hb => ?_⟩)))⟩
    · rw [zc_set_q w hw m hm q hr3 j hj]
      split
      · omega
      · exact hq j hj
    · rw [zc_set_q w hw m hm q hr3 j hj] at hb
      by_cases z : j = m
      · rw [if_pos z] at hb; exact Or.inl ⟨z, hr2 hb⟩
      · rw [if_neg z] at hb; exact Or.inr ⟨z, hb⟩
  · exfalso
    obtain ⟨j, hj, rfl⟩ := vp_in_of ho (by omega)
    have c : j < 3 := (nI_ltI (b := 3) (by omega) (by omega)).mp e3
    have n0 : j ≠ 0 := fun z => e0 (by rw [z]; rfl)
    have n1 : j ≠ 1 := fun z => e1 (by rw [z]; rfl)
    have n2 : j ≠ 2 := fun z => e2 (by rw [z]; rfl)
    omega
  · exact zc_eff75 hd hs hw hq ho e4 hn h0 h1
  · refine zc_popTwo hd (Or.inl rfl) (Or.inl rfl) (fun dn sn => br_t rfl (h0 _ _ _)) (fun s1 g1 g2 g2' g3 g4 => br_f (by decide) ?_)
    refine zc_push (d := d - 2) (by omega) (fun g => absurd g (by omega)) (fun s2 k1 k2 k3 => br_f (by decide) ?_)
    refine h1 (d - 2 + 1) s2 w ⟨by omega, k3 (g4 hs), hw, hq, Or.inr (Or.inr (Or.inr (Or.inr (Or.inl ⟨Or.inl ⟨e3, e4⟩, by omega, by omega, rfl, fun k hk hb => ?_⟩))))⟩
    rcases (k2 k (by omega)).mp hb with z | z
    · exact ⟨by omega, ((g3 k (by omega)).mp z.2).1⟩
    · exact absurd z.2 (by decide)
end
end
section
/-! the checker: passing states on, the loop over the waiting places -/
section
variable {le ck va dn sn ln wc tr tf li tk tc lv ce sc gi pc : Int32} {iw : Int64} {a1 a2 a3 a4 a5 a6 a7 a8 a9 a10 a11 a12 a13 a14 a15 a16 a17 a18 a19 a20 a21 a22 a23 a24 a25 a26 a27 a28 a29 a30 : Nat → Int32}
theorem zc_look {post : St1 → Prop} {n j c : Nat} (hj : j < n) (hn : n ≤ 40) (hv : a3 j ≠ -1) (hQ : zc_Q n a3 a6 c iw)
    (h : ∀ a6' c' iw', zc_Q n a3 a6' c' iw' → (∀ k, k < 40 → (zc_b iw' k = true ↔ zc_b iw k = true ∨ k = j)) → c' ≤ c + 1 → post (le, ck, va, dn, sn, ln, nI c', iw', tr, tf, li, tk, tc, lv, ce, sc, gi, pc, a1, a2, a3, a4, a5, a6', a7, a8, a9, a10, a11, a12, a13, a14, a15, a16, a17, a18, a19, a20, a21, a22, a23, a24, a25, a26, a27, a28, a29, a30)) :
    wpX_lookAgain post (le, ck, va, dn, sn, ln, nI c, iw, tr, tf, li, tk, tc, lv, ce, sc, gi, pc, a1, a2, a3, a4, a5, a6, a7, a8, a9, a10, a11, a12, a13, a14, a15, a16, a17, a18, a19, a20, a21, a22, a23, a24, a25, a26, a27, a28, a29, a30) (nI j) := by
  have hj40 : j < 40 := by omega
  refine br_c (fun z => ?_) (fun z => ?_)
  · have hb := (zc_bt hj40).mp z
    have hc : c < 40 := by rw [hQ.1]; exact zc_n_lt hj40 hb
    refine nm_e ⟨zb_in hc, nm_r (e' := upd a6 c (nI j)) (by rw [zb_cl hc, zb_b (zb_in (by omega))]) (nm_r (nI_1 c) (h _ _ _ ⟨?_, ?_, ?_, ?_⟩ (fun k hk => ?_) (Nat.le_refl _)))⟩
    · rw [zc_n_set hj40 hb, hQ.1]
    · intro k hk
      by_cases e : k = c
      · rw [e, pk_us]
        exact ⟨vp_in_nI hj (by omega), by rw [zb_cl hj40, zc_bset _ hj40 hj40]; simp⟩
      · rw [pk_un e]
        obtain ⟨g1, g2⟩ := hQ.2.1 k (by omega)
        exact ⟨g1, by rw [zc_bset _ hj40 (by have := zb_lt g1; omega), g2]; rfl⟩
    · intro i k h1 h2
      by_cases e : k = c
      · rw [e, pk_us, pk_un (by omega)]
        obtain ⟨g1, g2⟩ := hQ.2.1 i (by omega)
        intro t
        rw [t, zb_cl hj40, hb] at g2
        exact absurd g2 (by decide)
      · rw [pk_un e, pk_un (by omega)]
        exact hQ.2.2.1 i k h1 (by omega)
    · intro k hk g
      rw [zc_bset _ hj40 (by omega)] at g
      by_cases e : k = j
      · rw [e]; exact hv
      · exact hQ.2.2.2 k hk (by simpa [e] using g)
    · rw [zc_bset _ hj40 hk]; simp
  · have hb : zc_b iw j = true := by
      cases g : zc_b iw j
      · exact absurd ((zc_bt hj40).mpr g) z
      · rfl
    exact h _ _ _ hQ (fun k hk => ⟨Or.inl, fun g => g.elim id (fun g => by rw [g]; exact hb)⟩) (by omega)
theorem zc_pass {post : Int32 → St1 → Prop} {t : Int32} {n d w c : Nat} (hn : n ≤ 40) (hd : d ≤ 6) (hs : vp_in sn 64) (hw : w < 256) (hq : zc_q2 w) (hV : zc_V n a3 a4 a5) (hQ : zc_Q n a3 a6 c iw)
    (h0 : post 0 (nI n, ck, va, nI d, sn, nI w, nI c, iw, tr, tf, li, tk, tc, lv, ce, sc, gi, pc, a1, a2, a3, a4, a5, a6, a7, a8, a9, a10, a11, a12, a13, a14, a15, a16, a17, a18, a19, a20, a21, a22, a23, a24, a25, a26, a27, a28, a29, a30))
    (h1 : ∀ b3 b4 b5 b6 c' iw', zc_V n b3 b4 b5 → zc_Q n b3 b6 c' iw' → zc_le n a3 a4 a5 b3 b4 b5 → zc_fl n b3 b4 b5 t d sn w → (∀ k, k < 40 → zc_b iw k = true → zc_b iw' k = true) →
      (∀ k, k < n → zc_b iw' k = false → b3 k = a3 k ∧ b4 k = a4 k ∧ b5 k = a5 k) → 2 * zc_pot n b3 b5 + c' ≤ 2 * zc_pot n a3 a5 + c → post 1 (nI n, ck, va, nI d, sn, nI w, nI c', iw', tr, tf, li, tk, tc, lv, ce, sc, gi, pc, a1, a2, b3, b4, b5, b6, a7, a8, a9, a10, a11, a12, a13, a14, a15, a16, a17, a18, a19, a20, a21, a22, a23, a24, a25, a26, a27, a28, a29, a30)) :
    wpX_pass post (nI n, ck, va, nI d, sn, nI w, nI c, iw, tr, tf, li, tk, tc, lv, ce, sc, gi, pc, a1, a2, a3, a4, a5, a6, a7, a8, a9, a10, a11, a12, a13, a14, a15, a16, a17, a18, a19, a20, a21, a22, a23, a24, a25, a26, a27, a28, a29, a30) t := by
  refine br_c (fun z => h0) (fun z => br_c (fun z2 => ?_) (fun _ => h0))
  have ht : vp_in t n := zb_lt_of z z2 (by omega)
  obtain ⟨j, hj, rfl⟩ := vp_in_of ht (by omega)
  have hj40 : j < 40 := by omega
  have cj : (nI j).toNatClampNeg = j := zb_cl hj40
  have vj : vp_in (nI j) 40 := zb_in hj40
  refine ⟨vj, ?_⟩
  rcases hV j hj with hm | ⟨d0, s0, w0, hat⟩
  · refine br_f (by rw [cj, hm]; decide) ⟨vj, nm_r (e' := upd a3 j (nI d)) (by rw [cj, zb_b (zb_in (by omega))]) ⟨vj, nm_r (e' := upd a4 j sn) (by rw [cj, zb_b (zb_mono hs (by omega))]) ⟨vj, nm_r (e' := upd a5 j (nI w)) (by rw [cj, zb_s (zb_in (by omega))]) ?_⟩⟩⟩
    refine zc_look hj hn (by rw [pk_us]; exact zb_ne1 (zb_in (n := d) (N := 7) (by omega))) (zc_Q_up hQ (fun k hk g => ?_)) (fun a6' c' iw' q1 q2 q3 => ?_)
    · by_cases e : k = j
      · rw [e]; exact absurd hm (by rw [e] at g; exact g)
      · rw [pk_un e]; exact g
    have hat' : zc_at (upd a3 j (nI d)) (upd a4 j sn) (upd a5 j (nI w)) j d sn w := ⟨pk_us, pk_us, pk_us, hd, hs, hw, hq⟩
    have hoth' : ∀ k, k ≠ j → ∀ e f g, zc_at a3 a4 a5 k e f g → zc_at (upd a3 j (nI d)) (upd a4 j sn) (upd a5 j (nI w)) k e f g := fun k hk e f g y => by
      unfold zc_at
      rw [pk_un hk, pk_un hk, pk_un hk]; exact y
    refine h1 _ _ _ a6' c' iw' (fun k hk => ?_) q1 (fun k hk e f g y => ?_) ⟨ht, w, by rw [cj]; exact hat', zc_lo_r w⟩ (fun k hk g => (q2 k hk).mpr (Or.inl g)) (fun k hk g => ?_) ?_
    · by_cases e : k = j
      · rw [e]; exact Or.inr ⟨d, sn, w, hat'⟩
      · rcases hV k hk with y | ⟨x1, x2, x3, y⟩
        · exact Or.inl (by rw [pk_un e]; exact y)
        · exact Or.inr ⟨x1, x2, x3, hoth' k e _ _ _ y⟩
    · by_cases e' : k = j
      · rw [e'] at y
        exact absurd (y.1.symm.trans hm) (fun z => by
          have := congrArg (fun x => decide (x < 0)) z
          simp only [decide_eq_decide] at this
          exact nI_pos (by have := y.2.2.2.1; omega) (this.mpr (by decide)))
      · exact ⟨g, hoth' k e' _ _ _ y, zc_lo_r g⟩
    · have hkj : k ≠ j := fun e => by
        have := (q2 k (by omega)).mpr (Or.inr e)
        rw [g] at this
        exact absurd this (by decide)
      rw [pk_un hkj, pk_un hkj, pk_un hkj]
      exact ⟨rfl, rfl, rfl⟩
    · have := zb_sm_set (f := fun k => if upd a3 j (nI d) k = -1 then 256 else (upd a5 j (nI w) k).toNatClampNeg) (g := fun k => if a3 k = -1 then 256 else (a5 k).toNatClampNeg) (n := n) (i := j)
        (fun k hk hne => by (try dsimp only); rw [pk_un hne, pk_un hne]) hj
      (try dsimp only at this)
      rw [pk_us, pk_us, if_pos hm, if_neg (zb_ne1 (zb_in (n := d) (N := 7) (by omega))), zb_cl (n := w) (N := 256) hw] at this
      unfold zc_pot
      omega
  · obtain ⟨y1, y2, y3, y4, y5, y6, y7⟩ := hat
    have hat0 : zc_at a3 a4 a5 j d0 s0 w0 := ⟨y1, y2, y3, y4, y5, y6, y7⟩
    refine br_t (by rw [cj, y1]; exact nI_pos' (by omega)) ⟨vj, pk_eq d0 d (fun ed => ⟨vj, br_c (fun es => ?_) (fun _ => h0)⟩) (fun _ => h0) (by rw [cj]; exact y1) rfl⟩
    rw [cj, y2] at es
    subst ed
    subst es
    refine pk_loop (σ := Unit) (fun m i _ => wX_pass_95 post (nI j) (nI n) ck va (nI d0) s0 (nI w) (nI c) iw tr tf li tk tc lv ce sc gi pc a1 a2 a3 a4 a5 a6 a7 a8 a9 a10 a11 a12 a13 a14 a15 a16 a17 a18 a19 a20 a21 a22 a23 a24 a25 a26 a27 a28 a29 a30 m (nI (zc_mg w0 w i)) (nI i)) (fun _ _ => True) 4 0 () (by omega) trivial ?_ ?_
    · intro m _ _
      refine pk_le 4 4 (fun _ => ⟨vj, br_c (fun e => ?_) (fun e => ⟨vj, ?_⟩)⟩) (fun g => absurd g (by omega))
      · refine h1 a3 a4 a5 a6 c iw hV hQ (zc_le_r _ _ _ _) ⟨ht, w0, by rw [cj]; exact hat0, ?_⟩ (fun _ _ g => g) (fun _ _ _ => ⟨rfl, rfl, rfl⟩) (Nat.le_refl _)
        rw [cj, y3] at e
        have l4 := zc_mg_lt w0 w 4
        have e2 : zc_mg w0 w 4 = w0 := (nI_eq (by omega) (by omega)).mp e
        have := zc_lo_mg2 w0 w
        rw [e2] at this
        exact this
      · have l4 := zc_mg_lt w0 w 4
        have l5 : zc_mg w0 w 4 < 256 := by omega
        have hne : zc_mg w0 w 4 ≠ w0 := fun z => e (by rw [cj, y3, z])
        have hle := zc_mg_le w y6
        refine nm_r (e' := upd a5 j (nI (zc_mg w0 w 4))) (by rw [cj, zb_s (zb_in (by omega))]) ?_
        refine zc_look hj hn (by rw [y1]; exact zb_ne1 (zb_in (n := d0) (N := 7) (by omega))) hQ (fun a6' c' iw' q1 q2 q3 => ?_)
        have hat' : zc_at a3 a4 (upd a5 j (nI (zc_mg w0 w 4))) j d0 s0 (zc_mg w0 w 4) := ⟨y1, y2, pk_us, hd, hs, l5, zc_lo_q2 (zc_lo_mg1 w0 w) y7⟩
        have hoth' : ∀ k, k ≠ j → ∀ e f g, zc_at a3 a4 a5 k e f g → zc_at a3 a4 (upd a5 j (nI (zc_mg w0 w 4))) k e f g := fun k hk e f g y => by
          unfold zc_at
          rw [pk_un hk]; exact y
        refine h1 _ _ _ a6' c' iw' (fun k hk => ?_) q1 (fun k hk e f g y => ?_) ⟨ht, _, by rw [cj]; exact hat', zc_lo_mg2 w0 w⟩ (fun k hk g => (q2 k hk).mpr (Or.inl g)) (fun k hk g => ?_) ?_
        · by_cases e : k = j
          · rw [e]; exact Or.inr ⟨_, _, _, hat'⟩
          · rcases hV k hk with y | ⟨x1, x2, x3, y⟩
            · exact Or.inl y
            · exact Or.inr ⟨x1, x2, x3, hoth' k e _ _ _ y⟩
        · by_cases e' : k = j
          · rw [e'] at y ⊢
            obtain ⟨x1, x2, x3, x4, x5, x6, x7⟩ := y
            have ed : d0 = e := (nI_eq (by omega) (by omega)).mp (y1.symm.trans x1)
            have ew : w0 = g := (nI_eq (by omega) (by omega)).mp (y3.symm.trans x3)
            have es : s0 = f := y2.symm.trans x2
            subst ed; subst ew; subst es
            exact ⟨_, hat', zc_lo_mg1 w0 w⟩
          · exact ⟨g, hoth' k e' _ _ _ y, zc_lo_r g⟩
        · have hkj : k ≠ j := fun e => by
            have := (q2 k (by omega)).mpr (Or.inr e)
            rw [g] at this
            exact absurd this (by decide)
          rw [pk_un hkj]
          exact ⟨rfl, rfl, rfl⟩
        · have := zb_sm_set (f := fun k => if a3 k = -1 then 256 else (upd a5 j (nI (zc_mg w0 w 4)) k).toNatClampNeg) (g := fun k => if a3 k = -1 then 256 else (a5 k).toNatClampNeg) (n := n) (i := j)
            (fun k hk hne => by (try dsimp only); rw [pk_un hne]) hj
          have hn1 : ¬ a3 j = -1 := by rw [y1]; exact zb_ne1 (zb_in (n := d0) (N := 7) (by omega))
          (try dsimp only at this)
          rw [pk_us, if_neg hn1, if_neg hn1, y3, zb_cl (n := w0) (N := 256) y6, zb_cl (n := zc_mg w0 w 4) (N := 256) l5] at this
          unfold zc_pot
          omega
    · intro m i _ hi _ hm
      have q1 := zc_q4 w0 i
      have q2 := zc_q4 w i
      have lm := zc_mg_lt w0 w i
      refine pk_le 4 i (fun g => absurd g (by omega)) (fun _ => ⟨vj, nm_r (e' := nI (zc_q w0 i)) (by rw [cj, y3]; exact zc_qs w0 y6 i hi) (nm_r (e' := nI (zc_q w i)) (zc_qs w hw i hi) (pk_eq (zc_q w0 i) (zc_q w i) (fun e => ?_) (fun e => ?_)))⟩)
      · refine nm_r (e' := nI (zc_mg w0 w (i + 1))) ?_ (nm_r (nI_1 i) (hm () trivial))
        rw [zc_orr i hi _ q1 _ lm]
        show _ = nI (zc_mg w0 w i + _)
        rw [if_pos e]
      · refine nm_r (nI_1 i) ?_
        have := hm () trivial
        have e2 : zc_mg w0 w (i + 1) = zc_mg w0 w i := by
          show zc_mg w0 w i + _ = _
          rw [if_neg e]; rfl
        (try dsimp only at this)
        rw [e2] at this
        exact this
end
end
section
/-! the checker: follow, check, valid, and what reads the states -/
theorem zc_at_u {a3 a4 a5 : Nat → Int32} {j d e : Nat} {s t : Int32} {w v : Nat} (h : zc_at a3 a4 a5 j d s w) (g : zc_at a3 a4 a5 j e t v) : d = e ∧ s = t ∧ w = v := by
  obtain ⟨h1, h2, h3, h4, h5, h6, h7⟩ := h
  obtain ⟨g1, g2, g3, g4, g5, g6, g7⟩ := g
  exact ⟨(nI_eq (by omega) (by omega)).mp (h1.symm.trans g1), h2.symm.trans g2, (nI_eq (by omega) (by omega)).mp (h3.symm.trans g3)⟩
theorem zc_at_n {a3 a4 a5 : Nat → Int32} {j d : Nat} {s : Int32} {w : Nat} (h : zc_at a3 a4 a5 j d s w) : a3 j ≠ -1 := by
  rw [h.1]
  exact zb_ne1 (zb_in (n := d) (N := 7) (by have := h.2.2.2.1; omega))
theorem zc_cl_le {n : Nat} {a1 a2 a3 a4 a5 b3 b4 b5 : Nat → Int32} {j : Nat} (h : zc_le n a3 a4 a5 b3 b4 b5) (hu : b3 j = a3 j ∧ b4 j = a4 j ∧ b5 j = a5 j) (g : zc_cl n a1 a2 a3 a4 a5 j) : zc_cl n a1 a2 b3 b4 b5 j := by
  obtain ⟨d, s, w, d', s', w', g1, g2, g3, g4⟩ := g
  refine ⟨d, s, w, d', s', w', ?_, g2, fun z => zc_fl_le h (g3 z), fun z1 z2 z3 => zc_fl_le h (g4 z1 z2 z3)⟩
  unfold zc_at
  rw [hu.1, hu.2.1, hu.2.2]
  exact g1
section
variable {le ck va dn sn ln wc tr tf li tk tc lv ce sc gi pc : Int32} {iw : Int64} {a1 a2 a3 a4 a5 a6 a7 a8 a9 a10 a11 a12 a13 a14 a15 a16 a17 a18 a19 a20 a21 a22 a23 a24 a25 a26 a27 a28 a29 a30 : Nat → Int32}
theorem zc_follow {post : Int32 → St1 → Prop} {n j d w c : Nat} (hn : n ≤ 40) (hj : j < n) (hP : zc_P n a1 a2) (hat : zc_at a3 a4 a5 j d sn w) (hV : zc_V n a3 a4 a5) (hQ : zc_Q n a3 a6 c iw)
    (h0 : ∀ dn sn ln wc iw a3 a4 a5 a6, post 0 (nI n, ck, va, dn, sn, ln, wc, iw, tr, tf, li, tk, tc, lv, ce, sc, gi, pc, a1, a2, a3, a4, a5, a6, a7, a8, a9, a10, a11, a12, a13, a14, a15, a16, a17, a18, a19, a20, a21, a22, a23, a24, a25, a26, a27, a28, a29, a30))
    (h1 : ∀ dn sn ln b3 b4 b5 b6 c' iw', zc_V n b3 b4 b5 → zc_Q n b3 b6 c' iw' → zc_le n a3 a4 a5 b3 b4 b5 → (∀ k, k < 40 → zc_b iw k = true → zc_b iw' k = true) →
      (∀ k, k < n → zc_b iw' k = false → b3 k = a3 k ∧ b4 k = a4 k ∧ b5 k = a5 k) → (zc_b iw' j = false → zc_cl n a1 a2 b3 b4 b5 j) → 2 * zc_pot n b3 b5 + c' ≤ 2 * zc_pot n a3 a5 + c → post 1 (nI n, ck, va, dn, sn, ln, nI c', iw', tr, tf, li, tk, tc, lv, ce, sc, gi, pc, a1, a2, b3, b4, b5, b6, a7, a8, a9, a10, a11, a12, a13, a14, a15, a16, a17, a18, a19, a20, a21, a22, a23, a24, a25, a26, a27, a28, a29, a30)) :
    wpX_follow post (nI n, ck, va, nI d, sn, nI w, nI c, iw, tr, tf, li, tk, tc, lv, ce, sc, gi, pc, a1, a2, a3, a4, a5, a6, a7, a8, a9, a10, a11, a12, a13, a14, a15, a16, a17, a18, a19, a20, a21, a22, a23, a24, a25, a26, a27, a28, a29, a30) (nI j) := by
  have hj40 : j < 40 := by omega
  have cj : (nI j).toNatClampNeg = j := zb_cl hj40
  have vj : vp_in (nI j) 40 := zb_in hj40
  obtain ⟨p1, p2, p3⟩ := hP j hj
  obtain ⟨y1, y2, y3, y4, y5, y6, y7⟩ := hat
  have hat : zc_at a3 a4 a5 j d sn w := ⟨y1, y2, y3, y4, y5, y6, y7⟩
  refine ⟨vj, nm_r (e' := a1 j) (by rw [cj]) ⟨vj, ?_⟩⟩
  have c2 : a2 (nI j).toNatClampNeg = a2 j := by rw [cj]
  rw [c2]
  refine zc_effect y4 y5 y6 y7 p1 p2 p3 (fun dn sn ln => br_t rfl (h0 _ _ _ _ _ _ _ _ _)) (fun d' s' w' hE => br_f (by decide) ?_)
  have hE4 : d' ≤ 6 ∧ vp_in s' 64 ∧ w' < 256 ∧ zc_q2 w' := ⟨hE.1, hE.2.1, hE.2.2.1, hE.2.2.2.1⟩
  -- the second half: to the next place, or nowhere
  have half : ∀ b3 b4 b5 b6 c' iw', zc_V n b3 b4 b5 → zc_Q n b3 b6 c' iw' → zc_le n a3 a4 a5 b3 b4 b5 → (∀ k, k < 40 → zc_b iw k = true → zc_b iw' k = true) →
      (∀ k, k < n → zc_b iw' k = false → b3 k = a3 k ∧ b4 k = a4 k ∧ b5 k = a5 k) → (a1 j = 21 ∨ a1 j = 22 ∨ a1 j = 23 → zc_fl n b3 b4 b5 (a2 j) d' s' w') → 2 * zc_pot n b3 b5 + c' ≤ 2 * zc_pot n a3 a5 + c →
      wX_follow_66 post (nI j) (a1 j) (nI n) ck va (nI d') s' (nI w') (nI c') iw' tr tf li tk tc lv ce sc gi pc a1 a2 b3 b4 b5 b6 a7 a8 a9 a10 a11 a12 a13 a14 a15 a16 a17 a18 a19 a20 a21 a22 a23 a24 a25 a26 a27 a28 a29 a30 := by
    intro b3 b4 b5 b6 c' iw' v1 v2 v3 v4 v5 v6 v7
    have fin : (a1 j ≠ 21 → a1 j ≠ 25 → a1 j ≠ 26 → False) → post 1 (nI n, ck, va, nI d', s', nI w', nI c', iw', tr, tf, li, tk, tc, lv, ce, sc, gi, pc, a1, a2, b3, b4, b5, b6, a7, a8, a9, a10, a11, a12, a13, a14, a15, a16, a17, a18, a19, a20, a21, a22, a23, a24, a25, a26, a27, a28, a29, a30) := fun hne =>
      h1 _ _ _ b3 b4 b5 b6 c' iw' v1 v2 v3 v4 v5 (fun g => ⟨d, sn, w, d', s', w', by
        unfold zc_at
        obtain ⟨u1, u2, u3⟩ := v5 j hj g
        rw [u1, u2, u3]
        exact hat, hE, v6, fun z1 z2 z3 => (hne z1 z2 z3).elim⟩) v7
    refine br_c (fun e => fin (fun z _ _ => z e)) (fun e21 => br_c (fun e => fin (fun _ z _ => z e)) (fun e25 => br_c (fun e => fin (fun _ _ z => z e)) (fun e26 => ?_)))
    rw [nI_1]
    refine zc_pass hn hE4.1 hE4.2.1 hE4.2.2.1 hE4.2.2.2 v1 v2 (br_t rfl (h0 _ _ _ _ _ _ _ _ _)) (fun c3 c4 c5 c6 c'' iw'' x1 x2 x3 x4 x5 x6 x7 => br_f (by decide) ?_)
    have xle := zc_le_t v3 x3
    have xun : ∀ k, k < n → zc_b iw'' k = false → c3 k = a3 k ∧ c4 k = a4 k ∧ c5 k = a5 k := fun k hk g => by
      obtain ⟨u1, u2, u3⟩ := x6 k hk g
      have g' : zc_b iw' k = false := by
        cases t : zc_b iw' k
        · rfl
        · rw [x5 k (by omega) t] at g; exact absurd g (by decide)
      obtain ⟨t1, t2, t3⟩ := v5 k hk g'
      exact ⟨u1.trans t1, u2.trans t2, u3.trans t3⟩
    refine h1 _ _ _ c3 c4 c5 c6 c'' iw'' x1 x2 xle (fun k hk g => x5 k hk (v4 k hk g)) xun (fun g => ⟨d, sn, w, d', s', w', ?_, hE, fun z => zc_fl_le x3 (v6 z), fun _ _ _ => x4⟩) (by omega)
    unfold zc_at
    obtain ⟨u1, u2, u3⟩ := xun j hj g
    rw [u1, u2, u3]
    exact hat
  have jump : (a1 j = 21 ∨ a1 j = 22 ∨ a1 j = 23) → wX_follow_46 post (nI j) (a1 j) 1 (nI n) ck va (nI d') s' (nI w') (nI c) iw tr tf li tk tc lv ce sc gi pc a1 a2 a3 a4 a5 a6 a7 a8 a9 a10 a11 a12 a13 a14 a15 a16 a17 a18 a19 a20 a21 a22 a23 a24 a25 a26 a27 a28 a29 a30 := fun he => by
    refine br_f (by decide) ⟨vj, ?_⟩
    rw [c2]
    refine zc_pass hn hE4.1 hE4.2.1 hE4.2.2.1 hE4.2.2.2 hV hQ (br_t rfl (h0 _ _ _ _ _ _ _ _ _)) (fun c3 c4 c5 c6 c'' iw'' x1 x2 x3 x4 x5 x6 x7 => br_f (by decide) ?_)
    exact half c3 c4 c5 c6 c'' iw'' x1 x2 x3 x5 x6 (fun _ => x4) x7
  refine br_c (fun e => jump (Or.inl e)) (fun e21 => br_c (fun e => jump (Or.inr (Or.inl e))) (fun e22 => br_c (fun e => jump (Or.inr (Or.inr e))) (fun e23 => ?_)))
  refine br_t rfl (half a3 a4 a5 a6 c iw hV hQ (zc_le_r _ _ _ _) (fun _ _ g => g) (fun _ _ _ => ⟨rfl, rfl, rfl⟩) (fun z => ?_) (Nat.le_refl _))
  exact z.elim (fun z => absurd z e21) (fun z => z.elim (fun z => absurd z e22) (fun z => absurd z e23))
/-- the checked program -/
def zc_OK (n : Nat) (a1 a2 a3 a4 a5 : Nat → Int32) : Prop := 0 < n ∧ zc_V n a3 a4 a5 ∧ (∀ j, j < n → a3 j ≠ -1 → zc_cl n a1 a2 a3 a4 a5 j) ∧ zc_0 a3 a4 a5
theorem zc_loop {post : Int32 → St1 → Prop} {n : Nat} (hn : n ≤ 40) (h0n : 0 < n) (hP : zc_P n a1 a2)
    (h0 : ∀ dn sn ln wc iw a3 a4 a5 a6, post 0 (nI n, ck, va, dn, sn, ln, wc, iw, tr, tf, li, tk, tc, lv, ce, sc, gi, pc, a1, a2, a3, a4, a5, a6, a7, a8, a9, a10, a11, a12, a13, a14, a15, a16, a17, a18, a19, a20, a21, a22, a23, a24, a25, a26, a27, a28, a29, a30))
    (h1 : ∀ dn sn ln wc iw a3 a4 a5 a6, zc_OK n a1 a2 a3 a4 a5 → post 1 (nI n, ck, va, dn, sn, ln, wc, iw, tr, tf, li, tk, tc, lv, ce, sc, gi, pc, a1, a2, a3, a4, a5, a6, a7, a8, a9, a10, a11, a12, a13, a14, a15, a16, a17, a18, a19, a20, a21, a22, a23, a24, a25, a26, a27, a28, a29, a30)) (r : Int32)
    (hI : r = 0 ∨ (r = 1 ∧ zc_V n a3 a4 a5 ∧ (∃ c, wc = nI c ∧ zc_Q n a3 a6 c iw) ∧ zc_C n a1 a2 a3 a4 a5 iw ∧ zc_0 a3 a4 a5)) :
    ∃ fu, wX_check_54 post fu r (nI n) ck va dn sn ln wc iw tr tf li tk tc lv ce sc gi pc a1 a2 a3 a4 a5 a6 a7 a8 a9 a10 a11 a12 a13 a14 a15 a16 a17 a18 a19 a20 a21 a22 a23 a24 a25 a26 a27 a28 a29 a30 := by
  refine loop_m (σ := Int32 × Int32 × Int32 × Int32 × Int32 × Int64 × (Nat → Int32) × (Nat → Int32) × (Nat → Int32) × (Nat → Int32))
    (fun m s => wX_check_54 post m s.1 (nI n) ck va s.2.1 s.2.2.1 s.2.2.2.1 s.2.2.2.2.1 s.2.2.2.2.2.1 tr tf li tk tc lv ce sc gi pc a1 a2 s.2.2.2.2.2.2.1 s.2.2.2.2.2.2.2.1 s.2.2.2.2.2.2.2.2.1 s.2.2.2.2.2.2.2.2.2 a7 a8 a9 a10 a11 a12 a13 a14 a15 a16 a17 a18 a19 a20 a21 a22 a23 a24 a25 a26 a27 a28 a29 a30)
    (fun s => s.1 = 0 ∨ (s.1 = 1 ∧ zc_V n s.2.2.2.2.2.2.1 s.2.2.2.2.2.2.2.1 s.2.2.2.2.2.2.2.2.1 ∧ (∃ c, s.2.2.2.2.1 = nI c ∧ zc_Q n s.2.2.2.2.2.2.1 s.2.2.2.2.2.2.2.2.2 c s.2.2.2.2.2.1) ∧ zc_C n a1 a2 s.2.2.2.2.2.2.1 s.2.2.2.2.2.2.2.1 s.2.2.2.2.2.2.2.2.1 s.2.2.2.2.2.1 ∧ zc_0 s.2.2.2.2.2.2.1 s.2.2.2.2.2.2.2.1 s.2.2.2.2.2.2.2.2.1))
    (fun s => if s.1 = 0 then 0 else 2 * zc_pot n s.2.2.2.2.2.2.1 s.2.2.2.2.2.2.2.2.1 + s.2.2.2.2.1.toNatClampNeg + 1) ?_ (r, dn, sn, ln, wc, iw, a3, a4, a5, a6) hI
  rintro m ⟨r, dn, sn, ln, wc, iw, a3, a4, a5, a6⟩ hI hstep
  (try dsimp only at hI hstep ⊢)
  rcases hI with hr | ⟨hr, hV, ⟨c, hwc, hQ⟩, hC, hz⟩
  · subst hr
    exact br_t rfl ⟨zc_nb0, h0 _ _ _ _ _ _ _ _ _⟩
  subst hwc
  subst hr
  have hc40 : c ≤ 40 := by
    rcases Nat.eq_zero_or_pos c with z | z
    · omega
    · obtain ⟨g1, g2⟩ := hQ.2.1 0 z
      have := zb_sm_bd (f := fun j => if zc_b iw j then 1 else 0) (n := 40) (c := 1) (fun j _ => by (try dsimp only); split <;> omega)
      have e := hQ.1
      unfold zc_n at e
      omega
  refine br_f (by decide) (pk_le c 0 (fun e => ⟨zc_nb1, h1 _ _ _ _ _ _ _ _ _ ⟨h0n, hV, fun j hj hne => hC j hj hne ?_, hz⟩⟩) (fun e => nm_r (zb_sub1 e) ?_))
  · exact zc_n_0 (by rw [← hQ.1]; omega) (by omega)
  have hc1 : c - 1 < 40 := by omega
  obtain ⟨g1, g2⟩ := hQ.2.1 (c - 1) (by omega)
  obtain ⟨j, hj, ej⟩ := vp_in_of g1 (by omega)
  have hj40 : j < 40 := by omega
  rw [ej, zb_cl hj40] at g2
  have vj : vp_in (nI j) 40 := zb_in hj40
  have cj : (nI j).toNatClampNeg = j := zb_cl hj40
  refine ⟨zb_in hc1, nm_r (e' := nI j) (by rw [zb_cl hc1, ej]) (nm_e ⟨vj, nm_r (e' := a3 j) (by rw [cj]) ⟨vj, nm_r (e' := a4 j) (by rw [cj]) ⟨vj, nm_r (e' := a5 j) (by rw [cj]) ?_⟩⟩⟩)⟩
  have hvis : ∃ d s w, zc_at a3 a4 a5 j d s w := by
    rcases hV j hj with z | z
    · exact absurd z (hQ.2.2.2 j hj g2)
    · exact z
  obtain ⟨d, s, w, hat⟩ := hvis
  have hat1 := hat
  obtain ⟨y1, y2, y3, y4, y5, y6, y7⟩ := hat1
  rw [y1, y2, y3]
  have hclr : ∀ k, k < 40 → (zc_b (iw &&& (((1 : Int64) <<< ((nI j).toInt64 &&& 63)) ^^^ (-1))) k = true ↔ zc_b iw k = true ∧ k ≠ j) := fun k hk => by
    rw [zc_bclr iw hj40 hk]; simp
  have hQ' : zc_Q n a3 a6 (c - 1) (iw &&& (((1 : Int64) <<< ((nI j).toInt64 &&& 63)) ^^^ (-1))) := by
    refine ⟨?_, fun k hk => ?_, fun i k h1 h2 => hQ.2.2.1 i k h1 (by omega), fun k hk g => hQ.2.2.2 k hk ((hclr k (by omega)).mp g).1⟩
    · have := zc_n_clr hj40 g2
      have := hQ.1
      omega
    · obtain ⟨z1, z2⟩ := hQ.2.1 k (by omega)
      have zl := zb_lt z1
      refine ⟨z1, (hclr _ (by omega)).mpr ⟨z2, fun t => ?_⟩⟩
      refine hQ.2.2.1 k (c - 1) hk (by omega) ?_
      rw [ej]
      exact zb_inj (n := 40) (m := 40) (zb_mono z1 hn) vj (by rw [t, cj])
  refine zc_follow hn hj hP (by rw [← y2] at hat ⊢; exact hat) hV hQ' (fun dn sn ln wc iw a3 a4 a5 a6 => ?_) (fun dn sn ln b3 b4 b5 b6 c' iw' x1 x2 x3 x4 x5 x6 x7 => ?_)
  · exact hstep (0, dn, sn, ln, wc, iw, a3, a4, a5, a6) (Or.inl rfl) (by (try dsimp only); rw [if_pos rfl, if_neg (by decide)]; omega)
  · refine hstep (1, dn, sn, ln, nI c', iw', b3, b4, b5, b6) (Or.inr ⟨rfl, x1, ⟨c', rfl, x2⟩, fun k hk hne hb => ?_, zc_0_le h0n x3 hz⟩) ?_
    · (try dsimp only at hne hb ⊢)
      by_cases e : k = j
      · rw [e] at hb ⊢; exact x6 hb
      · have hu := x5 k hk hb
        refine zc_cl_le x3 hu (hC k hk (by rw [← hu.1]; exact hne) ?_)
        cases t : zc_b iw k
        · rfl
        · rw [x4 k (by omega) ((hclr k (by omega)).mpr ⟨t, e⟩)] at hb
          exact absurd hb (by decide)
    · (try dsimp only)
      have hc' : c' ≤ 40 := by
        have := zb_sm_bd (f := fun j => if zc_b iw' j then 1 else 0) (n := 40) (c := 1) (fun j _ => by (try dsimp only); split <;> omega)
        have e := x2.1
        unfold zc_n at e
        omega
      rw [if_neg (by decide), if_neg (by decide), zb_cl (n := c) (N := 41) (by omega), zb_cl (n := c') (N := 41) (by omega)]
      omega
theorem zc_check {post : Int32 → St1 → Prop} {n : Nat} (hn : n ≤ 40) (h0n : 0 < n) (hP : zc_P n a1 a2)
    (h0 : ∀ dn sn ln wc iw a3 a4 a5 a6, post 0 (nI n, ck, va, dn, sn, ln, wc, iw, tr, tf, li, tk, tc, lv, ce, sc, gi, pc, a1, a2, a3, a4, a5, a6, a7, a8, a9, a10, a11, a12, a13, a14, a15, a16, a17, a18, a19, a20, a21, a22, a23, a24, a25, a26, a27, a28, a29, a30))
    (h1 : ∀ dn sn ln wc iw a3 a4 a5 a6, zc_OK n a1 a2 a3 a4 a5 → post 1 (nI n, ck, va, dn, sn, ln, wc, iw, tr, tf, li, tk, tc, lv, ce, sc, gi, pc, a1, a2, a3, a4, a5, a6, a7, a8, a9, a10, a11, a12, a13, a14, a15, a16, a17, a18, a19, a20, a21, a22, a23, a24, a25, a26, a27, a28, a29, a30)) : wpX_check post (nI n, ck, va, dn, sn, ln, wc, iw, tr, tf, li, tk, tc, lv, ce, sc, gi, pc, a1, a2, a3, a4, a5, a6, a7, a8, a9, a10, a11, a12, a13, a14, a15, a16, a17, a18, a19, a20, a21, a22, a23, a24, a25, a26, a27, a28, a29, a30) := by
  refine pk_loop (fun m i s => wX_check_2 post (nI n) ck va dn sn ln wc iw tr tf li tk tc lv ce sc gi pc m (nI i) a1 a2 s a4 a5 a6 a7 a8 a9 a10 a11 a12 a13 a14 a15 a16 a17 a18 a19 a20 a21 a22 a23 a24 a25 a26 a27 a28 a29 a30) (fun i s => ∀ j, j < i → s j = -1) n 0 a3 (by omega) (fun j hj => absurd hj (by omega)) ?_ ?_
  · intro m s hs
    refine pk_le n n (fun _ => ?_) (fun g => absurd g (by omega))
    have hQ0 : zc_Q n s a6 0 0 := ⟨by decide +kernel, fun k hk => absurd hk (by omega), fun i k h1 h2 => absurd h2 (by omega), fun k hk g => by
      have : zc_b 0 k = false := BitVec.getLsbD_zero
      rw [this] at g; exact absurd g (by decide)⟩
    refine zc_pass (t := 0) (d := 0) (w := 5) (c := 0) hn (by omega) (zb_in (n := 0) (by omega)) (by omega) (by intro m hm; revert m; decide +kernel) (fun j hj => Or.inl (hs j hj)) hQ0
      (zc_loop hn h0n hP h0 h1 0 (Or.inl rfl)) (fun b3 b4 b5 b6 c' iw' x1 x2 x3 x4 x5 x6 x7 => zc_loop hn h0n hP h0 h1 1 (Or.inr ⟨rfl, x1, ⟨c', rfl, x2⟩, fun k hk hne hb => ?_, ?_⟩))
    · exact absurd ((x6 k hk hb).1.trans (hs k hk)) hne
    · obtain ⟨y1, w', y2, y3⟩ := x4
      refine ⟨0, w', y2, ?_, ?_, ?_, ?_⟩
      · rcases y3 0 (by omega) with e | e <;> rw [e] <;> decide
      · rcases y3 1 (by omega) with e | e <;> rw [e] <;> decide
      · rcases y3 2 (by omega) with e | e <;> rw [e] <;> decide
      · rcases y3 3 (by omega) with e | e <;> rw [e] <;> decide
  · intro m i s hi hs hm
    refine pk_le n i (fun g => absurd g (by omega)) (fun _ => ⟨pk_in i 40 (by omega), nm_r (e' := upd s i (-1)) (by rw [zb_cl (N := 40) (by omega)]) (nm_r (nI_1 i) (hm _ (fun j hj => ?_)))⟩)
    by_cases e : j = i
    · rw [e, pk_us]
    · rw [pk_un e]; exact hs j (by omega)
/-- what is remembered of the check -/
def zc_K (n : Nat) (ck va : Int32) (a1 a2 a3 a4 a5 : Nat → Int32) : Prop := ck = 0 ∨ (ck = 1 ∧ (va = 0 ∨ (va = 1 ∧ zc_OK n a1 a2 a3 a4 a5)))
theorem zc_valid {post : Int32 → St1 → Prop} {n : Nat} (hn : n ≤ 40) (hP : zc_P n a1 a2) (hK : zc_K n ck va a1 a2 a3 a4 a5)
    (h : ∀ r dn sn ln wc iw a3 a4 a5 a6, (r = 0 ∨ (r = 1 ∧ zc_OK n a1 a2 a3 a4 a5)) → post r (nI n, 1, r, dn, sn, ln, wc, iw, tr, tf, li, tk, tc, lv, ce, sc, gi, pc, a1, a2, a3, a4, a5, a6, a7, a8, a9, a10, a11, a12, a13, a14, a15, a16, a17, a18, a19, a20, a21, a22, a23, a24, a25, a26, a27, a28, a29, a30)) : wpX_valid post (nI n, ck, va, dn, sn, ln, wc, iw, tr, tf, li, tk, tc, lv, ce, sc, gi, pc, a1, a2, a3, a4, a5, a6, a7, a8, a9, a10, a11, a12, a13, a14, a15, a16, a17, a18, a19, a20, a21, a22, a23, a24, a25, a26, a27, a28, a29, a30) := by
  rcases hK with e | ⟨e, g⟩
  · refine br_t e (pk_le n 0 (fun _ => h 0 _ _ _ _ _ _ _ _ _ (Or.inl rfl)) (fun z => ?_))
    exact zc_check hn z hP (fun dn sn ln wc iw a3 a4 a5 a6 => br_t rfl (h 0 _ _ _ _ _ _ _ _ _ (Or.inl rfl))) (fun dn sn ln wc iw a3 a4 a5 a6 ok => br_f (by decide) (h 1 _ _ _ _ _ _ _ _ _ (Or.inr ⟨rfl, ok⟩)))
  · subst e
    refine br_f (by decide) ⟨?_, h va _ _ _ _ _ _ _ _ _ g⟩
    rcases g with g | g
    · rw [g]; exact zc_nb0
    · rw [g.1]; exact zc_nb1
theorem zc_valid1 {post : Int32 → St1 → Prop} (hva : va = 0 ∨ va = 1) (h : post va (le, 1, va, dn, sn, ln, wc, iw, tr, tf, li, tk, tc, lv, ce, sc, gi, pc, a1, a2, a3, a4, a5, a6, a7, a8, a9, a10, a11, a12, a13, a14, a15, a16, a17, a18, a19, a20, a21, a22, a23, a24, a25, a26, a27, a28, a29, a30)) : wpX_valid post (le, 1, va, dn, sn, ln, wc, iw, tr, tf, li, tk, tc, lv, ce, sc, gi, pc, a1, a2, a3, a4, a5, a6, a7, a8, a9, a10, a11, a12, a13, a14, a15, a16, a17, a18, a19, a20, a21, a22, a23, a24, a25, a26, a27, a28, a29, a30) := by
  refine br_f (by decide) ⟨?_, h⟩
  rcases hva with g | g
  · rw [g]; exact zc_nb0
  · rw [g]; exact zc_nb1
/-- depth and sort, once checked: nothing changes -/
theorem zc_depth {post : Int32 → St1 → Prop} {n : Nat} {i : Int32} (hn : n ≤ 40) (hva : va = 0 ∨ (va = 1 ∧ zc_OK n a1 a2 a3 a4 a5))
    (h0 : ¬ vp_in i n → post (-1) (nI n, 1, va, dn, sn, ln, wc, iw, tr, tf, li, tk, tc, lv, ce, sc, gi, pc, a1, a2, a3, a4, a5, a6, a7, a8, a9, a10, a11, a12, a13, a14, a15, a16, a17, a18, a19, a20, a21, a22, a23, a24, a25, a26, a27, a28, a29, a30)) (h1 : vp_in i n → va = 0 → post (-3) (nI n, 1, va, dn, sn, ln, wc, iw, tr, tf, li, tk, tc, lv, ce, sc, gi, pc, a1, a2, a3, a4, a5, a6, a7, a8, a9, a10, a11, a12, a13, a14, a15, a16, a17, a18, a19, a20, a21, a22, a23, a24, a25, a26, a27, a28, a29, a30))
    (h2 : vp_in i n → va = 1 → a3 i.toNatClampNeg = -1 → post (-4) (nI n, 1, va, dn, sn, ln, wc, iw, tr, tf, li, tk, tc, lv, ce, sc, gi, pc, a1, a2, a3, a4, a5, a6, a7, a8, a9, a10, a11, a12, a13, a14, a15, a16, a17, a18, a19, a20, a21, a22, a23, a24, a25, a26, a27, a28, a29, a30))
    (h3 : ∀ d s w, vp_in i n → va = 1 → zc_at a3 a4 a5 i.toNatClampNeg d s w → post (nI d) (nI n, 1, va, dn, sn, ln, wc, iw, tr, tf, li, tk, tc, lv, ce, sc, gi, pc, a1, a2, a3, a4, a5, a6, a7, a8, a9, a10, a11, a12, a13, a14, a15, a16, a17, a18, a19, a20, a21, a22, a23, a24, a25, a26, a27, a28, a29, a30)) : wpX_depth post (nI n, 1, va, dn, sn, ln, wc, iw, tr, tf, li, tk, tc, lv, ce, sc, gi, pc, a1, a2, a3, a4, a5, a6, a7, a8, a9, a10, a11, a12, a13, a14, a15, a16, a17, a18, a19, a20, a21, a22, a23, a24, a25, a26, a27, a28, a29, a30) i := by
  refine br_c (fun z => h0 (fun g => zb_nn g z)) (fun z => br_c (fun z2 => ?_) (fun z2 => h0 (fun g => z2 ?_)))
  · have hi := zb_lt_of z z2 (by omega)
    have hi40 := zb_mono hi hn
    refine zc_valid1 (hva.imp id (fun g => g.1)) ?_
    rcases hva with g | ⟨g, ok⟩
    · exact br_t g (h1 hi g)
    · refine br_f (by rw [g]; decide) ⟨hi40, ?_⟩
      rcases ok.2.1 _ (zb_lt hi) with e | ⟨d, s, w, e⟩
      · exact br_f (by rw [e]; decide) (h2 hi g e)
      · refine br_t (by rw [e.1]; exact nI_pos' (by have := e.2.2.2.1; omega)) ⟨hi40, ?_⟩
        rw [e.1]
        exact h3 d s w hi g e
  · rw [zb_nI (zb_mono g hn)]
    exact nI_lt (zb_lt g) (by omega)
theorem zc_sort {post : Int32 → St1 → Prop} {n l : Nat} {i : Int32} (hn : n ≤ 40) (hl : l < 4) (hva : va = 0 ∨ (va = 1 ∧ zc_OK n a1 a2 a3 a4 a5)) (hi : vp_in i n)
    (h1 : va = 0 → post (-3) (nI n, 1, va, dn, sn, ln, wc, iw, tr, tf, li, tk, tc, lv, ce, sc, gi, pc, a1, a2, a3, a4, a5, a6, a7, a8, a9, a10, a11, a12, a13, a14, a15, a16, a17, a18, a19, a20, a21, a22, a23, a24, a25, a26, a27, a28, a29, a30)) (h2 : va = 1 → a3 i.toNatClampNeg = -1 → post (-4) (nI n, 1, va, dn, sn, ln, wc, iw, tr, tf, li, tk, tc, lv, ce, sc, gi, pc, a1, a2, a3, a4, a5, a6, a7, a8, a9, a10, a11, a12, a13, a14, a15, a16, a17, a18, a19, a20, a21, a22, a23, a24, a25, a26, a27, a28, a29, a30))
    (h3 : ∀ d s w, va = 1 → zc_at a3 a4 a5 i.toNatClampNeg d s w → post (nI (zc_q w l)) (nI n, 1, va, dn, sn, ln, wc, iw, tr, tf, li, tk, tc, lv, ce, sc, gi, pc, a1, a2, a3, a4, a5, a6, a7, a8, a9, a10, a11, a12, a13, a14, a15, a16, a17, a18, a19, a20, a21, a22, a23, a24, a25, a26, a27, a28, a29, a30)) : wpX_sort post (nI n, 1, va, dn, sn, ln, wc, iw, tr, tf, li, tk, tc, lv, ce, sc, gi, pc, a1, a2, a3, a4, a5, a6, a7, a8, a9, a10, a11, a12, a13, a14, a15, a16, a17, a18, a19, a20, a21, a22, a23, a24, a25, a26, a27, a28, a29, a30) i (nI l) := by
  have hi40 := zb_mono hi hn
  have z2 : i < nI n := by
    rw [zb_nI hi40]
    exact nI_lt (zb_lt hi) (by omega)
  refine br_f (nI_pos (by omega)) (br_f (nI_nlt (b := l) (a := 3) (by omega) (by omega)) (br_f (zb_nn hi) (br_t z2 ?_)))
  refine zc_valid1 (hva.imp id (fun g => g.1)) ?_
  rcases hva with g | ⟨g, ok⟩
  · exact br_t g (h1 g)
  · refine br_f (by rw [g]; decide) ⟨hi40, ?_⟩
    rcases ok.2.1 _ (zb_lt hi) with e | ⟨d, s, w, e⟩
    · exact br_f (by rw [e]; decide) (h2 g e)
    · refine br_t (by rw [e.1]; exact nI_pos' (by have := e.2.2.2.1; omega)) ⟨hi40, ?_⟩
      obtain ⟨e1, e2, e3, e4, e5, e6, e7⟩ := e
      rw [e3, zc_qs w e6 l hl]
      exact h3 d s w g ⟨e1, e2, e3, e4, e5, e6, e7⟩
end
end
section
/-! from instructions to operations -/
/-- the references of a state -/
def zl_S (d : Nat) (s : Int32) (w : Nat) (v : Int32) : Prop := (∃ k, k < d ∧ v = nI (4 + k) ∧ zb_i s (nI k)) ∨ (∃ m, m < 4 ∧ v = nI m ∧ zc_q w m = 2)
def zl_G (a3 a4 a5 : Nat → Int32) (l v : Int32) : Prop := ∃ d s w, zc_at a3 a4 a5 l.toNatClampNeg d s w ∧ zl_S d s w v
theorem zl_S11 {d : Nat} {s : Int32} {w : Nat} {v : Int32} (hd : d ≤ 6) (h : zl_S d s w v) : vp_in v 11 := by
  rcases h with ⟨k, h1, h2, _⟩ | ⟨k, h1, h2, _⟩ <;> rw [h2] <;> exact zb_in (by omega)
theorem zl_S_lo {d : Nat} {s : Int32} {w w' : Nat} {v : Int32} (hl : zc_lo w' w) (h : zl_S d s w' v) : zl_S d s w v := by
  rcases h with h | ⟨k, h1, h2, h3⟩
  · exact Or.inl h
  · refine Or.inr ⟨k, h1, h2, ?_⟩
    rcases hl k h1 with e | e <;> omega
theorem zl_ne {a b : Nat} (ha : a < 100) (hb : b < 100) (h : a ≠ b) : nI a ≠ nI b := fun e => h ((nI_eq (by omega) (by omega)).mp e)
/-- the list as far as it is written: e entries, weight at most W, labels below b, the labels of Lb there, the types X known behind it -/
def zl_B (G : Int32 → Int32 → Prop) (n : Nat) (a1 a2 a3 : Nat → Int32) (e W b : Nat) (Lb : Nat → Prop) (X : Int32 → Prop) (o m f s k : Nat → Int32) : Prop :=
  (∀ j, j < e → o j ≠ 0 ∧ zt_sh (o j) (m j) (f j) (s j) (k j)) ∧ (∀ i j, i < e → j < e → o i = 19 → o j = 19 → k i = k j → i = j) ∧
  (∀ j, j < e → o j = 19 → ∃ q, q < b ∧ k j = nI q) ∧ (∀ q, Lb q → ∃ j, j < e ∧ o j = 19 ∧ k j = nI q) ∧
  (∀ j, j < e → (o j = 16 ∨ o j = 17 ∨ o j = 18) → ∃ q, q < n ∧ a3 q ≠ -1 ∧ (a1 q = 21 ∨ a1 q = 22 ∨ a1 q = 23) ∧ k j = a2 q) ∧
  zt_ws o k e ≤ W ∧ (∀ j, j < e → zt_ck G (o j) (f j) (k j) (zt_T G o m f k j)) ∧ (∀ v, X v → zt_T G o m f k e v)
theorem zl_B_w {G : Int32 → Int32 → Prop} {n : Nat} {a1 a2 a3 : Nat → Int32} {e W W' b b' : Nat} {Lb Lb' : Nat → Prop} {X X' : Int32 → Prop} {o m f s k : Nat → Int32} (h : zl_B G n a1 a2 a3 e W b Lb X o m f s k)
    (hW : W ≤ W') (hb : b ≤ b') (hL : ∀ q, Lb' q → Lb q) (hX : ∀ v, X' v → X v) : zl_B G n a1 a2 a3 e W' b' Lb' X' o m f s k :=
  ⟨h.1, h.2.1, fun j hj g => by obtain ⟨q, q1, q2⟩ := h.2.2.1 j hj g; exact ⟨q, by omega, q2⟩, fun q g => h.2.2.2.1 q (hL q g), h.2.2.2.2.1, Nat.le_trans h.2.2.2.2.2.1 hW, h.2.2.2.2.2.2.1, fun v g => h.2.2.2.2.2.2.2 v (hX v g)⟩
/-- one more entry -/
theorem zl_put {G : Int32 → Int32 → Prop} {n : Nat} {a1 a2 a3 : Nat → Int32} {e W b b' : Nat} {Lb Lb' : Nat → Prop} {X : Int32 → Prop} {o m f s k : Nat → Int32} {p0 p1 p2 p3 p4 : Int32}
    (h : zl_B G n a1 a2 a3 e W b Lb X o m f s k) (h0 : p0 ≠ 0) (hsh : zt_sh p0 p1 p2 p3 p4) (hck : zt_ck G p0 p2 p4 X)
    (hl : (p0 ≠ 19 ∧ b' = b ∧ Lb' = Lb) ∨ (p0 = 19 ∧ p4 = nI b ∧ b < 2147483647 ∧ b' = b + 1 ∧ Lb' = fun q => Lb q ∨ q = b))
    (hj : p0 = 16 ∨ p0 = 17 ∨ p0 = 18 → ∃ q, q < n ∧ a3 q ≠ -1 ∧ (a1 q = 21 ∨ a1 q = 22 ∨ a1 q = 23) ∧ p4 = a2 q) :
    zl_B G n a1 a2 a3 (e + 1) (W + zt_wt p0 p4) b' Lb' (zt_tr G p0 p1 p2 p4 X) (upd o e p0) (upd m e p1) (upd f e p2) (upd s e p3) (upd k e p4) := by
  obtain ⟨g1, g2, g3, g4, g5, g6, g7, g8⟩ := h
  have low : ∀ j, j < e → upd o e p0 j = o j ∧ upd m e p1 j = m j ∧ upd f e p2 j = f j ∧ upd s e p3 j = s j ∧ upd k e p4 j = k j := fun j hj => by
    have : j ≠ e := by omega
    exact ⟨pk_un this, pk_un this, pk_un this, pk_un this, pk_un this⟩
  have hT : ∀ j, j ≤ e → zt_T G (upd o e p0) (upd m e p1) (upd f e p2) (upd k e p4) j = zt_T G o m f k j := fun j hj =>
    zt_T_congr (fun i hi => by obtain ⟨l1, l2, l3, l4, l5⟩ := low i (by omega); exact ⟨l1, l2, l3, l5⟩)
  have fresh : p0 = 19 → ∀ j, j < e → o j = 19 → k j = p4 → False := fun e19 j hj ho hk => by
    rcases hl with z | ⟨_, z, zb, _⟩
    · exact z.1 e19
    · obtain ⟨q, q1, q2⟩ := g3 j hj ho
      rw [q2, z] at hk
      have := (nI_eq (by omega) (by omega)).mp hk
      omega
  refine ⟨fun j hj => ?_, fun i j hi hj h1 h2 h3 => ?_, fun j hj h1 => ?_, fun q hq => ?_, fun j hj' h1 => ?_, ?_, fun j hj => ?_, fun v hv => ?_⟩
  · by_cases z : j = e
    · rw [z, pk_us, pk_us, pk_us, pk_us, pk_us]; exact ⟨h0, hsh⟩
    · obtain ⟨l1, l2, l3, l4, l5⟩ := low j (by omega)
      rw [l1, l2, l3, l4, l5]; exact g1 j (by omega)
  · by_cases zi : i = e
    · by_cases zj : j = e
      · omega
      · rw [zi, pk_us] at h1
        rw [pk_un zj] at h2
        rw [zi, pk_us, pk_un zj] at h3
        exact (fresh h1 j (by omega) h2 h3.symm).elim
    · by_cases zj : j = e
      · rw [pk_un zi] at h1
        rw [zj, pk_us] at h2
        rw [zj, pk_us, pk_un zi] at h3
        exact (fresh h2 i (by omega) h1 h3).elim
      · rw [pk_un zi] at h1
        rw [pk_un zj] at h2
        rw [pk_un zi, pk_un zj] at h3
        exact g2 i j (by omega) (by omega) h1 h2 h3
  · by_cases z : j = e
    · rw [z, pk_us] at h1
      rw [z, pk_us]
      rcases hl with y | ⟨_, y1, _, y2, _⟩
      · exact absurd h1 y.1
      · exact ⟨b, by omega, y1⟩
    · rw [pk_un z] at h1 ⊢
      obtain ⟨q, q1, q2⟩ := g3 j (by omega) h1
      refine ⟨q, ?_, q2⟩
      rcases hl with y | y
      · omega
      · omega
  · have old : Lb q → ∃ j, j < e + 1 ∧ upd o e p0 j = 19 ∧ upd k e p4 j = nI q := fun y => by
      obtain ⟨j, j1, j2, j3⟩ := g4 q y
      obtain ⟨l1, l2, l3, l4, l5⟩ := low j j1
      exact ⟨j, by omega, by rw [l1]; exact j2, by rw [l5]; exact j3⟩
    rcases hl with y | ⟨y1, y2, _, _, y3⟩
    · rw [y.2.2] at hq; exact old hq
    · rw [y3] at hq
      rcases hq with z | z
      · exact old z
      · exact ⟨e, by omega, by rw [pk_us]; exact y1, by rw [pk_us, z]; exact y2⟩
  · by_cases z : j = e
    · rw [z, pk_us] at h1
      rw [z, pk_us]
      exact hj h1
    · rw [pk_un z] at h1 ⊢
      exact g5 j (by omega) h1
  · unfold zt_ws at *
    show zb_sm _ e + zt_wt (upd o e p0 e) (upd k e p4 e) ≤ _
    rw [pk_us, pk_us]
    have := zb_sm_congr (f := fun j => zt_wt (upd o e p0 j) (upd k e p4 j)) (g := fun j => zt_wt (o j) (k j)) (n := e) (fun j hj => by
      obtain ⟨l1, l2, l3, l4, l5⟩ := low j hj
      (try dsimp only)
      rw [l1, l5])
    omega
  · by_cases z : j = e
    · rw [z, hT e (Nat.le_refl _), pk_us, pk_us, pk_us]
      exact zt_ck_mono g8 hck
    · obtain ⟨l1, l2, l3, l4, l5⟩ := low j (by omega)
      rw [hT j (by omega), l1, l3, l5]
      exact g7 j (by omega)
  · show zt_tr G (upd o e p0 e) (upd m e p1 e) (upd f e p2 e) (upd k e p4 e) (zt_T G (upd o e p0) (upd m e p1) (upd f e p2) (upd k e p4) e) v
    rw [hT e (Nat.le_refl _), pk_us, pk_us, pk_us, pk_us]
    exact zt_tr_mono g8 v hv
section
variable {le ck va dn sn ln wc tr tf li tk tc lv ce sc gi pc : Int32} {iw : Int64} {a1 a2 a3 a4 a5 a6 a7 a8 a9 a10 a11 a12 a13 a14 a15 a16 a17 a18 a19 a20 a21 a22 a23 a24 a25 a26 a27 a28 a29 a30 : Nat → Int32}
theorem zl_write {post : St1 → Prop} {G : Int32 → Int32 → Prop} {n : Nat} {e W b b' : Nat} {Lb Lb' : Nat → Prop} {X : Int32 → Prop} {p0 p1 p2 p3 p4 : Int32} (he : e < 240)
    (h : zl_B G n a1 a2 a3 e W b Lb X a7 a8 a9 a10 a11) (h0 : p0 ≠ 0) (hsh : zt_sh p0 p1 p2 p3 p4) (hck : zt_ck G p0 p2 p4 X)
    (hl : (p0 ≠ 19 ∧ b' = b ∧ Lb' = Lb) ∨ (p0 = 19 ∧ p4 = nI b ∧ b < 2147483647 ∧ b' = b + 1 ∧ Lb' = fun q => Lb q ∨ q = b))
    (hj : p0 = 16 ∨ p0 = 17 ∨ p0 = 18 → ∃ q, q < n ∧ a3 q ≠ -1 ∧ (a1 q = 21 ∨ a1 q = 22 ∨ a1 q = 23) ∧ p4 = a2 q)
    (hp : ∀ a7 a8 a9 a10 a11, zl_B G n a1 a2 a3 (e + 1) (W + zt_wt p0 p4) b' Lb' (zt_tr G p0 p1 p2 p4 X) a7 a8 a9 a10 a11 → post (le, ck, va, dn, sn, ln, wc, iw, tr, tf, nI (e + 1), tk, tc, lv, ce, sc, gi, pc, a1, a2, a3, a4, a5, a6, a7, a8, a9, a10, a11, a12, a13, a14, a15, a16, a17, a18, a19, a20, a21, a22, a23, a24, a25, a26, a27, a28, a29, a30)) :
    wpX_write post (le, ck, va, dn, sn, ln, wc, iw, tr, tf, nI e, tk, tc, lv, ce, sc, gi, pc, a1, a2, a3, a4, a5, a6, a7, a8, a9, a10, a11, a12, a13, a14, a15, a16, a17, a18, a19, a20, a21, a22, a23, a24, a25, a26, a27, a28, a29, a30) p0 p1 p2 p3 p4 := by
  have v := zb_in he
  have c := zb_cl he
  obtain ⟨v1, v2, v3⟩ := zt_sh_v hsh h0
  exact ⟨v, nm_r (e' := upd a7 e p0) (by rw [c, zb_b (zb_mono (zt_sh_o hsh) (by omega))]) ⟨v, nm_r (e' := upd a8 e p1) (by rw [c, zb_ob v1]) ⟨v, nm_r (e' := upd a9 e p2) (by rw [c, zb_ob v2]) ⟨v, nm_r (e' := upd a10 e p3) (by rw [c, zb_ob v3]) ⟨v, nm_r (e' := upd a11 e p4) (by rw [c]) (nm_r (nI_1 e) (hp _ _ _ _ _ (zl_put h h0 hsh hck hl hj)))⟩⟩⟩⟩⟩
theorem zl_pay {post : St1 → Prop} {G : Int32 → Int32 → Prop} {n : Nat} {e W b t : Nat} {Lb : Nat → Prop} {X : Int32 → Prop} (he : e < 240) (ht : t ≤ 40)
    (h : zl_B G n a1 a2 a3 e W b Lb X a7 a8 a9 a10 a11)
    (hp : ∀ e' a7 a8 a9 a10 a11, e' ≤ e + 1 → zl_B G n a1 a2 a3 e' (W + t + 1) b Lb (fun v => (0 < t ∧ v = -1) ∨ X v) a7 a8 a9 a10 a11 → post (le, ck, va, dn, sn, ln, wc, iw, tr, tf, nI e', 0, tc, lv, ce, sc, gi, pc, a1, a2, a3, a4, a5, a6, a7, a8, a9, a10, a11, a12, a13, a14, a15, a16, a17, a18, a19, a20, a21, a22, a23, a24, a25, a26, a27, a28, a29, a30)) :
    wpX_payTicks post (le, ck, va, dn, sn, ln, wc, iw, tr, tf, nI e, nI t, tc, lv, ce, sc, gi, pc, a1, a2, a3, a4, a5, a6, a7, a8, a9, a10, a11, a12, a13, a14, a15, a16, a17, a18, a19, a20, a21, a22, a23, a24, a25, a26, a27, a28, a29, a30) := by
  refine pk_le t 0 (fun z => hp e _ _ _ _ _ (by omega) (zl_B_w h (by omega) (Nat.le_refl _) (fun _ g => g) (fun v g => g.elim (fun g => absurd g.1 (by omega)) id))) (fun z => ?_)
  have ct : (nI t).toNatClampNeg = t := zb_cl (N := 701) (by omega)
  refine zl_write he h (by decide) ?_ (zt_ck_n (Or.inr rfl)) (Or.inl ⟨by decide, rfl, rfl⟩) (fun g => absurd g (by decide)) (fun a7 a8 a9 a10 a11 g => hp (e + 1) _ _ _ _ _ (Nat.le_refl _) (zl_B_w g ?_ (Nat.le_refl _) (fun _ g => g) (fun v g => ?_)))
  · exact Or.inr (Or.inr (Or.inr (Or.inr (Or.inr (Or.inr (Or.inr (Or.inr (Or.inr (Or.inl ⟨rfl, rfl, rfl, rfl, zb_in (by omega), by rw [ct]; exact z⟩)))))))))
  · show W + (1 + (nI t).toNatClampNeg) ≤ _
    rw [ct]; omega
  · exact (zt_tr_t G _ _ _ X v).mpr (g.imp (fun g => g.2) id)
end
end
section
/-! from instructions to operations: the walk -/
theorem zl_mv {G : Int32 → Int32 → Prop} {o m f k : Int32} {X : Int32 → Prop} {v : Int32} (ho : ¬ o < 1 ∧ ¬ 14 < o) (hv : v ≠ m) (hX : X v) : zt_tr G o m f k X v := (zt_tr_p G m f k X v ho).mpr (Or.inr ⟨hv, hX⟩)
theorem zl_eq {G : Int32 → Int32 → Prop} {m f k : Int32} {X : Int32 → Prop} {v : Int32} (hv : v = m) (hX : X f) : zt_tr G 2 m f k X v := (zt_tr_p G m f k X v (by decide)).mpr (Or.inl ⟨hv, Or.inr ⟨rfl, hX⟩⟩)
section
variable {le ck va dn sn ln wc tr tf li tk tc lv ce sc gi pc : Int32} {iw : Int64} {a1 a2 a3 a4 a5 a6 a7 a8 a9 a10 a11 a12 a13 a14 a15 a16 a17 a18 a19 a20 a21 a22 a23 a24 a25 a26 a27 a28 a29 a30 : Nat → Int32}
theorem zl_w1 {post : St1 → Prop} {G : Int32 → Int32 → Prop} {n : Nat} {e W b : Nat} {Lb : Nat → Prop} {X Y : Int32 → Prop} {p0 p1 p2 p3 p4 : Int32} (he : e < 240)
    (h : zl_B G n a1 a2 a3 e W b Lb X a7 a8 a9 a10 a11) (h0 : ¬ p0 < 1 ∧ ¬ 15 < p0) (hsh : zt_sh p0 p1 p2 p3 p4) (hck : zt_ck G p0 p2 p4 X) (hY : ∀ v, Y v → zt_tr G p0 p1 p2 p4 X v)
    (hp : ∀ a7 a8 a9 a10 a11, zl_B G n a1 a2 a3 (e + 1) (W + zt_wt p0 p4) b Lb Y a7 a8 a9 a10 a11 → W + zt_wt p0 p4 ≤ W + 4 → post (le, ck, va, dn, sn, ln, wc, iw, tr, tf, nI (e + 1), tk, tc, lv, ce, sc, gi, pc, a1, a2, a3, a4, a5, a6, a7, a8, a9, a10, a11, a12, a13, a14, a15, a16, a17, a18, a19, a20, a21, a22, a23, a24, a25, a26, a27, a28, a29, a30)) :
    wpX_write post (le, ck, va, dn, sn, ln, wc, iw, tr, tf, nI e, tk, tc, lv, ce, sc, gi, pc, a1, a2, a3, a4, a5, a6, a7, a8, a9, a10, a11, a12, a13, a14, a15, a16, a17, a18, a19, a20, a21, a22, a23, a24, a25, a26, a27, a28, a29, a30) p0 p1 p2 p3 p4 := by
  have ne : ∀ c : Int32, (c < 1 ∨ 15 < c) → p0 ≠ c := fun c hc z => by
    rw [z] at h0
    exact hc.elim h0.1 h0.2
  refine zl_write he h (ne _ (by decide)) hsh hck (Or.inl ⟨ne _ (by decide), rfl, rfl⟩) (fun g => ?_) (fun a7 a8 a9 a10 a11 g => hp _ _ _ _ _ (zl_B_w g (Nat.le_refl _) (Nat.le_refl _) (fun _ g => g) hY) ?_)
  · rcases g with g | g | g
    · exact absurd g (ne _ (by decide))
    · exact absurd g (ne _ (by decide))
    · exact absurd g (ne _ (by decide))
  · have := zt_wt4 (o := p0) (k := p4) (ne _ (by decide))
    omega
theorem zl_plain {post : St1 → Prop} {G : Int32 → Int32 → Prop} {n : Nat} {e W b : Nat} {Lb : Nat → Prop} {X : Int32 → Prop} {o nn s s' : Int32} {d d' w w' : Nat} (he : e + 3 ≤ 240)
    (h : zl_B G n a1 a2 a3 e W b Lb X a7 a8 a9 a10 a11) (hd : d ≤ 6) (hX : ∀ v, zl_S d s w v → X v) (hE : zc_E o nn d s w d' s' w') (ho : o < 21)
    (hp : ∀ e' W' a7 a8 a9 a10 a11, e' ≤ e + 3 → W' ≤ W + 12 → zl_B G n a1 a2 a3 e' W' b Lb (zl_S d' s' w') a7 a8 a9 a10 a11 → post (le, ck, va, dn, sn, ln, wc, iw, tr, tf, nI e', tk, tc, lv, ce, sc, gi, pc, a1, a2, a3, a4, a5, a6, a7, a8, a9, a10, a11, a12, a13, a14, a15, a16, a17, a18, a19, a20, a21, a22, a23, a24, a25, a26, a27, a28, a29, a30)) :
    wpX_lowerPlain post (le, ck, va, dn, sn, ln, wc, iw, tr, tf, nI e, tk, tc, lv, ce, sc, gi, pc, a1, a2, a3, a4, a5, a6, a7, a8, a9, a10, a11, a12, a13, a14, a15, a16, a17, a18, a19, a20, a21, a22, a23, a24, a25, a26, a27, a28, a29, a30) o (nI (d + 3)) nn := by
  obtain ⟨hd', hs', hw', hq', hE⟩ := hE
  have t1 : nI (d + 3) + 1 = nI (d + 4) := nI_1 _
  have m1 : 0 < d → nI (d + 3) - 1 = nI (d + 2) := fun _ => nI_pred _
  have i2 : nI (d + 3) - 1 = nI (d + 2) := nI_pred _
  have i3 : nI (d + 3) - 2 = nI (d + 1) := by
    have := nI_pred (d + 1)
    rw [← this, ← nI_pred (d + 2)]
    show _ = nI (d + 3) - 1 - 1
    grind
  rcases hE with ⟨e0, e1, e2, e3⟩ | ⟨e0, en, e1, e2, e3⟩ | ⟨e0, m, hm, en, e1, e2, e3⟩ | ⟨e0, m, hm, en, e1, e2, e3⟩ | ⟨e0, e1, e4, e2, e3⟩ | ⟨e0, e1, e4, e2, e3⟩ | ⟨e0, e1, e4, e2, e3⟩ | ⟨e0, e1, e2, e3⟩ | ⟨e0, e1, e4, e2, e3⟩ | ⟨e0, e1, e4, e5, e2, e3⟩ | ⟨e0, e1, e4, e2, e3⟩ | ⟨e0, e1, e2, e3⟩ | ⟨e0, e1, e2, e3⟩
  · -- PUSH
    subst e0; subst e2
    refine br_t rfl ?_
    unfold wX_lowerPlain_10
    refine zl_w1 (Y := zl_S d' s' w') (by omega) h (by decide) (Or.inr (Or.inl ⟨rfl, by rw [t1]; exact zb_in (by omega), rfl, rfl⟩)) (zt_ck_n (by decide)) (fun v hv => ?_) (fun a7 a8 a9 a10 a11 g1 g2 => hp (e + 1) _ _ _ _ _ _ (by omega) (by omega) g1)
    rcases hv with ⟨k, k1, k2, k3⟩ | ⟨k, k1, k2, k3⟩
    · have k4 := e3 k k1 k3
      exact zl_mv (by decide) (by rw [t1, k2]; exact zl_ne (by omega) (by omega) (by omega)) (hX v (Or.inl ⟨k, k4.1, k2, k4.2⟩))
    · exact zl_mv (by decide) (by rw [t1, k2]; exact zl_ne (by omega) (by omega) (by omega)) (hX v (Or.inr ⟨k, k1, k2, k3⟩))
  · -- ARRAY
    subst e0; subst e2
    refine br_f (by decide) (br_t rfl ?_)
    unfold wX_lowerPlain_10
    refine zl_w1 (Y := zl_S d' s' w') (by omega) h (by decide) (Or.inr (Or.inl ⟨rfl, by rw [t1]; exact zb_in (by omega), rfl, rfl⟩)) (zt_ck_n (by decide)) (fun v hv => ?_) (fun a7 a8 a9 a10 a11 g1 g2 => hp (e + 1) _ _ _ _ _ _ (by omega) (by omega) g1)
    rcases hv with ⟨k, k1, k2, k3⟩ | ⟨k, k1, k2, k3⟩
    · rcases e3 k k1 k3 with k4 | k4
      · exact (zt_tr_p G _ _ _ X v (by decide)).mpr (Or.inl ⟨by rw [t1, k2, k4, Nat.add_comm], Or.inl ⟨rfl, en⟩⟩)
      · exact zl_mv (by decide) (by rw [t1, k2]; exact zl_ne (by omega) (by omega) (by omega)) (hX v (Or.inl ⟨k, k4.1, k2, k4.2⟩))
    · exact zl_mv (by decide) (by rw [t1, k2]; exact zl_ne (by omega) (by omega) (by omega)) (hX v (Or.inr ⟨k, k1, k2, k3⟩))
  · -- LOAD
    subst e0; subst e2; subst en
    refine br_f (by decide) (br_f (by decide) (br_t rfl (zl_w1 (Y := zl_S d' s' w') (by omega) h (by decide) (Or.inr (Or.inr (Or.inl ⟨Or.inl rfl, by rw [t1]; exact zb_in (by omega), zb_in (by omega), rfl⟩))) (zt_ck_n (by decide)) (fun v hv => ?_) (fun a7 a8 a9 a10 a11 g1 g2 => hp (e + 1) _ _ _ _ _ _ (by omega) (by omega) g1))))
    rcases hv with ⟨k, k1, k2, k3⟩ | ⟨k, k1, k2, k3⟩
    · rcases e3 k k1 k3 with k4 | k4
      · exact zl_eq (by rw [t1, k2, k4.1, Nat.add_comm]) (hX _ (Or.inr ⟨m, hm, rfl, k4.2⟩))
      · exact zl_mv (by decide) (by rw [t1, k2]; exact zl_ne (by omega) (by omega) (by omega)) (hX v (Or.inl ⟨k, k4.1, k2, k4.2⟩))
    · exact zl_mv (by decide) (by rw [t1, k2]; exact zl_ne (by omega) (by omega) (by omega)) (hX v (Or.inr ⟨k, k1, k2, k3⟩))
  · -- STORE
    subst e0; subst en
    refine br_f (by decide) (br_f (by decide) (br_f (by decide) (br_t rfl (zl_w1 (Y := zl_S d' s' w') (by omega) h (by decide) (Or.inr (Or.inr (Or.inl ⟨Or.inl rfl, zb_in (by omega), zb_in (by omega), rfl⟩))) (zt_ck_n (by decide)) (fun v hv => ?_) (fun a7 a8 a9 a10 a11 g1 g2 => hp (e + 1) _ _ _ _ _ _ (by omega) (by omega) g1)))))
    rcases hv with ⟨k, k1, k2, k3⟩ | ⟨k, k1, k2, k3⟩
    · exact zl_mv (by decide) (by rw [k2]; exact zl_ne (by omega) (by omega) (by omega)) (hX v (Or.inl ⟨k, by omega, k2, e2 k k1 k3⟩))
    · rcases e3 k k1 k3 with k4 | k4
      · exact zl_eq (by rw [k2, k4.1]) (hX _ (Or.inl ⟨d', by omega, by congr 1; omega, k4.2⟩))
      · exact zl_mv (by decide) (by rw [k2]; exact zl_ne (by omega) (by omega) k4.1) (hX v (Or.inr ⟨k, k1, k2, k4.2⟩))
  · -- ADD .. SAME, EQUAL
    subst e2
    have fact : ∀ q : Int32, (¬ q < 1 ∧ ¬ 14 < q) → ∀ v, zl_S d' s' w' v → zt_tr G q (nI (d + 3) - 1) (nI (d + 3) - 1) 0 X v := fun q hq v hv => by
      rcases hv with ⟨k, k1, k2, k3⟩ | ⟨k, k1, k2, k3⟩
      · have k4 := e3 k k1 k3
        exact zl_mv hq (by rw [i2, k2]; exact zl_ne (by omega) (by omega) (by omega)) (hX v (Or.inl ⟨k, by omega, k2, k4.2⟩))
      · exact zl_mv hq (by rw [i2, k2]; exact zl_ne (by omega) (by omega) (by omega)) (hX v (Or.inr ⟨k, k1, k2, k3⟩))
    rcases e0 with e0 | e0
    · have e0' : ¬ o < 1 ∧ ¬ 14 < o := ⟨fun z => e0.1 (Int32.lt_trans z (by decide)), fun z => e0.2 (Int32.lt_trans (by decide) z)⟩
      refine br_f (zt_cne e0 (by decide)) (br_f (zt_cne e0 (by decide)) (br_f (zt_cne e0 (by decide)) (br_f (zt_cne e0 (by decide)) (br_f e0.1 (br_f e0.2 ?_)))))
      exact zl_w1 (Y := zl_S d' s' w') (by omega) h ⟨e0'.1, fun z => e0.2 (Int32.lt_trans (by decide) z)⟩ (Or.inr (Or.inr (Or.inr (Or.inl ⟨e0, by rw [i2]; exact zb_in (by omega), by rw [i2]; exact zb_in (by omega), Or.inr (zb_in (by omega))⟩)))) (zt_ck_n (Or.inl (fun z => e0.2 (Int32.lt_trans (by decide) z)))) (fact o e0') (fun a7 a8 a9 a10 a11 g1 g2 => hp (e + 1) _ _ _ _ _ _ (by omega) (by omega) g1)
    · subst e0
      refine br_f (by decide) (br_f (by decide) (br_f (by decide) (br_f (by decide) (br_f (by decide) (br_t (by decide) (br_t rfl ?_))))))
      exact zl_w1 (Y := zl_S d' s' w') (by omega) h (by decide) (Or.inr (Or.inr (Or.inr (Or.inl ⟨by decide, by rw [i2]; exact zb_in (by omega), by rw [i2]; exact zb_in (by omega), Or.inr (zb_in (by omega))⟩)))) (zt_ck_n (by decide)) (fact 12 (by decide)) (fun a7 a8 a9 a10 a11 g1 g2 => hp (e + 1) _ _ _ _ _ _ (by omega) (by omega) g1)
  · -- NOT
    subst e0; subst e2
    refine br_f (by decide) (br_f (by decide) (br_f (by decide) (br_f (by decide) (br_f (by decide) (br_t (by decide) (br_f (by decide) (br_t rfl ?_)))))))
    refine zl_w1 (Y := zl_S d' s' w') (by omega) h (by decide) (Or.inr (Or.inr (Or.inl ⟨Or.inr rfl, zb_in (by omega), zb_in (by omega), rfl⟩))) (zt_ck_n (by decide)) (fun v hv => ?_) (fun a7 a8 a9 a10 a11 g1 g2 => hp (e + 1) _ _ _ _ _ _ (by omega) (by omega) g1)
    rcases hv with ⟨k, k1, k2, k3⟩ | ⟨k, k1, k2, k3⟩
    · have k4 := e3 k k1 k3
      exact zl_mv (by decide) (by rw [k2]; exact zl_ne (by omega) (by omega) (by omega)) (hX v (Or.inl ⟨k, by omega, k2, k4.2⟩))
    · exact zl_mv (by decide) (by rw [k2]; exact zl_ne (by omega) (by omega) (by omega)) (hX v (Or.inr ⟨k, k1, k2, k3⟩))
  · -- DUP
    subst e0; subst e2
    refine br_f (by decide) (br_f (by decide) (br_f (by decide) (br_f (by decide) (br_f (by decide) (br_t (by decide) (br_f (by decide) (br_f (by decide) (br_t rfl ?_))))))))
    refine zl_w1 (Y := zl_S d' s' w') (by omega) h (by decide) (Or.inr (Or.inr (Or.inl ⟨Or.inl rfl, by rw [t1]; exact zb_in (by omega), zb_in (by omega), rfl⟩))) (zt_ck_n (by decide)) (fun v hv => ?_) (fun a7 a8 a9 a10 a11 g1 g2 => hp (e + 1) _ _ _ _ _ _ (by omega) (by omega) g1)
    rcases hv with ⟨k, k1, k2, k3⟩ | ⟨k, k1, k2, k3⟩
    · rcases e3 k k1 k3 with k4 | k4
      · exact zl_eq (by rw [t1, k2, k4.1, Nat.add_comm]) (hX _ (Or.inl ⟨d - 1, by omega, by congr 1; omega, k4.2⟩))
      · exact zl_mv (by decide) (by rw [t1, k2]; exact zl_ne (by omega) (by omega) (by omega)) (hX v (Or.inl ⟨k, k4.1, k2, k4.2⟩))
    · exact zl_mv (by decide) (by rw [t1, k2]; exact zl_ne (by omega) (by omega) (by omega)) (hX v (Or.inr ⟨k, k1, k2, k3⟩))
  · -- POP
    subst e0; subst e2
    refine br_f (by decide) (br_f (by decide) (br_f (by decide) (br_f (by decide) (br_f (by decide) (br_t (by decide) (br_f (by decide) (br_f (by decide) (br_f (by decide) (br_f (by decide) (br_f (by decide) (br_f (by decide) ?_)))))))))))
    refine hp e W _ _ _ _ _ (by omega) (by omega) (zl_B_w h (Nat.le_refl _) (Nat.le_refl _) (fun _ g => g) (fun v hv => hX v ?_))
    rcases hv with ⟨k, k1, k2, k3⟩ | ⟨k, k1, k2, k3⟩
    · exact Or.inl ⟨k, by omega, k2, e3 k k1 k3⟩
    · exact Or.inr ⟨k, k1, k2, k3⟩
  · -- SWAP
    subst e0; subst e2
    refine br_f (by decide) (br_f (by decide) (br_f (by decide) (br_f (by decide) (br_f (by decide) (br_t (by decide) (br_f (by decide) (br_f (by decide) (br_f (by decide) (br_f (by decide) (br_f (by decide) (br_t rfl ?_)))))))))))
    refine zl_w1 (by omega) h (by decide) (Or.inr (Or.inr (Or.inl ⟨Or.inl rfl, zb_in (n := 10) (by omega), zb_in (by omega), rfl⟩))) (zt_ck_n (by decide)) (fun v hv => hv) (fun a7 a8 a9 a10 a11 g1 g2 => ?_)
    refine zl_w1 (by omega) g1 (by decide) (Or.inr (Or.inr (Or.inl ⟨Or.inl rfl, zb_in (by omega), by rw [i2]; exact zb_in (by omega), rfl⟩))) (zt_ck_n (by decide)) (fun v hv => hv) (fun a7 a8 a9 a10 a11 g3 g4 => ?_)
    refine zl_w1 (Y := zl_S d' s' w') (by omega) g3 (by decide) (Or.inr (Or.inr (Or.inl ⟨Or.inl rfl, by rw [i2]; exact zb_in (by omega), zb_in (n := 10) (by omega), rfl⟩))) (zt_ck_n (by decide)) (fun v hv => ?_) (fun a7 a8 a9 a10 a11 g5 g6 => hp (e + 1 + 1 + 1) _ _ _ _ _ _ (by omega) (by omega) g5)
    have c10 : (10 : Int32) = nI 10 := rfl
    rcases hv with ⟨k, k1, k2, k3⟩ | ⟨k, k1, k2, k3⟩
    · rcases e3 k k1 k3 with k4 | k4 | k4
      · refine zl_mv (by decide) (by rw [i2, k2]; exact zl_ne (by omega) (by omega) (by omega)) (zl_eq (by rw [k2]; congr 1; omega) (zl_mv (by decide) (by rw [i2, c10]; exact zl_ne (by omega) (by omega) (by omega)) ?_))
        rw [i2]
        exact hX _ (Or.inl ⟨d - 2, by omega, by congr 1; omega, k4.2⟩)
      · refine zl_eq (by rw [i2, k2]; congr 1; omega) (zl_mv (by decide) (by rw [c10]; exact zl_ne (by omega) (by omega) (by omega)) (zl_eq rfl ?_))
        exact hX _ (Or.inl ⟨d - 1, by omega, by congr 1; omega, k4.2⟩)
      · exact zl_mv (by decide) (by rw [i2, k2]; exact zl_ne (by omega) (by omega) (by omega)) (zl_mv (by decide) (by rw [k2]; exact zl_ne (by omega) (by omega) (by omega)) (zl_mv (by decide) (by rw [c10, k2]; exact zl_ne (by omega) (by omega) (by omega)) (hX v (Or.inl ⟨k, by omega, k2, k4.2⟩))))
    · exact zl_mv (by decide) (by rw [i2, k2]; exact zl_ne (by omega) (by omega) (by omega)) (zl_mv (by decide) (by rw [k2]; exact zl_ne (by omega) (by omega) (by omega)) (zl_mv (by decide) (by rw [c10, k2]; exact zl_ne (by omega) (by omega) (by omega)) (hX v (Or.inr ⟨k, k1, k2, k3⟩))))
  · -- GET
    subst e0; subst e2
    refine br_f (by decide) (br_f (by decide) (br_f (by decide) (br_f (by decide) (br_f (by decide) (br_t (by decide) (br_f (by decide) (br_f (by decide) (br_f (by decide) (br_t rfl ?_)))))))))
    refine zl_w1 (Y := zl_S d' s' w') (by omega) h (by decide) (Or.inr (Or.inr (Or.inr (Or.inr (Or.inl ⟨rfl, by rw [i2]; exact zb_in (by omega), by rw [i2]; exact zb_in (by omega), zb_in (by omega)⟩))))) ⟨fun _ => ?_, fun z => absurd z (by decide), fun z => absurd z (by decide)⟩ (fun v hv => ?_) (fun a7 a8 a9 a10 a11 g1 g2 => hp (e + 1) _ _ _ _ _ _ (by omega) (by omega) g1)
    · rw [i2]
      exact hX _ (Or.inl ⟨d' - 1, by omega, by congr 1; omega, e5⟩)
    · rcases hv with ⟨k, k1, k2, k3⟩ | ⟨k, k1, k2, k3⟩
      · have k4 := e3 k k1 k3
        exact zl_mv (by decide) (by rw [i2, k2]; exact zl_ne (by omega) (by omega) (by omega)) (hX v (Or.inl ⟨k, by omega, k2, k4.2⟩))
      · exact zl_mv (by decide) (by rw [i2, k2]; exact zl_ne (by omega) (by omega) (by omega)) (hX v (Or.inr ⟨k, k1, k2, k3⟩))
  · -- PUT
    subst e0; subst e2
    refine br_f (by decide) (br_f (by decide) (br_f (by decide) (br_f (by decide) (br_f (by decide) (br_t (by decide) (br_f (by decide) (br_f (by decide) (br_f (by decide) (br_f (by decide) (br_t rfl ?_))))))))))
    refine zl_w1 (Y := zl_S d' s' w') (by omega) h (by decide) (Or.inr (Or.inr (Or.inr (Or.inr (Or.inr (Or.inl ⟨rfl, zb_in (by omega), by rw [i3]; exact zb_in (by omega), by rw [i2]; exact zb_in (by omega)⟩)))))) ⟨fun _ => ?_, fun z => absurd z (by decide), fun z => absurd z (by decide)⟩ (fun v hv => (zt_tr_k G _ _ _ X v (Or.inr rfl)).mpr (hX v ?_)) (fun a7 a8 a9 a10 a11 g1 g2 => hp (e + 1) _ _ _ _ _ _ (by omega) (by omega) g1)
    · rw [i3]
      exact hX _ (Or.inl ⟨d', by omega, by congr 1; omega, e4⟩)
    · rcases hv with ⟨k, k1, k2, k3⟩ | ⟨k, k1, k2, k3⟩
      · exact Or.inl ⟨k, by omega, k2, e3 k k1 k3⟩
      · exact Or.inr ⟨k, k1, k2, k3⟩
  · rcases e0 with z | z <;> rw [z] at ho <;> exact absurd ho (by decide)
  · rcases e0 with z | z | z | z <;> rw [z] at ho <;> exact absurd ho (by decide)
end
end
section
/-! from instructions to operations: jumps, targets, the loop -/
section
variable {le ck va dn sn ln wc tr tf li tk tc lv ce sc gi pc : Int32} {iw : Int64} {a1 a2 a3 a4 a5 a6 a7 a8 a9 a10 a11 a12 a13 a14 a15 a16 a17 a18 a19 a20 a21 a22 a23 a24 a25 a26 a27 a28 a29 a30 : Nat → Int32}
theorem zl_leave {post : St1 → Prop} {G : Int32 → Int32 → Prop} {n i : Nat} {e W b : Nat} {Lb : Nat → Prop} {X : Int32 → Prop} {nn s s' : Int32} {d d' w w' : Nat} (he : e + 3 ≤ 240)
    (h : zl_B G n a1 a2 a3 e W b Lb X a7 a8 a9 a10 a11) (hd : d ≤ 6) (hA : X (-1)) (hX : ∀ v, zl_S d s w v → X v) (hE : zc_E (a1 i) nn d s w d' s' w') (ho : ¬ a1 i < 21)
    (hi : i < n) (hv : a3 i ≠ -1) (hnn : nn = a2 i) (hG : a1 i = 21 ∨ a1 i = 22 ∨ a1 i = 23 → vp_in nn 40 ∧ ∀ v, G nn v → zl_S d' s' w' v)
    (hp : ∀ e' W' a7 a8 a9 a10 a11, e' ≤ e + 3 → W' ≤ W + 12 → zl_B G n a1 a2 a3 e' W' b Lb (fun v => (a1 i = 21 ∨ a1 i = 25 ∨ a1 i = 26) ∨ zl_S d' s' w' v) a7 a8 a9 a10 a11 → post (le, ck, va, dn, sn, ln, wc, iw, tr, tf, nI e', tk, tc, lv, ce, sc, gi, pc, a1, a2, a3, a4, a5, a6, a7, a8, a9, a10, a11, a12, a13, a14, a15, a16, a17, a18, a19, a20, a21, a22, a23, a24, a25, a26, a27, a28, a29, a30)) :
    wpX_lowerLeaving post (le, ck, va, dn, sn, ln, wc, iw, tr, tf, nI e, tk, tc, lv, ce, sc, gi, pc, a1, a2, a3, a4, a5, a6, a7, a8, a9, a10, a11, a12, a13, a14, a15, a16, a17, a18, a19, a20, a21, a22, a23, a24, a25, a26, a27, a28, a29, a30) (a1 i) (nI (d + 3)) nn := by
  obtain ⟨hd', hs', hw', hq', hE⟩ := hE
  have lt : ∀ c : Int32, c < 21 → a1 i ≠ c := fun c hc z => ho (by rw [z]; exact hc)
  have key : ((a1 i = 21 ∨ a1 i = 26) ∧ d' = d ∧ w' = w ∧ ∀ k, k < d' → zb_i s' (nI k) → zb_i s (nI k)) ∨ ((a1 i = 22 ∨ a1 i = 23 ∨ a1 i = 24 ∨ a1 i = 25) ∧ d = d' + 1 ∧ w' = w ∧ ∀ k, k < d' → zb_i s' (nI k) → zb_i s (nI k)) := by
    rcases hE with z | z | z | z | z | z | z | z | z | z | z | z | z
    · exact absurd z.1 (lt _ (by decide))
    · exact absurd z.1 (lt _ (by decide))
    · exact absurd z.1 (lt _ (by decide))
    · exact absurd z.1 (lt _ (by decide))
    · rcases z.1 with y | y
      · exact absurd (Int32.lt_of_le_of_lt (Int32.not_lt.mp y.2) (by decide)) ho
      · exact absurd y (lt _ (by decide))
    · exact absurd z.1 (lt _ (by decide))
    · exact absurd z.1 (lt _ (by decide))
    · exact absurd z.1 (lt _ (by decide))
    · exact absurd z.1 (lt _ (by decide))
    · exact absurd z.1 (lt _ (by decide))
    · exact absurd z.1 (lt _ (by decide))
    · exact Or.inl z
    · exact Or.inr z
  have hdd : d' ≤ d := by rcases key with z | z <;> omega
  have hw : w' = w := by rcases key with z | z <;> exact z.2.2.1
  have hbits : ∀ k, k < d' → zb_i s' (nI k) → zb_i s (nI k) := by rcases key with z | z <;> exact z.2.2.2
  have hSS : ∀ v, zl_S d' s' w' v → X v := fun v g => hX v (by
    rcases g with ⟨k, k1, k2, k3⟩ | ⟨k, k1, k2, k3⟩
    · exact Or.inl ⟨k, by omega, k2, hbits k k1 k3⟩
    · exact Or.inr ⟨k, k1, k2, by rw [← hw]; exact k3⟩)
  have orig : (a1 i = 21 ∨ a1 i = 22 ∨ a1 i = 23) → ∃ q, q < n ∧ a3 q ≠ -1 ∧ (a1 q = 21 ∨ a1 q = 22 ∨ a1 q = 23) ∧ nn = a2 q := fun z => ⟨i, hi, hv, z, hnn⟩
  have ckj : ∀ (o' f' : Int32), (o' = 16 ∨ o' = 17 ∨ o' = 18) → (a1 i = 21 ∨ a1 i = 22 ∨ a1 i = 23) → zt_ck G o' f' nn X := fun o' f' ho' z =>
    ⟨fun y => by rcases ho' with t | t | t <;> rw [t] at y <;> exact absurd y (by decide), fun _ v g => hSS v ((hG z).2 v g), fun _ => hA⟩
  have nm1 : ∀ v, zl_S d' s' w' v → v ≠ -1 := fun v g => zb_ne1 (zl_S11 hd' g)
  rcases key with ⟨z, -⟩ | ⟨z, zd, -⟩
  · rcases z with z | z
    · refine br_t z (zl_write (b' := b) (Lb' := Lb) (by omega) h (by decide) (Or.inr (Or.inr (Or.inr (Or.inr (Or.inr (Or.inr (Or.inr (Or.inl ⟨rfl, rfl, rfl, rfl, (hG (Or.inl z)).1⟩)))))))) (ckj _ _ (Or.inr (Or.inr rfl)) (Or.inl z)) (Or.inl ⟨by decide, rfl, rfl⟩) (fun _ => orig (Or.inl z)) (fun a7 a8 a9 a10 a11 g => hp (e + 1) _ _ _ _ _ _ (by omega) ?_ (zl_B_w g (Nat.le_refl _) (Nat.le_refl _) (fun _ g => g) (fun v _ => zt_tr_e G _ _ _ X v (Or.inl rfl)))))
      have := zt_wt4 (o := 18) (k := nn) (by decide); omega
    · refine br_f (by rw [z]; decide) (br_f (by rw [z]; decide) (br_f (by rw [z]; decide) (br_f (by rw [z]; decide) (br_f (by rw [z]; decide) ?_))))
      refine zl_write (b' := b) (Lb' := Lb) (by omega) h (by decide) (Or.inr (Or.inl ⟨rfl, zb_in (n := 10) (by omega), rfl, rfl⟩)) (zt_ck_n (by decide)) (Or.inl ⟨by decide, rfl, rfl⟩) (fun y => absurd y (by decide)) (fun a7 a8 a9 a10 a11 g => ?_)
      refine zl_write (b' := b) (Lb' := Lb) (by omega) g (by decide) (Or.inr (Or.inr (Or.inr (Or.inr (Or.inr (Or.inr (Or.inr (Or.inr (Or.inr (Or.inr ⟨Or.inr rfl, rfl, zb_in (n := 10) (by omega), rfl⟩)))))))))) ⟨fun y => absurd y (by decide), fun y => absurd y (by decide), fun _ => ?_⟩ (Or.inl ⟨by decide, rfl, rfl⟩) (fun y => absurd y (by decide)) (fun a7 a8 a9 a10 a11 g => hp (e + 1 + 1) _ _ _ _ _ _ (by omega) ?_ (zl_B_w g (Nat.le_refl _) (Nat.le_refl _) (fun _ g => g) (fun v _ => zt_tr_e G _ _ _ _ v (Or.inr rfl))))
      · exact zl_mv (by decide) (by decide) hA
      · have := zt_wt4 (o := 1) (k := 0) (by decide)
        have := zt_wt4 (o := 22) (k := 0) (by decide)
        omega
  · have hf : vp_in (nI (d + 3)) 11 := zb_in (by omega)
    have npl : ¬ (a1 i = 21 ∨ a1 i = 25 ∨ a1 i = 26) → ∀ (o' : Int32) (f' k' : Int32), (o' = 16 ∨ o' = 17 ∨ o' = 21) → ∀ v, ((a1 i = 21 ∨ a1 i = 25 ∨ a1 i = 26) ∨ zl_S d' s' w' v) → zt_tr G o' (-1) f' k' X v := fun hn o' f' k' ho' v g => by
      rcases g with g | g
      · exact absurd g hn
      · exact (zt_tr_s G _ _ _ X v ho').mpr ⟨nm1 v g, hSS v g⟩
    rcases z with z | z | z | z
    · refine br_f (by rw [z]; decide) (br_t z (zl_write (b' := b) (Lb' := Lb) (by omega) h (by decide) (Or.inr (Or.inr (Or.inr (Or.inr (Or.inr (Or.inr (Or.inl ⟨Or.inl rfl, rfl, hf, rfl, (hG (Or.inr (Or.inl z))).1⟩))))))) (ckj _ _ (Or.inl rfl) (Or.inr (Or.inl z))) (Or.inl ⟨by decide, rfl, rfl⟩) (fun _ => orig (Or.inr (Or.inl z))) (fun a7 a8 a9 a10 a11 g => hp (e + 1) _ _ _ _ _ _ (by omega) ?_ (zl_B_w g (Nat.le_refl _) (Nat.le_refl _) (fun _ g => g) (npl (by rw [z]; decide) _ _ _ (Or.inl rfl))))))
      have := zt_wt4 (o := 16) (k := nn) (by decide); omega
    · refine br_f (by rw [z]; decide) (br_f (by rw [z]; decide) (br_t z (zl_write (b' := b) (Lb' := Lb) (by omega) h (by decide) (Or.inr (Or.inr (Or.inr (Or.inr (Or.inr (Or.inr (Or.inl ⟨Or.inr rfl, rfl, hf, rfl, (hG (Or.inr (Or.inr z))).1⟩))))))) (ckj _ _ (Or.inr (Or.inl rfl)) (Or.inr (Or.inr z))) (Or.inl ⟨by decide, rfl, rfl⟩) (fun _ => orig (Or.inr (Or.inr z))) (fun a7 a8 a9 a10 a11 g => hp (e + 1) _ _ _ _ _ _ (by omega) ?_ (zl_B_w g (Nat.le_refl _) (Nat.le_refl _) (fun _ g => g) (npl (by rw [z]; decide) _ _ _ (Or.inr (Or.inl rfl))))))))
      have := zt_wt4 (o := 17) (k := nn) (by decide); omega
    · refine br_f (by rw [z]; decide) (br_f (by rw [z]; decide) (br_f (by rw [z]; decide) (br_t z (zl_write (b' := b) (Lb' := Lb) (by omega) h (by decide) (Or.inr (Or.inr (Or.inr (Or.inr (Or.inr (Or.inr (Or.inr (Or.inr (Or.inr (Or.inr ⟨Or.inl rfl, rfl, hf, rfl⟩)))))))))) ⟨fun y => absurd y (by decide), fun y => absurd y (by decide), fun _ => hA⟩ (Or.inl ⟨by decide, rfl, rfl⟩) (fun y => absurd y (by decide)) (fun a7 a8 a9 a10 a11 g => hp (e + 1) _ _ _ _ _ _ (by omega) ?_ (zl_B_w g (Nat.le_refl _) (Nat.le_refl _) (fun _ g => g) (npl (by rw [z]; decide) _ _ _ (Or.inr (Or.inr rfl)))))))))
      have := zt_wt4 (o := 21) (k := 0) (by decide); omega
    · refine br_f (by rw [z]; decide) (br_f (by rw [z]; decide) (br_f (by rw [z]; decide) (br_f (by rw [z]; decide) (br_t z (zl_write (b' := b) (Lb' := Lb) (by omega) h (by decide) (Or.inr (Or.inr (Or.inr (Or.inr (Or.inr (Or.inr (Or.inr (Or.inr (Or.inr (Or.inr ⟨Or.inr rfl, rfl, hf, rfl⟩)))))))))) ⟨fun y => absurd y (by decide), fun y => absurd y (by decide), fun _ => hA⟩ (Or.inl ⟨by decide, rfl, rfl⟩) (fun y => absurd y (by decide)) (fun a7 a8 a9 a10 a11 g => hp (e + 1) _ _ _ _ _ _ (by omega) ?_ (zl_B_w g (Nat.le_refl _) (Nat.le_refl _) (fun _ g => g) (fun v _ => zt_tr_e G _ _ _ X v (Or.inr rfl)))))))))
      have := zt_wt4 (o := 22) (k := 0) (by decide); omega
theorem zl_target {post : Int32 → Prop} {n : Nat} {i : Int32} (hn : n ≤ 40) (h0 : (∀ k, k < n → (a1 k = 21 ∨ a1 k = 22 ∨ a1 k = 23) → ¬ a3 k < 0 → a2 k ≠ i) → post 0) (h1 : post 1) : wpX_isTarget post (nI n, ck, va, dn, sn, ln, wc, iw, tr, tf, li, tk, tc, lv, ce, sc, gi, pc, a1, a2, a3, a4, a5, a6, a7, a8, a9, a10, a11, a12, a13, a14, a15, a16, a17, a18, a19, a20, a21, a22, a23, a24, a25, a26, a27, a28, a29, a30) i := by
  refine pk_loop (σ := Unit) (fun m x _ => wX_isTarget_2 post i (nI n) ck va dn sn ln wc iw tr tf li tk tc lv ce sc gi pc a1 a2 a3 a4 a5 a6 a7 a8 a9 a10 a11 a12 a13 a14 a15 a16 a17 a18 a19 a20 a21 a22 a23 a24 a25 a26 a27 a28 a29 a30 m (nI x)) (fun x _ => ∀ k, k < x → (a1 k = 21 ∨ a1 k = 22 ∨ a1 k = 23) → ¬ a3 k < 0 → a2 k ≠ i) n 0 () (by omega) (fun k hk => absurd hk (by omega)) ?_ ?_
  · intro m _ hs
    exact pk_le n n (fun _ => h0 hs) (fun g => absurd g (by omega))
  · intro m x _ hx hs hm
    have c := zb_cl (n := x) (N := 40) (by omega)
    have v := zb_in (n := x) (N := 40) (by omega)
    have nxt : ((a1 x = 21 ∨ a1 x = 22 ∨ a1 x = 23) → ¬ a3 x < 0 → a2 x ≠ i) → ∀ y, y = nI x + 1 → wX_isTarget_2 post i (nI n) ck va dn sn ln wc iw tr tf li tk tc lv ce sc gi pc a1 a2 a3 a4 a5 a6 a7 a8 a9 a10 a11 a12 a13 a14 a15 a16 a17 a18 a19 a20 a21 a22 a23 a24 a25 a26 a27 a28 a29 a30 m y := fun g => nm_r (nI_1 x) (hm () (fun k hk => by
      by_cases z : k = x
      · rw [z]; exact g
      · exact hs k (by omega)))
    have hit : wX_isTarget_48 post (wX_isTarget_2 post i (nI n) ck va dn sn ln wc iw tr tf li tk tc lv ce sc gi pc a1 a2 a3 a4 a5 a6 a7 a8 a9 a10 a11 a12 a13 a14 a15 a16 a17 a18 a19 a20 a21 a22 a23 a24 a25 a26 a27 a28 a29 a30 m) i (nI x) 1 (nI n) ck va dn sn ln wc iw tr tf li tk tc lv ce sc gi pc a1 a2 a3 a4 a5 a6 a7 a8 a9 a10 a11 a12 a13 a14 a15 a16 a17 a18 a19 a20 a21 a22 a23 a24 a25 a26 a27 a28 a29 a30 := by
      refine br_f (by decide) ⟨v, br_c (fun z => nxt (fun _ g => ?_)) (fun z => ⟨v, br_c (fun z2 => h1) (fun z2 => nxt (fun _ _ => ?_))⟩)⟩
      · rw [c] at z; exact absurd z g
      · rw [c] at z2; exact z2
    refine pk_le n x (fun g => absurd g (by omega)) (fun _ => ⟨v, br_c (fun z => hit) (fun z21 => ⟨v, br_c (fun z => hit) (fun z22 => ⟨v, br_c (fun z => hit) (fun z23 => br_t rfl (nxt (fun g => ?_)))⟩)⟩)⟩)
    rw [c] at z21 z22 z23
    exact g.elim (fun g => absurd g z21) (fun g => g.elim (fun g => absurd g z22) (fun g => absurd g z23))
theorem zl_vis {n : Nat} {a3 a4 a5 : Nat → Int32} (hV : zc_V n a3 a4 a5) {j : Nat} (hj : j < n) : (a3 j = -1 ∧ ¬ 0 ≤ a3 j ∧ a3 j < 0) ∨ (a3 j ≠ -1 ∧ 0 ≤ a3 j ∧ ¬ a3 j < 0) := by
  rcases hV j hj with z | ⟨d, s, w, z⟩
  · rw [z]; exact Or.inl (by decide)
  · refine Or.inr ⟨zc_at_n z, ?_⟩
    rw [z.1]
    have := z.2.2.2.1
    exact ⟨nI_pos' (by omega), nI_pos (by omega)⟩
theorem zl_flG {n : Nat} {a3 a4 a5 : Nat → Int32} {t : Int32} {d : Nat} {s : Int32} {w : Nat} (h : zc_fl n a3 a4 a5 t d s w) (v : Int32) (g : zl_G a3 a4 a5 t v) : zl_S d s w v := by
  obtain ⟨h1, w', h2, h3⟩ := h
  obtain ⟨d2, s2, w2, g1, g2⟩ := g
  obtain ⟨e1, e2, e3⟩ := zc_at_u h2 g1
  subst e1; subst e2; subst e3
  exact zl_S_lo h3 g2
/-- the labels that must be there ahead of place i -/
def zl_Lb (n : Nat) (a1 a2 a3 : Nat → Int32) (i q : Nat) : Prop := q < i ∧ a3 q ≠ -1 ∧ ∃ k, k < n ∧ (a1 k = 21 ∨ a1 k = 22 ∨ a1 k = 23) ∧ ¬ a3 k < 0 ∧ a2 k = nI q
theorem zl_lower {post : St1 → Prop} {n : Nat} (hn : n ≤ 40) (hP : zc_P n a1 a2) (hOK : zc_OK n a1 a2 a3 a4 a5)
    (hp : ∀ e tk a7 a8 a9 a10 a11, zt_L e a7 a8 a9 a10 a11 → zt_N e a7 → post (nI n, ck, va, dn, sn, ln, wc, iw, tr, tf, nI e, tk, tc, lv, ce, sc, gi, pc, a1, a2, a3, a4, a5, a6, a7, a8, a9, a10, a11, a12, a13, a14, a15, a16, a17, a18, a19, a20, a21, a22, a23, a24, a25, a26, a27, a28, a29, a30)) : wpX_lower post (nI n, ck, va, dn, sn, ln, wc, iw, tr, tf, li, tk, tc, lv, ce, sc, gi, pc, a1, a2, a3, a4, a5, a6, a7, a8, a9, a10, a11, a12, a13, a14, a15, a16, a17, a18, a19, a20, a21, a22, a23, a24, a25, a26, a27, a28, a29, a30) := by
  obtain ⟨hn0, hV, hC, hz⟩ := hOK
  have hG11 : ∀ l v, zl_G a3 a4 a5 l v → vp_in v 11 := fun l v ⟨d, s, w, g1, g2⟩ => zl_S11 g1.2.2.2.1 g2
  refine pk_loop (σ := Nat × Nat × (Nat → Int32) × (Nat → Int32) × (Nat → Int32) × (Nat → Int32) × (Nat → Int32))
    (fun m i s => wX_lower_12 post m (nI i) (nI n) ck va dn sn ln wc iw tr tf (nI s.1) (nI s.2.1) tc lv ce sc gi pc a1 a2 a3 a4 a5 a6 s.2.2.1 s.2.2.2.1 s.2.2.2.2.1 s.2.2.2.2.2.1 s.2.2.2.2.2.2 a12 a13 a14 a15 a16 a17 a18 a19 a20 a21 a22 a23 a24 a25 a26 a27 a28 a29 a30)
    (fun i s => s.1 ≤ 6 * i ∧ s.2.1 ≤ i ∧ ∃ W X, W + s.2.1 ≤ 15 * i ∧ ((∀ v, X v) ∨ (i < n ∧ a3 i ≠ -1 ∧ ∀ v, zl_G a3 a4 a5 (nI i) v → X v)) ∧ zl_B (zl_G a3 a4 a5) n a1 a2 a3 s.1 W i (zl_Lb n a1 a2 a3 i) X s.2.2.1 s.2.2.2.1 s.2.2.2.2.1 s.2.2.2.2.2.1 s.2.2.2.2.2.2)
    n 0 (0, 0, a7, a8, a9, a10, a11) (by omega) ?_ ?_ ?_
  · refine ⟨Nat.le_refl _, Nat.le_refl _, 0, fun _ => False, Nat.le_refl _, Or.inr ⟨hn0, ?_, fun v g => ?_⟩, fun j hj => absurd hj (by omega), fun i j hi => absurd hi (by omega), fun j hj => absurd hj (by omega), fun q hq => absurd hq.1 (by omega), fun j hj => absurd hj (by omega), Nat.le_refl _, fun j hj => absurd hj (by omega), fun v g => g⟩
    · obtain ⟨s, w, z, _⟩ := hz
      exact zc_at_n z
    · obtain ⟨s, w, z, q0, q1, q2, q3⟩ := hz
      obtain ⟨d2, s2, w2, g1, g2⟩ := g
      have g1' : zc_at a3 a4 a5 0 d2 s2 w2 := g1
      obtain ⟨e1, e2, e3⟩ := zc_at_u z g1'
      subst e1; subst e2; subst e3
      rcases g2 with ⟨k, k1, _⟩ | ⟨k, k1, k2, k3⟩
      · omega
      · have hk4 : k = 0 ∨ k = 1 ∨ k = 2 ∨ k = 3 := by omega
        rcases hk4 with y | y | y | y <;> subst y <;> omega
  · rintro m ⟨e, t, a7, a8, a9, a10, a11⟩ ⟨h1, h2, W, X, h3, h4, h5⟩
    (try dsimp only at h1 h2 h3 h4 h5 ⊢)
    refine pk_le n n (fun _ => ?_) (fun g => absurd g (by omega))
    obtain ⟨b1, b2, b3, b4, b5, b6, b7, b8⟩ := h5
    have hX : ∀ v, X v := by
      rcases h4 with g | g
      · exact g
      · exact absurd g.1 (by omega)
    refine hp e _ _ _ _ _ _ ⟨by omega, fun j hj => (b1 j hj).2, b2, fun j hj g => ?_, by omega, zl_G a3 a4 a5, hG11, b7, b8 _ (hX _)⟩ (fun j hj => (b1 j hj).1)
    obtain ⟨q, q1, q2, q3, q4⟩ := b5 j hj g
    obtain ⟨d, s, w, d', s', w', c1, c2, c3, c4⟩ := hC q q1 q2
    obtain ⟨f1, w2, f2, f3⟩ := c3 q3
    have fl := zb_lt f1
    have fe : a2 q = nI (a2 q).toNatClampNeg := zb_nI (zb_mono f1 hn)
    have hnn : ¬ a3 q < 0 := by
      rcases zl_vis hV q1 with z | z
      · exact absurd z.1 q2
      · exact z.2.2
    obtain ⟨j2, j3, j4, j5⟩ := b4 (a2 q).toNatClampNeg ⟨fl, zc_at_n f2, q, q1, q3, hnn, fe⟩
    exact ⟨j2, j3, j4, by rw [j5, q4, ← fe]⟩
  · rintro m i ⟨e, t, a7, a8, a9, a10, a11⟩ hi ⟨h1, h2, W, X, h3, h4, h5⟩ hstep
    (try dsimp only at h1 h2 h3 h4 h5 hstep ⊢)
    have ci := zb_cl (n := i) (N := 40) (by omega)
    have vi := zb_in (n := i) (N := 40) (by omega)
    refine pk_le n i (fun g => absurd g (by omega)) (fun _ => ⟨vi, ?_⟩)
    rcases zl_vis hV hi with ⟨z1, z2, z3⟩ | ⟨z1, z2, z3⟩
    · refine br_f (by rw [ci]; exact z2) (nm_r (nI_1 i) (hstep (e, t, a7, a8, a9, a10, a11) ⟨by (try dsimp only); omega, by (try dsimp only); omega, W, X, by (try dsimp only); omega, Or.inl ?_, ?_⟩))
      · rcases h4 with g | g
        · exact g
        · exact absurd z1 g.2.1
      · exact zl_B_w h5 (Nat.le_refl _) (by omega) (fun q g => ⟨by
          rcases Nat.lt_or_ge q i with y | y
          · exact y
          · have : q = i := by have := g.1; omega
            exact absurd z1 (this ▸ g.2.1), g.2⟩) (fun _ g => g)
    refine br_t (by rw [ci]; exact z2) ?_
    obtain ⟨d, s, w, d', s', w', c1, c2, c3, c4⟩ := hC i hi z1
    have hXG : ∀ v, zl_S d s w v → X v := fun v g => by
      rcases h4 with y | y
      · exact y v
      · exact y.2.2 v ⟨d, s, w, by rw [ci]; exact c1, g⟩
    -- behind the label
    have rest : ∀ (e t W : Nat) (X : Int32 → Prop) (a7 a8 a9 a10 a11 : Nat → Int32), e ≤ 6 * i + 2 → t ≤ i → W + t ≤ 15 * i + 1 → (∀ v, zl_S d s w v → X v) →
        zl_B (zl_G a3 a4 a5) n a1 a2 a3 e W (i + 1) (zl_Lb n a1 a2 a3 (i + 1)) X a7 a8 a9 a10 a11 → wX_lower_54 post (wX_lower_12 post m) (nI i) (nI n) ck va dn sn ln wc iw tr tf (nI e) (nI t) tc lv ce sc gi pc a1 a2 a3 a4 a5 a6 a7 a8 a9 a10 a11 a12 a13 a14 a15 a16 a17 a18 a19 a20 a21 a22 a23 a24 a25 a26 a27 a28 a29 a30 := by
      intro e t W X a7 a8 a9 a10 a11 h1 h2 h3 hXS h5
      have top : (4 + a3 (nI i).toNatClampNeg) - 1 = nI (d + 3) := by
        rw [ci, c1.1]
        show nI 4 + nI d - 1 = _
        rw [nI_add, show 4 + d = (d + 3) + 1 by omega, nI_pred]
      have hd6 := c1.2.2.2.1
      have last : ∀ (e t W : Nat) (X : Int32 → Prop) (a7 a8 a9 a10 a11 : Nat → Int32), e ≤ 6 * i + 3 → t ≤ i + 1 → W + t ≤ 15 * i + 3 → (∀ v, zl_S d s w v → X v) → (¬ a1 i < 21 → X (-1)) →
          zl_B (zl_G a3 a4 a5) n a1 a2 a3 e W (i + 1) (zl_Lb n a1 a2 a3 (i + 1)) X a7 a8 a9 a10 a11 → wX_lower_87 post (wX_lower_12 post m) (nI i) (a1 i) (nI n) ck va dn sn ln wc iw tr tf (nI e) (nI t) tc lv ce sc gi pc a1 a2 a3 a4 a5 a6 a7 a8 a9 a10 a11 a12 a13 a14 a15 a16 a17 a18 a19 a20 a21 a22 a23 a24 a25 a26 a27 a28 a29 a30 := by
        intro e t W X a7 a8 a9 a10 a11 h1 h2 h3 hXS hA h5
        have e2 : a2 (nI i).toNatClampNeg = a2 i := by rw [ci]
        refine ⟨vi, nm_r top (br_c (fun y => ⟨vi, ?_⟩) (fun y => ⟨vi, ?_⟩))⟩
        · rw [e2]
          refine zl_plain (by omega) h5 hd6 hXS c2 y (fun e' W' a7 a8 a9 a10 a11 k1 k2 k3 => nm_r (nI_1 i) (hstep (e', t, a7, a8, a9, a10, a11) ⟨by (try dsimp only); omega, by (try dsimp only); omega, W', zl_S d' s' w', by (try dsimp only); omega, Or.inr ?_, k3⟩))
          have nf := c4 (fun z => absurd y (by rw [z]; decide)) (fun z => absurd y (by rw [z]; decide)) (fun z => absurd y (by rw [z]; decide))
          refine ⟨?_, ?_, fun v g => zl_flG nf v g⟩
          · have := zb_lt nf.1
            rwa [zb_cl (n := i + 1) (N := 41) (by omega)] at this
          · obtain ⟨f1, w2, f2, f3⟩ := nf
            rw [zb_cl (n := i + 1) (N := 41) (by omega)] at f2
            exact zc_at_n f2
        · rw [e2]
          refine zl_leave (by omega) h5 hd6 (hA y) hXS c2 y hi z1 rfl (fun g => ⟨zb_mono (c3 g).1 hn, fun v gv => zl_flG (c3 g) v gv⟩) (fun e' W' a7 a8 a9 a10 a11 k1 k2 k3 => nm_r (nI_1 i) (hstep (e', t, a7, a8, a9, a10, a11) ⟨by (try dsimp only); omega, by (try dsimp only); omega, W', _, by (try dsimp only); omega, ?_, k3⟩))
          by_cases g : a1 i = 21 ∨ a1 i = 25 ∨ a1 i = 26
          · exact Or.inl (fun v => Or.inl g)
          · have nf := c4 (fun z => g (Or.inl z)) (fun z => g (Or.inr (Or.inl z))) (fun z => g (Or.inr (Or.inr z)))
            refine Or.inr ⟨?_, ?_, fun v gv => Or.inr (zl_flG nf v gv)⟩
            · have := zb_lt nf.1
              rwa [zb_cl (n := i + 1) (N := 41) (by omega)] at this
            · obtain ⟨f1, w2, f2, f3⟩ := nf
              rw [zb_cl (n := i + 1) (N := 41) (by omega)] at f2
              exact zc_at_n f2
      have pay : wX_lower_83 post (wX_lower_12 post m) (nI i) (a1 i) (nI n) ck va dn sn ln wc iw tr tf (nI e) (nI (t + 1)) tc lv ce sc gi pc a1 a2 a3 a4 a5 a6 a7 a8 a9 a10 a11 a12 a13 a14 a15 a16 a17 a18 a19 a20 a21 a22 a23 a24 a25 a26 a27 a28 a29 a30 := by
        unfold wX_lower_83
        refine zl_pay (by omega) (by omega) h5 (fun e' a7 a8 a9 a10 a11 k1 k2 => ?_)
        exact last e' 0 _ _ a7 a8 a9 a10 a11 (by omega) (by omega) (by omega) (fun v g => Or.inr (hXS v g)) (fun _ => Or.inl ⟨by omega, rfl⟩) k2
      refine nm_r (nI_1 t) ⟨vi, nm_r (e' := a1 i) (by rw [ci]) (br_c (fun y => pay) (fun y => br_c (fun y2 => pay) (fun y2 => ?_)))⟩
      refine last e (t + 1) W X a7 a8 a9 a10 a11 (by omega) (by omega) (by omega) hXS (fun g => absurd (Int32.not_lt.mp g) y) h5
    refine zl_target hn (fun g => br_t rfl ?_) (br_f (by decide) ?_)
    · refine rest e t W X a7 a8 a9 a10 a11 (by omega) h2 (by omega) hXG (zl_B_w h5 (Nat.le_refl _) (by omega) (fun q y => ⟨?_, y.2⟩) (fun _ g => g))
      rcases Nat.lt_or_ge q i with y1 | y1
      · exact y1
      · have e3 : q = i := by have := y.1; omega
        obtain ⟨_, _, k, k1, k2, k3, k4⟩ := y
        rw [e3] at k4
        exact absurd k4 (g k k1 k2 k3)
    · refine zl_pay (by omega) (by omega) h5 (fun e' b7 b8 b9 b10 b11 k1 k2 => ?_)
      refine zl_write (b' := i + 1) (Lb' := fun q => zl_Lb n a1 a2 a3 i q ∨ q = i) (by omega) k2 (by decide) (Or.inr (Or.inr (Or.inr (Or.inr (Or.inr (Or.inr (Or.inr (Or.inr (Or.inl ⟨rfl, rfl, rfl, rfl, vi⟩))))))))) ⟨fun y => absurd y (by decide), fun _ v gv => ?_, fun y => absurd y (by decide)⟩ (Or.inr ⟨rfl, rfl, by omega, rfl, rfl⟩) (fun y => absurd y (by decide)) (fun a7 a8 a9 a10 a11 g => ?_)
      · obtain ⟨d2, s2, w2, g1, g2⟩ := gv
        rw [ci] at g1
        obtain ⟨e1, e2, e3⟩ := zc_at_u c1 g1
        subst e1; subst e2; subst e3
        exact Or.inr (hXG v g2)
      · refine rest (e' + 1) 0 _ (zl_G a3 a4 a5 (nI i)) a7 a8 a9 a10 a11 (by omega) (by omega) ?_ (fun v gv => ⟨d, s, w, by rw [ci]; exact c1, gv⟩) (zl_B_w g (Nat.le_refl _) (Nat.le_refl _) (fun q y => ?_) (fun v gv => gv))
        · have : zt_wt 19 (nI i) = 0 := rfl
          omega
        · rcases Nat.lt_or_ge q i with y1 | y1
          · exact Or.inl ⟨y1, y.2⟩
          · exact Or.inr (by have := y.1; omega)
end
end
section
/-! the first pass that improves: copies, numbers, what was worked out -/
/-- entrywise passes -/
theorem zt_L_ew {e : Nat} {O M F S K o m f s k : Nat → Int32} (h : zt_L e O M F S K) (hsh : ∀ j, j < e → zt_sh (o j) (m j) (f j) (s j) (k j)) (hlab : ∀ j, j < e → (o j = 19 ↔ O j = 19))
    (hlk : ∀ j, j < e → O j = 19 → k j = K j) (hlv : ∀ j, j < e → (o j = 16 ∨ o j = 17 ∨ o j = 18) → (O j = 16 ∨ O j = 17 ∨ O j = 18) ∧ k j = K j)
    (hw : ∀ j, j < e → zt_wt (o j) (k j) ≤ zt_wt (O j) (K j)) (ht : zt_ty e o m f k) : zt_L e o m f s k := by
  obtain ⟨h1, h2, h3, h4, h5, h6⟩ := h
  refine ⟨h1, hsh, fun i j hi hj e1 e2 e3 => ?_, fun i hi g => ?_, ?_, ht⟩
  · have g1 := (hlab i hi).mp e1
    have g2 := (hlab j hj).mp e2
    rw [hlk i hi g1, hlk j hj g2] at e3
    exact h3 i j hi hj g1 g2 e3
  · obtain ⟨g1, g2⟩ := hlv i hi g
    obtain ⟨j, j1, j2, j3⟩ := h4 i hi g1
    exact ⟨j, j1, (hlab j j1).mpr j2, by rw [hlk j j1 j2, j3, g2]⟩
  · exact Nat.le_trans (zb_sm_le hw) h5
def zs_ch (j : Nat) (a7 a9 a10 a11 b7 b9 b10 b11 : Nat → Int32) : Prop := ∀ q, q ≠ j → b7 q = a7 q ∧ b9 q = a9 q ∧ b10 q = a10 q ∧ b11 q = a11 q
theorem zs_ch_r (j : Nat) (a7 a9 a10 a11 : Nat → Int32) : zs_ch j a7 a9 a10 a11 a7 a9 a10 a11 := fun _ _ => ⟨rfl, rfl, rfl, rfl⟩
theorem zs_ch_t {j : Nat} {a7 a9 a10 a11 b7 b9 b10 b11 c7 c9 c10 c11 : Nat → Int32} (h : zs_ch j a7 a9 a10 a11 b7 b9 b10 b11) (g : zs_ch j b7 b9 b10 b11 c7 c9 c10 c11) : zs_ch j a7 a9 a10 a11 c7 c9 c10 c11 := fun q hq => by
  obtain ⟨h1, h2, h3, h4⟩ := h q hq
  obtain ⟨g1, g2, g3, g4⟩ := g q hq
  exact ⟨g1.trans h1, g2.trans h2, g3.trans h3, g4.trans h4⟩
theorem zs_ch_u (j : Nat) (a7 a9 a10 a11 : Nat → Int32) (x y z w : Int32) : zs_ch j a7 a9 a10 a11 (upd a7 j x) (upd a9 j y) (upd a10 j z) (upd a11 j w) := fun _ hq => ⟨pk_un hq, pk_un hq, pk_un hq, pk_un hq⟩
/-- entry j makes a number that is no reference, or copies -/
def zs_pl (j : Nat) (a7 a8 a9 a10 a11 : Nat → Int32) : Prop := (¬ a7 j < 1 ∧ ¬ 13 < a7 j) ∧ zt_sh (a7 j) (a8 j) (a9 j) (a10 j) (a11 j)
section
variable {le ck va dn sn ln wc tr tf li tk tc lv ce sc gi pc : Int32} {iw : Int64} {a1 a2 a3 a4 a5 a6 a7 a8 a9 a10 a11 a12 a13 a14 a15 a16 a17 a18 a19 a20 a21 a22 a23 a24 a25 a26 a27 a28 a29 a30 : Nat → Int32}
theorem zs_become {post : St1 → Prop} {j : Nat} {what a num : Int32} (hj : j < 240) (hw : vp_in what 128) (ha : zb_o a)
    (h : post (le, ck, va, dn, sn, ln, wc, iw, tr, tf, li, tk, tc, lv, ce, sc, gi, pc, a1, a2, a3, a4, a5, a6, upd a7 j what, a8, upd a9 j a, upd a10 j (-1), upd a11 j num, a12, a13, a14, a15, a16, a17, a18, a19, a20, a21, a22, a23, a24, a25, a26, a27, a28, a29, a30)) : wpX_become post (le, ck, va, dn, sn, ln, wc, iw, tr, tf, li, tk, tc, lv, ce, sc, gi, pc, a1, a2, a3, a4, a5, a6, a7, a8, a9, a10, a11, a12, a13, a14, a15, a16, a17, a18, a19, a20, a21, a22, a23, a24, a25, a26, a27, a28, a29, a30) (nI j) what a num := by
  have v := zb_in hj
  have c := zb_cl hj
  exact ⟨v, nm_r (e' := upd a7 j what) (by rw [c, zb_b hw]) ⟨v, nm_r (e' := upd a9 j a) (by rw [c, zb_ob ha]) ⟨v, nm_r (e' := upd a10 j (-1)) (by rw [c]) ⟨v, nm_r (e' := upd a11 j num) (by rw [c]) h⟩⟩⟩⟩
/-- it becomes a number -/
theorem zs_num {post : St1 → Prop} {j : Nat} {num : Int32} (hj : j < 240) (hm : vp_in (a8 j) 11)
    (h : ∀ b7 b9 b10 b11, zs_ch j a7 a9 a10 a11 b7 b9 b10 b11 → zs_pl j b7 a8 b9 b10 b11 → post (le, ck, va, dn, sn, ln, wc, iw, tr, tf, li, tk, tc, lv, ce, sc, gi, pc, a1, a2, a3, a4, a5, a6, b7, a8, b9, b10, b11, a12, a13, a14, a15, a16, a17, a18, a19, a20, a21, a22, a23, a24, a25, a26, a27, a28, a29, a30)) : wpX_become post (le, ck, va, dn, sn, ln, wc, iw, tr, tf, li, tk, tc, lv, ce, sc, gi, pc, a1, a2, a3, a4, a5, a6, a7, a8, a9, a10, a11, a12, a13, a14, a15, a16, a17, a18, a19, a20, a21, a22, a23, a24, a25, a26, a27, a28, a29, a30) (nI j) 1 (-1) num :=
  zs_become hj (zb_in (n := 1) (by omega)) (Or.inl rfl) (h _ _ _ _ (zs_ch_u _ _ _ _ _ _ _ _ _) (by
    unfold zs_pl
    rw [pk_us, pk_us, pk_us, pk_us]
    exact ⟨by decide, Or.inr (Or.inl ⟨rfl, hm, rfl, rfl⟩)⟩))
/-- it becomes a copy -/
theorem zs_mov {post : St1 → Prop} {j : Nat} {a num : Int32} (hj : j < 240) (hm : vp_in (a8 j) 11) (ha : vp_in a 11)
    (h : ∀ b7 b9 b10 b11, zs_ch j a7 a9 a10 a11 b7 b9 b10 b11 → zs_pl j b7 a8 b9 b10 b11 → post (le, ck, va, dn, sn, ln, wc, iw, tr, tf, li, tk, tc, lv, ce, sc, gi, pc, a1, a2, a3, a4, a5, a6, b7, a8, b9, b10, b11, a12, a13, a14, a15, a16, a17, a18, a19, a20, a21, a22, a23, a24, a25, a26, a27, a28, a29, a30)) : wpX_become post (le, ck, va, dn, sn, ln, wc, iw, tr, tf, li, tk, tc, lv, ce, sc, gi, pc, a1, a2, a3, a4, a5, a6, a7, a8, a9, a10, a11, a12, a13, a14, a15, a16, a17, a18, a19, a20, a21, a22, a23, a24, a25, a26, a27, a28, a29, a30) (nI j) 2 a num :=
  zs_become hj (zb_in (n := 2) (by omega)) (Or.inr ha) (h _ _ _ _ (zs_ch_u _ _ _ _ _ _ _ _ _) (by
    unfold zs_pl
    rw [pk_us, pk_us, pk_us, pk_us]
    exact ⟨by decide, Or.inr (Or.inr (Or.inl ⟨Or.inl rfl, hm, ha, rfl⟩))⟩))
theorem zs_known {post : St1 → Prop} {j : Nat} {what a q : Int32} (hj : j < 240) (hm : vp_in (a8 j) 11) (ha : vp_in a 11) (hc : zs_pl j a7 a8 a9 a10 a11)
    (h : ∀ b7 b9 b10 b11, zs_ch j a7 a9 a10 a11 b7 b9 b10 b11 → zs_pl j b7 a8 b9 b10 b11 → post (le, ck, va, dn, sn, ln, wc, iw, tr, tf, li, tk, tc, lv, ce, sc, gi, pc, a1, a2, a3, a4, a5, a6, b7, a8, b9, b10, b11, a12, a13, a14, a15, a16, a17, a18, a19, a20, a21, a22, a23, a24, a25, a26, a27, a28, a29, a30)) : wpX_simplifyKnown post (le, ck, va, dn, sn, ln, wc, iw, tr, tf, li, tk, tc, lv, ce, sc, gi, pc, a1, a2, a3, a4, a5, a6, a7, a8, a9, a10, a11, a12, a13, a14, a15, a16, a17, a18, a19, a20, a21, a22, a23, a24, a25, a26, a27, a28, a29, a30) (nI j) what a q := by
  have U : post (le, ck, va, dn, sn, ln, wc, iw, tr, tf, li, tk, tc, lv, ce, sc, gi, pc, a1, a2, a3, a4, a5, a6, a7, a8, a9, a10, a11, a12, a13, a14, a15, a16, a17, a18, a19, a20, a21, a22, a23, a24, a25, a26, a27, a28, a29, a30) := h _ _ _ _ (zs_ch_r _ _ _ _ _) hc
  have N : wX_simplifyKnown_121 post (nI j) le ck va dn sn ln wc iw tr tf li tk tc lv ce sc gi pc a1 a2 a3 a4 a5 a6 a7 a8 a9 a10 a11 a12 a13 a14 a15 a16 a17 a18 a19 a20 a21 a22 a23 a24 a25 a26 a27 a28 a29 a30 := by unfold wX_simplifyKnown_121; exact zs_num hj hm h
  have M : wX_simplifyKnown_94 post (nI j) a le ck va dn sn ln wc iw tr tf li tk tc lv ce sc gi pc a1 a2 a3 a4 a5 a6 a7 a8 a9 a10 a11 a12 a13 a14 a15 a16 a17 a18 a19 a20 a21 a22 a23 a24 a25 a26 a27 a28 a29 a30 := by unfold wX_simplifyKnown_94; exact zs_mov hj hm ha h
  have k105 : wX_simplifyKnown_105 post (nI j) what q le ck va dn sn ln wc iw tr tf li tk tc lv ce sc gi pc a1 a2 a3 a4 a5 a6 a7 a8 a9 a10 a11 a12 a13 a14 a15 a16 a17 a18 a19 a20 a21 a22 a23 a24 a25 a26 a27 a28 a29 a30 := br_c (fun _ => br_c (fun _ => N) (fun _ => br_c (fun _ => N) (fun _ => U))) (fun _ => U)
  have k82 : wX_simplifyKnown_82 post (nI j) what a q le ck va dn sn ln wc iw tr tf li tk tc lv ce sc gi pc a1 a2 a3 a4 a5 a6 a7 a8 a9 a10 a11 a12 a13 a14 a15 a16 a17 a18 a19 a20 a21 a22 a23 a24 a25 a26 a27 a28 a29 a30 := br_c (fun _ => br_c (fun _ => M) (fun _ => k105)) (fun _ => k105)
  have k71 : wX_simplifyKnown_71 post (nI j) what a q le ck va dn sn ln wc iw tr tf li tk tc lv ce sc gi pc a1 a2 a3 a4 a5 a6 a7 a8 a9 a10 a11 a12 a13 a14 a15 a16 a17 a18 a19 a20 a21 a22 a23 a24 a25 a26 a27 a28 a29 a30 := br_c (fun _ => br_c (fun _ => M) (fun _ => k82)) (fun _ => k82)
  have k58 : ∀ z, wX_simplifyKnown_58 post (nI j) what a q z le ck va dn sn ln wc iw tr tf li tk tc lv ce sc gi pc a1 a2 a3 a4 a5 a6 a7 a8 a9 a10 a11 a12 a13 a14 a15 a16 a17 a18 a19 a20 a21 a22 a23 a24 a25 a26 a27 a28 a29 a30 := fun z => br_c (fun _ => k71) (fun _ => br_c (fun _ => M) (fun _ => k71))
  have k46 : ∀ y z, wX_simplifyKnown_46 post (nI j) what a q y z le ck va dn sn ln wc iw tr tf li tk tc lv ce sc gi pc a1 a2 a3 a4 a5 a6 a7 a8 a9 a10 a11 a12 a13 a14 a15 a16 a17 a18 a19 a20 a21 a22 a23 a24 a25 a26 a27 a28 a29 a30 := fun y z => br_c (fun _ => br_c (fun _ => k58 z) (fun _ => M)) (fun _ => k58 z)
  have k27 : ∀ z, wX_simplifyKnown_27 post (nI j) what a q z le ck va dn sn ln wc iw tr tf li tk tc lv ce sc gi pc a1 a2 a3 a4 a5 a6 a7 a8 a9 a10 a11 a12 a13 a14 a15 a16 a17 a18 a19 a20 a21 a22 a23 a24 a25 a26 a27 a28 a29 a30 := fun z => br_c (fun _ => k46 z 1) (fun _ => br_c (fun _ => k46 z 1) (fun _ => k46 z 0))
  exact br_c (fun _ => k27 1) (fun _ => br_c (fun _ => k27 1) (fun _ => br_c (fun _ => k27 1) (fun _ => br_c (fun _ => k27 1) (fun _ => k27 0))))
theorem zs_equal {post : St1 → Prop} {j : Nat} {what a : Int32} (hj : j < 240) (hm : vp_in (a8 j) 11) (ha : vp_in a 11) (hc : zs_pl j a7 a8 a9 a10 a11)
    (h : ∀ b7 b9 b10 b11, zs_ch j a7 a9 a10 a11 b7 b9 b10 b11 → zs_pl j b7 a8 b9 b10 b11 → post (le, ck, va, dn, sn, ln, wc, iw, tr, tf, li, tk, tc, lv, ce, sc, gi, pc, a1, a2, a3, a4, a5, a6, b7, a8, b9, b10, b11, a12, a13, a14, a15, a16, a17, a18, a19, a20, a21, a22, a23, a24, a25, a26, a27, a28, a29, a30)) : wpX_simplifyEqual post (le, ck, va, dn, sn, ln, wc, iw, tr, tf, li, tk, tc, lv, ce, sc, gi, pc, a1, a2, a3, a4, a5, a6, a7, a8, a9, a10, a11, a12, a13, a14, a15, a16, a17, a18, a19, a20, a21, a22, a23, a24, a25, a26, a27, a28, a29, a30) (nI j) what a := by
  have U : post (le, ck, va, dn, sn, ln, wc, iw, tr, tf, li, tk, tc, lv, ce, sc, gi, pc, a1, a2, a3, a4, a5, a6, a7, a8, a9, a10, a11, a12, a13, a14, a15, a16, a17, a18, a19, a20, a21, a22, a23, a24, a25, a26, a27, a28, a29, a30) := h _ _ _ _ (zs_ch_r _ _ _ _ _) hc
  have N : wX_simplifyEqual_17 post (nI j) le ck va dn sn ln wc iw tr tf li tk tc lv ce sc gi pc a1 a2 a3 a4 a5 a6 a7 a8 a9 a10 a11 a12 a13 a14 a15 a16 a17 a18 a19 a20 a21 a22 a23 a24 a25 a26 a27 a28 a29 a30 := by unfold wX_simplifyEqual_17; exact zs_num hj hm h
  have M : wX_simplifyEqual_57 post (nI j) a le ck va dn sn ln wc iw tr tf li tk tc lv ce sc gi pc a1 a2 a3 a4 a5 a6 a7 a8 a9 a10 a11 a12 a13 a14 a15 a16 a17 a18 a19 a20 a21 a22 a23 a24 a25 a26 a27 a28 a29 a30 := by unfold wX_simplifyEqual_57; exact zs_mov hj hm ha h
  exact br_c (fun _ => N) (fun _ => br_c (fun _ => N) (fun _ => br_c (fun _ => N) (fun _ => br_c (fun _ => zs_num hj hm h) (fun _ => br_c (fun _ => M) (fun _ => br_c (fun _ => M) (fun _ => U))))))
theorem zs_comb {post : Int32 → Prop} {p q r : Int32} (h : ∀ x, post x) : wpX_combined post (le, ck, va, dn, sn, ln, wc, iw, tr, tf, li, tk, tc, lv, ce, sc, gi, pc, a1, a2, a3, a4, a5, a6, a7, a8, a9, a10, a11, a12, a13, a14, a15, a16, a17, a18, a19, a20, a21, a22, a23, a24, a25, a26, a27, a28, a29, a30) p q r :=
  br_c (fun _ => h _) (fun _ => br_c (fun _ => h _) (fun _ => br_c (fun _ => h _) (fun _ => br_c (fun _ => h _) (fun _ => br_c (fun _ => h _) (fun _ => br_c (fun _ => h _) (fun _ => br_c (fun _ => h _) (fun _ => br_c (fun _ => h _) (fun _ => br_c (fun _ => br_c (fun _ => h _) (fun _ => h _)) (fun _ => br_c (fun _ => h _) (fun _ => h _))))))))))
theorem zs_small {post : Int32 → Prop} {p : Int32} (h0 : post 0) (h1 : post 1) : wpX_isSmall post (le, ck, va, dn, sn, ln, wc, iw, tr, tf, li, tk, tc, lv, ce, sc, gi, pc, a1, a2, a3, a4, a5, a6, a7, a8, a9, a10, a11, a12, a13, a14, a15, a16, a17, a18, a19, a20, a21, a22, a23, a24, a25, a26, a27, a28, a29, a30) p := br_c (fun _ => h0) (fun _ => br_c (fun _ => h0) (fun _ => h1))
theorem zs_chp {post : Int32 → Prop} {p : Int32} (h0 : post 0) (h1 : post 1) : wpX_changesPlaces post (le, ck, va, dn, sn, ln, wc, iw, tr, tf, li, tk, tc, lv, ce, sc, gi, pc, a1, a2, a3, a4, a5, a6, a7, a8, a9, a10, a11, a12, a13, a14, a15, a16, a17, a18, a19, a20, a21, a22, a23, a24, a25, a26, a27, a28, a29, a30) p := by
  have k : wX_changesPlaces_22 post p le ck va dn sn ln wc iw tr tf li tk tc lv ce sc gi pc a1 a2 a3 a4 a5 a6 a7 a8 a9 a10 a11 a12 a13 a14 a15 a16 a17 a18 a19 a20 a21 a22 a23 a24 a25 a26 a27 a28 a29 a30 := br_c (fun _ => h1) (fun _ => h0)
  exact br_c (fun _ => h1) (fun _ => br_c (fun _ => h1) (fun _ => br_c (fun _ => k) (fun _ => br_c (fun _ => h1) (fun _ => k))))
/-- from 158 on: the entry is what (a, b) -/
theorem zs_158 {post : St1 → Prop} {j : Nat} {what b x5 : Int32} (hj : j < 240) (hw : ¬ what < 3 ∧ ¬ 12 < what) (h7 : a7 j = what) (hm : vp_in (a8 j) 11) (ha : vp_in (a9 j) 11) (hb : zb_o b) (hc : zs_pl j a7 a8 a9 a10 a11)
    (h : ∀ b7 b9 b10 b11, zs_ch j a7 a9 a10 a11 b7 b9 b10 b11 → zs_pl j b7 a8 b9 b10 b11 → post (le, ck, va, dn, sn, ln, wc, iw, tr, tf, li, tk, tc, lv, ce, sc, gi, pc, a1, a2, a3, a4, a5, a6, b7, a8, b9, b10, b11, a12, a13, a14, a15, a16, a17, a18, a19, a20, a21, a22, a23, a24, a25, a26, a27, a28, a29, a30)) : wX_simplify_158 post (nI j) what (a9 j) b x5 le ck va dn sn ln wc iw tr tf li tk tc lv ce sc gi pc a1 a2 a3 a4 a5 a6 a7 a8 a9 a10 a11 a12 a13 a14 a15 a16 a17 a18 a19 a20 a21 a22 a23 a24 a25 a26 a27 a28 a29 a30 := by
  have c := zb_cl hj
  have k198 : ∀ q, wX_simplify_198 post (nI j) what (a9 j) q le ck va dn sn ln wc iw tr tf li tk tc lv ce sc gi pc a1 a2 a3 a4 a5 a6 a7 a8 a9 a10 a11 a12 a13 a14 a15 a16 a17 a18 a19 a20 a21 a22 a23 a24 a25 a26 a27 a28 a29 a30 := fun q => by
    unfold wX_simplify_198
    refine zs_small (br_t rfl ?_) (br_f (by decide) ?_)
    · unfold wX_simplify_218
      exact zs_known hj hm ha hc h
    refine zs_become hj (zb_mono (zt_c23 hw) (by omega)) (Or.inr ha) ?_
    show wX_simplify_218 post (nI j) what (a9 j) q _ _ _ _ _ _ _ _ _ _ _ _ _ _ _ _ _ _ _ _ _ _ _ _ _ _ _ _ _ _ _ _ _ _ _ _ _ _ _ _ _ _ _ _ _ _ _ _
    unfold wX_simplify_218
    refine zs_known hj hm ha ?_ (fun b7 b9 b10 b11 g1 g2 => h _ _ _ _ (zs_ch_t (zs_ch_u _ _ _ _ _ _ _ _ _) g1) g2)
    unfold zs_pl
    rw [pk_us, pk_us, pk_us, pk_us]
    exact ⟨⟨fun z => hw.1 (Int32.lt_trans z (by decide)), fun z => hw.2 (Int32.lt_trans (by decide) z)⟩, Or.inr (Or.inr (Or.inr (Or.inl ⟨hw, hm, ha, Or.inl rfl⟩)))⟩
  exact br_c (fun _ => br_c (fun _ => zs_equal hj hm ha hc h) (fun _ => h _ _ _ _ (zs_ch_r _ _ _ _ _) hc)) (fun _ => br_c (fun z => ⟨zb_op hb (Int32.not_lt.mpr z), k198 _⟩) (fun z => ⟨zb_in hj, k198 _⟩))
theorem zs_simplify {post : St1 → Prop} {j : Nat} (hj : j < 240) (hw : ¬ a7 j < 3 ∧ ¬ 12 < a7 j) (hm : vp_in (a8 j) 11) (ha : vp_in (a9 j) 11) (hb : zb_o (a10 j))
    (h : ∀ b7 b9 b10 b11, zs_ch j a7 a9 a10 a11 b7 b9 b10 b11 → zs_pl j b7 a8 b9 b10 b11 → post (le, ck, va, dn, sn, ln, wc, iw, tr, tf, li, tk, tc, lv, ce, sc, gi, pc, a1, a2, a3, a4, a5, a6, b7, a8, b9, b10, b11, a12, a13, a14, a15, a16, a17, a18, a19, a20, a21, a22, a23, a24, a25, a26, a27, a28, a29, a30)) : wpX_simplify post (le, ck, va, dn, sn, ln, wc, iw, tr, tf, li, tk, tc, lv, ce, sc, gi, pc, a1, a2, a3, a4, a5, a6, a7, a8, a9, a10, a11, a12, a13, a14, a15, a16, a17, a18, a19, a20, a21, a22, a23, a24, a25, a26, a27, a28, a29, a30) (nI j) := by
  have v := zb_in hj
  have c := zb_cl hj
  have hc : zs_pl j a7 a8 a9 a10 a11 := ⟨⟨fun z => hw.1 (Int32.lt_trans z (by decide)), fun z => hw.2 (Int32.lt_trans (by decide) z)⟩, Or.inr (Or.inr (Or.inr (Or.inl ⟨hw, hm, ha, hb⟩)))⟩
  have k106 : ∀ z, (a13 (a9 j).toNatClampNeg ≠ 0 → vp_in (a10 j) 11) → wX_simplify_106 post (nI j) (a7 j) (a9 j) (a10 j) z le ck va dn sn ln wc iw tr tf li tk tc lv ce sc gi pc a1 a2 a3 a4 a5 a6 a7 a8 a9 a10 a11 a12 a13 a14 a15 a16 a17 a18 a19 a20 a21 a22 a23 a24 a25 a26 a27 a28 a29 a30 := fun z hz => by
    refine ⟨ha, br_c (fun _ => zs_158 hj hw rfl hm ha hb hc h) (fun g => zs_chp (br_t rfl (zs_158 hj hw rfl hm ha hb hc h)) (br_f (by decide) ?_))⟩
    have hb' := hz g
    refine ⟨v, nm_r (e' := upd a9 j (a10 j)) (by rw [c, zb_ob hb]) ⟨v, nm_r (e' := upd a10 j (a9 j)) (by rw [c, zb_ob (Or.inr ha)]) ⟨v, nm_r (e' := upd a9 j (a10 j) j) (by rw [c]) ⟨v, nm_r (e' := a9 j) (by rw [c, pk_us]) ?_⟩⟩⟩⟩
    refine zs_158 (a9 := upd a9 j (a10 j)) (a10 := upd a10 j (a9 j)) hj hw rfl hm (by rw [pk_us]; exact hb') (Or.inr ha) ?_ (fun b7 b9 b10 b11 g1 g2 => h _ _ _ _ (fun q hq => ?_) g2)
    · unfold zs_pl
      rw [pk_us, pk_us]
      exact ⟨hc.1, Or.inr (Or.inr (Or.inr (Or.inl ⟨hw, hm, hb', Or.inr ha⟩)))⟩
    · obtain ⟨t1, t2, t3, t4⟩ := g1 q hq
      exact ⟨t1, by rw [t2, pk_un hq], by rw [t3, pk_un hq], t4⟩
  have k79 : ∀ q, wX_simplify_79 post (nI j) (a7 j) (a9 j) q le ck va dn sn ln wc iw tr tf li tk tc lv ce sc gi pc a1 a2 a3 a4 a5 a6 a7 a8 a9 a10 a11 a12 a13 a14 a15 a16 a17 a18 a19 a20 a21 a22 a23 a24 a25 a26 a27 a28 a29 a30 := fun q => ⟨ha, zs_comb (fun x => zs_num hj hm h)⟩
  have k42 : ∀ z, (z = 0 → vp_in (a10 j) 11) → wX_simplify_42 post (nI j) (a7 j) (a9 j) (a10 j) z le ck va dn sn ln wc iw tr tf li tk tc lv ce sc gi pc a1 a2 a3 a4 a5 a6 a7 a8 a9 a10 a11 a12 a13 a14 a15 a16 a17 a18 a19 a20 a21 a22 a23 a24 a25 a26 a27 a28 a29 a30 := fun z hz =>
    ⟨ha, br_c (fun g => k106 z (fun y => absurd g y)) (fun _ => br_c (fun g => k106 z (fun _ => hz g)) (fun _ => br_c (fun g => ⟨zb_op hb (Int32.not_lt.mpr g), k79 _⟩) (fun g => ⟨v, k79 _⟩)))⟩
  refine ⟨v, nm_r (e' := a7 j) (by rw [c]) ⟨v, nm_r (e' := a9 j) (by rw [c]) ⟨v, nm_r (e' := a10 j) (by rw [c]) ?_⟩⟩⟩
  exact br_c (fun z => k42 1 (fun g => absurd g (by decide))) (fun z => ⟨zb_op hb z, br_c (fun _ => k42 0 (fun _ => zb_op hb z)) (fun _ => k42 1 (fun g => absurd g (by decide)))⟩)
theorem zs_decide {post : St1 → Prop} {j : Nat} {what : Int32} (hj : j < 240) (hf : vp_in (a9 j) 11)
    (h0 : post (le, ck, va, dn, sn, ln, wc, iw, tr, tf, li, tk, tc, lv, ce, sc, gi, pc, a1, a2, a3, a4, a5, a6, a7, a8, a9, a10, a11, a12, a13, a14, a15, a16, a17, a18, a19, a20, a21, a22, a23, a24, a25, a26, a27, a28, a29, a30)) (h1 : post (le, ck, va, dn, sn, ln, wc, iw, tr, tf, li, tk, tc, lv, ce, sc, gi, pc, a1, a2, a3, a4, a5, a6, upd a7 j 0, a8, a9, a10, a11, a12, a13, a14, a15, a16, a17, a18, a19, a20, a21, a22, a23, a24, a25, a26, a27, a28, a29, a30)) (h2 : post (le, ck, va, dn, sn, ln, wc, iw, tr, tf, li, tk, tc, lv, ce, sc, gi, pc, a1, a2, a3, a4, a5, a6, upd a7 j 18, a8, upd a9 j (-1), upd a10 j (-1), upd a11 j (a11 j), a12, a13, a14, a15, a16, a17, a18, a19, a20, a21, a22, a23, a24, a25, a26, a27, a28, a29, a30)) : wpX_decide post (le, ck, va, dn, sn, ln, wc, iw, tr, tf, li, tk, tc, lv, ce, sc, gi, pc, a1, a2, a3, a4, a5, a6, a7, a8, a9, a10, a11, a12, a13, a14, a15, a16, a17, a18, a19, a20, a21, a22, a23, a24, a25, a26, a27, a28, a29, a30) (nI j) what := by
  have v := zb_in hj
  have c := zb_cl hj
  have k0 : wX_decide_54 post (nI j) 0 le ck va dn sn ln wc iw tr tf li tk tc lv ce sc gi pc a1 a2 a3 a4 a5 a6 a7 a8 a9 a10 a11 a12 a13 a14 a15 a16 a17 a18 a19 a20 a21 a22 a23 a24 a25 a26 a27 a28 a29 a30 := br_t rfl ⟨v, nm_r (e' := upd a7 j 0) (by rw [c]) h1⟩
  have k1 : wX_decide_54 post (nI j) 1 le ck va dn sn ln wc iw tr tf li tk tc lv ce sc gi pc a1 a2 a3 a4 a5 a6 a7 a8 a9 a10 a11 a12 a13 a14 a15 a16 a17 a18 a19 a20 a21 a22 a23 a24 a25 a26 a27 a28 a29 a30 := br_f (by decide) ⟨v, by
    rw [c]
    exact zs_become hj (zb_in (n := 18) (by omega)) (Or.inl rfl) h2⟩
  have vf : vp_in (a9 (nI j).toNatClampNeg) 11 := by rw [c]; exact hf
  exact ⟨v, vf, br_c (fun _ => h0) (fun _ => ⟨v, vf, nm_e (br_c (fun _ => br_c (fun _ => k1) (fun _ => k0)) (fun _ => br_c (fun _ => k0) (fun _ => k1)))⟩)⟩
end
end
section
/-! the first pass that improves: what is known, and the loop -/
/-- what has been worked out: only the values' numbers matter -/
def zs_th (tc : Int32) (a20 : Nat → Int32) : Prop := ∃ c, c ≤ 24 ∧ tc = nI c ∧ ∀ k, k < c → vp_in (a20 k) 11
/-- copies are of the same kind -/
def zs_CI (c : Nat → Int32) (T : Int32 → Prop) : Prop := ∀ v, vp_in v 11 → vp_in (c v.toNatClampNeg) 11 ∧ (T v → T (c v.toNatClampNeg))
section
variable {le ck va dn sn ln wc tr tf li tk tc lv ce sc gi pc : Int32} {iw : Int64} {a1 a2 a3 a4 a5 a6 a7 a8 a9 a10 a11 a12 a13 a14 a15 a16 a17 a18 a19 a20 a21 a22 a23 a24 a25 a26 a27 a28 a29 a30 : Nat → Int32}
theorem zs_fall {post : St1 → Prop} (h : ∀ tc a13 a15, (∀ v, vp_in v 11 → a15 v.toNatClampNeg = v) → tc = 0 → post (le, ck, va, dn, sn, ln, wc, iw, tr, tf, li, tk, tc, lv, ce, sc, gi, pc, a1, a2, a3, a4, a5, a6, a7, a8, a9, a10, a11, a12, a13, a14, a15, a16, a17, a18, a19, a20, a21, a22, a23, a24, a25, a26, a27, a28, a29, a30)) : wpX_forgetAll post (le, ck, va, dn, sn, ln, wc, iw, tr, tf, li, tk, tc, lv, ce, sc, gi, pc, a1, a2, a3, a4, a5, a6, a7, a8, a9, a10, a11, a12, a13, a14, a15, a16, a17, a18, a19, a20, a21, a22, a23, a24, a25, a26, a27, a28, a29, a30) := by
  refine pk_loop (fun m i s => wX_forgetAll_2 post le ck va dn sn ln wc iw tr tf li tk tc lv ce sc gi pc m (nI i) a1 a2 a3 a4 a5 a6 a7 a8 a9 a10 a11 a12 s.1 a14 s.2 a16 a17 a18 a19 a20 a21 a22 a23 a24 a25 a26 a27 a28 a29 a30) (fun i s => ∀ v, vp_in v 11 → v.toNatClampNeg < i → s.2 v.toNatClampNeg = v) 11 0 (a13, a15) (by omega) (fun v _ hv => absurd hv (by omega)) ?_ ?_
  · intro m s hs
    exact pk_le 11 11 (fun _ => h _ _ _ (fun v hv => hs v hv (zb_lt hv)) rfl) (fun g => absurd g (by omega))
  · intro m i s hi hs hm
    have v := zb_in (n := i) (N := 11) hi
    have c := zb_cl (n := i) (N := 11) hi
    refine pk_le 11 i (fun g => absurd g (by omega)) (fun _ => ⟨v, nm_e ⟨v, nm_r (e' := upd s.2 i (nI i)) (by rw [c, zb_b (zb_mono v (by omega))]) (nm_r (nI_1 i) (hm (_, upd s.2 i (nI i)) (fun w hw hl => ?_)))⟩⟩)
    (try dsimp only)
    by_cases e : w.toNatClampNeg = i
    · rw [e, pk_us, ← e]; exact (zb_nI hw).symm
    · rw [pk_un e]; exact hs w hw (by omega)
theorem zs_move {post : St1 → Prop} {p q : Nat} (hp : p < 24) (hq : q < 24) (hv : vp_in (a20 q) 11) (h : ∀ a16 a17 a18 a19, post (le, ck, va, dn, sn, ln, wc, iw, tr, tf, li, tk, tc, lv, ce, sc, gi, pc, a1, a2, a3, a4, a5, a6, a7, a8, a9, a10, a11, a12, a13, a14, a15, a16, a17, a18, a19, upd a20 p (a20 q), a21, a22, a23, a24, a25, a26, a27, a28, a29, a30)) : wpX_moveThere post (le, ck, va, dn, sn, ln, wc, iw, tr, tf, li, tk, tc, lv, ce, sc, gi, pc, a1, a2, a3, a4, a5, a6, a7, a8, a9, a10, a11, a12, a13, a14, a15, a16, a17, a18, a19, a20, a21, a22, a23, a24, a25, a26, a27, a28, a29, a30) (nI p) (nI q) := by
  have vp := zb_in hp
  have vq := zb_in hq
  exact ⟨vq, vp, nm_e ⟨vq, vp, nm_e ⟨vq, vp, nm_e ⟨vq, vp, nm_e ⟨vq, vp, nm_r (e' := upd a20 p (a20 q)) (by rw [zb_cl hp, zb_cl hq, zb_vb (zb_mono hv (by omega))]) (h _ _ _ _)⟩⟩⟩⟩⟩
/-- what forget leaves of the copies -/
def zs_fg (v : Int32) (a15 b15 : Nat → Int32) : Prop := b15 v.toNatClampNeg = v ∧ ∀ w, vp_in w 11 → w ≠ v → (a15 w.toNatClampNeg = v ∧ b15 w.toNatClampNeg = w) ∨ (a15 w.toNatClampNeg ≠ v ∧ b15 w.toNatClampNeg = a15 w.toNatClampNeg)
theorem zs_forget {post : St1 → Prop} {v : Int32} (hv : vp_in v 11) (ht : zs_th tc a20)
    (h : ∀ tc a13 b15 a16 a17 a18 a19 a20, zs_fg v a15 b15 → zs_th tc a20 → post (le, ck, va, dn, sn, ln, wc, iw, tr, tf, li, tk, tc, lv, ce, sc, gi, pc, a1, a2, a3, a4, a5, a6, a7, a8, a9, a10, a11, a12, a13, a14, b15, a16, a17, a18, a19, a20, a21, a22, a23, a24, a25, a26, a27, a28, a29, a30)) : wpX_forget post (le, ck, va, dn, sn, ln, wc, iw, tr, tf, li, tk, tc, lv, ce, sc, gi, pc, a1, a2, a3, a4, a5, a6, a7, a8, a9, a10, a11, a12, a13, a14, a15, a16, a17, a18, a19, a20, a21, a22, a23, a24, a25, a26, a27, a28, a29, a30) v := by
  obtain ⟨n, hn, e, hth⟩ := ht
  subst e
  refine ⟨hv, nm_e ⟨hv, nm_r (e' := upd a15 v.toNatClampNeg v) (by rw [zb_b (zb_mono hv (by omega))]) ?_⟩⟩
  -- the second loop
  have second : ∀ a13 b15, zs_fg v a15 b15 → ∃ fu, wX_forget_51 post v fu 0 0 le ck va dn sn ln wc iw tr tf li tk (nI n) lv ce sc gi pc a1 a2 a3 a4 a5 a6 a7 a8 a9 a10 a11 a12 a13 a14 b15 a16 a17 a18 a19 a20 a21 a22 a23 a24 a25 a26 a27 a28 a29 a30 := fun a13 b15 hfg => by
    refine pk_loop (σ := Nat × (Nat → Int32) × (Nat → Int32) × (Nat → Int32) × (Nat → Int32) × (Nat → Int32))
      (fun m i s => wX_forget_51 post v m (nI s.1) (nI i) le ck va dn sn ln wc iw tr tf li tk (nI n) lv ce sc gi pc a1 a2 a3 a4 a5 a6 a7 a8 a9 a10 a11 a12 a13 a14 b15 s.2.1 s.2.2.1 s.2.2.2.1 s.2.2.2.2.1 s.2.2.2.2.2 a21 a22 a23 a24 a25 a26 a27 a28 a29 a30)
      (fun i s => s.1 ≤ i ∧ ∀ k, k < n → (k < s.1 ∨ i ≤ k) → vp_in (s.2.2.2.2.2 k) 11) n 0 (0, a16, a17, a18, a19, a20) (by omega) ⟨by (try dsimp only); omega, fun k hk _ => hth k hk⟩ ?_ ?_
    · rintro m ⟨p, a16, a17, a18, a19, a20⟩ ⟨h1, h2⟩
      (try dsimp only at h1 h2 ⊢)
      exact pk_le n n (fun _ => h _ _ _ _ _ _ _ _ hfg ⟨p, by omega, rfl, fun k hk => h2 k (by omega) (Or.inl hk)⟩) (fun g => absurd g (by omega))
    · rintro m i ⟨p, a16, a17, a18, a19, a20⟩ hi ⟨h1, h2⟩ hm
      (try dsimp only at h1 h2 hm ⊢)
      have vi := zb_in (n := i) (N := 24) (by omega)
      have skip : ∀ x, x = nI i + 1 → wX_forget_51 post v m (nI p) x le ck va dn sn ln wc iw tr tf li tk (nI n) lv ce sc gi pc a1 a2 a3 a4 a5 a6 a7 a8 a9 a10 a11 a12 a13 a14 b15 a16 a17 a18 a19 a20 a21 a22 a23 a24 a25 a26 a27 a28 a29 a30 := nm_r (nI_1 i) (hm (p, a16, a17, a18, a19, a20) ⟨by (try dsimp only); omega, fun k hk g => h2 k hk (g.imp id (fun g => by omega))⟩)
      refine pk_le n i (fun g => absurd g (by omega)) (fun _ => ⟨vi, br_c (fun _ => skip) (fun _ => ⟨vi, br_c (fun _ => skip) (fun _ => ⟨vi, br_c (fun _ => skip) (fun _ => ?_)⟩)⟩)⟩)
      refine zs_move (by omega) (by omega) (h2 i (by omega) (Or.inr (Nat.le_refl _))) (fun a16 a17 a18 a19 => nm_r (nI_1 p) (nm_r (nI_1 i) (hm (p + 1, a16, a17, a18, a19, upd a20 p (a20 i)) ⟨by (try dsimp only); omega, fun k hk g => ?_⟩)))
      (try dsimp only at g ⊢)
      by_cases z : k = p
      · rw [z, pk_us]; exact h2 i (by omega) (Or.inr (Nat.le_refl _))
      · rw [pk_un z]; exact h2 k hk (by omega)
  refine pk_loop (fun m i s => wX_forget_17 post v le ck va dn sn ln wc iw tr tf li tk (nI n) lv ce sc gi pc m (nI i) a1 a2 a3 a4 a5 a6 a7 a8 a9 a10 a11 a12 (upd a13 v.toNatClampNeg 0) a14 s a16 a17 a18 a19 a20 a21 a22 a23 a24 a25 a26 a27 a28 a29 a30)
    (fun i s => s v.toNatClampNeg = v ∧ ∀ w, vp_in w 11 → w ≠ v → (w.toNatClampNeg < i → (a15 w.toNatClampNeg = v ∧ s w.toNatClampNeg = w) ∨ (a15 w.toNatClampNeg ≠ v ∧ s w.toNatClampNeg = a15 w.toNatClampNeg)) ∧ (i ≤ w.toNatClampNeg → s w.toNatClampNeg = a15 w.toNatClampNeg))
    11 0 (upd a15 v.toNatClampNeg v) (by omega) ⟨pk_us, fun w hw hne => ⟨fun g => absurd g (by omega), fun _ => pk_un (fun g => hne (zb_inj hw hv g))⟩⟩ ?_ ?_
  · intro m s ⟨h1, h2⟩
    exact pk_le 11 11 (fun _ => second _ s ⟨h1, fun w hw hne => (h2 w hw hne).1 (zb_lt hw)⟩) (fun g => absurd g (by omega))
  · intro m i s hi ⟨h1, h2⟩ hm
    have vi := zb_in (n := i) (N := 11) hi
    have c := zb_cl (n := i) (N := 11) hi
    refine pk_le 11 i (fun g => absurd g (by omega)) (fun _ => ⟨vi, br_c (fun z => ⟨vi, nm_r (e' := upd s i (nI i)) (by rw [c, zb_b (zb_mono vi (by omega))]) (nm_r (nI_1 i) (hm _ ⟨?_, fun w hw hne => ?_⟩))⟩) (fun z => nm_r (nI_1 i) (hm _ ⟨h1, fun w hw hne => ?_⟩))⟩)
    · by_cases e : v.toNatClampNeg = i
      · rw [e, pk_us, ← e]; exact (zb_nI hv).symm
      · rw [pk_un e]; exact h1
    · rw [c] at z
      by_cases e : w.toNatClampNeg = i
      · rw [e, pk_us]
        refine ⟨fun _ => Or.inl ⟨?_, ?_⟩, fun g => absurd g (by omega)⟩
        · rw [← e, ← (h2 w hw hne).2 (by omega), e]; exact z
        · rw [← e]; exact (zb_nI hw).symm
      · rw [pk_un e]
        exact ⟨fun g => (h2 w hw hne).1 (by omega), fun g => (h2 w hw hne).2 (by omega)⟩
    · rw [c] at z
      refine ⟨fun g => ?_, fun g => (h2 w hw hne).2 (by omega)⟩
      by_cases e : w.toNatClampNeg = i
      · have := (h2 w hw hne).2 (by omega)
        refine Or.inr ⟨?_, this⟩
        rw [← this, e]; exact z
      · exact (h2 w hw hne).1 (by omega)
theorem zs_ffet {post : St1 → Prop} (ht : zs_th tc a20) (h : ∀ tc a16 a17 a18 a19 a20, zs_th tc a20 → post (le, ck, va, dn, sn, ln, wc, iw, tr, tf, li, tk, tc, lv, ce, sc, gi, pc, a1, a2, a3, a4, a5, a6, a7, a8, a9, a10, a11, a12, a13, a14, a15, a16, a17, a18, a19, a20, a21, a22, a23, a24, a25, a26, a27, a28, a29, a30)) : wpX_forgetFetched post (le, ck, va, dn, sn, ln, wc, iw, tr, tf, li, tk, tc, lv, ce, sc, gi, pc, a1, a2, a3, a4, a5, a6, a7, a8, a9, a10, a11, a12, a13, a14, a15, a16, a17, a18, a19, a20, a21, a22, a23, a24, a25, a26, a27, a28, a29, a30) := by
  obtain ⟨n, hn, e, hth⟩ := ht
  subst e
  refine pk_loop (σ := Nat × (Nat → Int32) × (Nat → Int32) × (Nat → Int32) × (Nat → Int32) × (Nat → Int32))
    (fun m i s => wX_forgetFetched_4 post m (nI s.1) (nI i) le ck va dn sn ln wc iw tr tf li tk (nI n) lv ce sc gi pc a1 a2 a3 a4 a5 a6 a7 a8 a9 a10 a11 a12 a13 a14 a15 s.2.1 s.2.2.1 s.2.2.2.1 s.2.2.2.2.1 s.2.2.2.2.2 a21 a22 a23 a24 a25 a26 a27 a28 a29 a30)
    (fun i s => s.1 ≤ i ∧ ∀ k, k < n → (k < s.1 ∨ i ≤ k) → vp_in (s.2.2.2.2.2 k) 11) n 0 (0, a16, a17, a18, a19, a20) (by omega) ⟨by (try dsimp only); omega, fun k hk _ => hth k hk⟩ ?_ ?_
  · rintro m ⟨p, a16, a17, a18, a19, a20⟩ ⟨h1, h2⟩
    (try dsimp only at h1 h2 ⊢)
    exact pk_le n n (fun _ => h _ _ _ _ _ _ ⟨p, by omega, rfl, fun k hk => h2 k (by omega) (Or.inl hk)⟩) (fun g => absurd g (by omega))
  · rintro m i ⟨p, a16, a17, a18, a19, a20⟩ hi ⟨h1, h2⟩ hm
    (try dsimp only at h1 h2 hm ⊢)
    have vi := zb_in (n := i) (N := 24) (by omega)
    refine pk_le n i (fun g => absurd g (by omega)) (fun _ => ⟨vi, br_c (fun _ => nm_r (nI_1 i) (hm (p, a16, a17, a18, a19, a20) ⟨by (try dsimp only); omega, fun k hk g => h2 k hk (g.imp id (fun g => by omega))⟩)) (fun _ => ?_)⟩)
    refine zs_move (by omega) (by omega) (h2 i (by omega) (Or.inr (Nat.le_refl _))) (fun a16 a17 a18 a19 => nm_r (nI_1 p) (nm_r (nI_1 i) (hm (p + 1, a16, a17, a18, a19, upd a20 p (a20 i)) ⟨by (try dsimp only); omega, fun k hk g => ?_⟩)))
    (try dsimp only at g ⊢)
    by_cases z : k = p
    · rw [z, pk_us]; exact h2 i (by omega) (Or.inr (Nat.le_refl _))
    · rw [pk_un z]; exact h2 k hk (by omega)
theorem zs_rem {post : St1 → Prop} {j : Nat} (hj : j < 240) (hm : vp_in (a8 j) 11) (ht : zs_th tc a20) (h : ∀ tc a16 a17 a18 a19 a20, zs_th tc a20 → post (le, ck, va, dn, sn, ln, wc, iw, tr, tf, li, tk, tc, lv, ce, sc, gi, pc, a1, a2, a3, a4, a5, a6, a7, a8, a9, a10, a11, a12, a13, a14, a15, a16, a17, a18, a19, a20, a21, a22, a23, a24, a25, a26, a27, a28, a29, a30)) : wpX_remember post (le, ck, va, dn, sn, ln, wc, iw, tr, tf, li, tk, tc, lv, ce, sc, gi, pc, a1, a2, a3, a4, a5, a6, a7, a8, a9, a10, a11, a12, a13, a14, a15, a16, a17, a18, a19, a20, a21, a22, a23, a24, a25, a26, a27, a28, a29, a30) (nI j) := by
  have h' := ht
  obtain ⟨n, hn, e, hth⟩ := ht
  subst e
  have v := zb_in hj
  refine pk_lt n 24 (fun g => ?_) (fun _ => h _ _ _ _ _ _ h')
  have vn := zb_in g
  refine ⟨v, vn, nm_e ⟨v, vn, nm_e ⟨v, vn, nm_e ⟨v, vn, nm_e ⟨v, vn, nm_r (e' := upd a20 n (a8 j)) (by rw [zb_cl g, zb_cl hj, zb_vb (zb_mono hm (by omega))]) (nm_r (nI_1 n) (h _ _ _ _ _ _ ⟨n + 1, by omega, rfl, fun k hk => ?_⟩))⟩⟩⟩⟩⟩
  by_cases z : k = n
  · rw [z, pk_us]; exact hm
  · rw [pk_un z]; exact hth k (by omega)
theorem zs_find {post : Int32 → Prop} {j : Nat} (hj : j < 240) (ht : zs_th tc a20) (h0 : post (-1)) (h1 : ∀ r, vp_in r 11 → post r) : wpX_findThere post (le, ck, va, dn, sn, ln, wc, iw, tr, tf, li, tk, tc, lv, ce, sc, gi, pc, a1, a2, a3, a4, a5, a6, a7, a8, a9, a10, a11, a12, a13, a14, a15, a16, a17, a18, a19, a20, a21, a22, a23, a24, a25, a26, a27, a28, a29, a30) (nI j) := by
  obtain ⟨n, hn, e, hth⟩ := ht
  subst e
  have v := zb_in hj
  refine pk_loop (σ := Unit) (fun m i _ => wX_findThere_2 post (nI j) le ck va dn sn ln wc iw tr tf li tk (nI n) lv ce sc gi pc a1 a2 a3 a4 a5 a6 a7 a8 a9 a10 a11 a12 a13 a14 a15 a16 a17 a18 a19 a20 a21 a22 a23 a24 a25 a26 a27 a28 a29 a30 m (nI i)) (fun _ _ => True) n 0 () (by omega) trivial ?_ ?_
  · intro m _ _
    exact pk_le n n (fun _ => h0) (fun g => absurd g (by omega))
  · intro m i _ hi _ hm
    have vi := zb_in (n := i) (N := 24) (by omega)
    have c := zb_cl (n := i) (N := 24) (by omega)
    have nx : ∀ x, x = nI i + 1 → wX_findThere_2 post (nI j) le ck va dn sn ln wc iw tr tf li tk (nI n) lv ce sc gi pc a1 a2 a3 a4 a5 a6 a7 a8 a9 a10 a11 a12 a13 a14 a15 a16 a17 a18 a19 a20 a21 a22 a23 a24 a25 a26 a27 a28 a29 a30 m x := nm_r (nI_1 i) (hm () trivial)
    have hit : post (a20 (nI i).toNatClampNeg) := by rw [c]; exact h1 _ (hth i hi)
    exact pk_le n i (fun g => absurd g (by omega)) (fun _ => ⟨vi, v, br_c (fun _ => ⟨vi, v, br_c (fun _ => ⟨vi, v, br_c (fun _ => ⟨v, br_c (fun _ => ⟨vi, hit⟩) (fun _ => ⟨vi, v, br_c (fun _ => ⟨vi, hit⟩) (fun _ => nx)⟩)⟩) (fun _ => nx)⟩) (fun _ => nx)⟩) (fun _ => nx)⟩)
/-- what an entry (o m f) leaves of the copies -/
def zs_cp (o m f : Int32) (a15 b15 : Nat → Int32) : Prop :=
  (o = 2 ∧ f = m ∧ b15 = a15) ∨
  (¬ (o = 2 ∧ f = m) ∧ ((o = 2 ∧ b15 m.toNatClampNeg = f) ∨ (o ≠ 2 ∧ b15 m.toNatClampNeg = m)) ∧
    ∀ w, vp_in w 11 → w ≠ m → (b15 w.toNatClampNeg = w) ∨ (a15 w.toNatClampNeg ≠ m ∧ b15 w.toNatClampNeg = a15 w.toNatClampNeg))
theorem zs_one {post : St1 → Prop} {j : Nat} (hj : j < 240) (hp : ¬ a7 j < 1 ∧ ¬ 14 < a7 j) (hsh : zt_sh (a7 j) (a8 j) (a9 j) (a10 j) (a11 j)) (hm : vp_in (a8 j) 11) (ht : zs_th tc a20)
    (h : ∀ b7 b9 b10 b11 tc a13 a14 b15 a16 a17 a18 a19 a20, ((b7 = a7 ∧ b9 = a9 ∧ b10 = a10 ∧ b11 = a11) ∨ (¬ a7 j < 3 ∧ zs_ch j a7 a9 a10 a11 b7 b9 b10 b11 ∧ b7 j = 2 ∧ vp_in (b9 j) 11 ∧ b10 j = -1)) →
      zs_cp (b7 j) (a8 j) (b9 j) a15 b15 → zs_th tc a20 → post (le, ck, va, dn, sn, ln, wc, iw, tr, tf, li, tk, tc, lv, ce, sc, gi, pc, a1, a2, a3, a4, a5, a6, b7, a8, b9, b10, b11, a12, a13, a14, b15, a16, a17, a18, a19, a20, a21, a22, a23, a24, a25, a26, a27, a28, a29, a30)) : wpX_shareOne post (le, ck, va, dn, sn, ln, wc, iw, tr, tf, li, tk, tc, lv, ce, sc, gi, pc, a1, a2, a3, a4, a5, a6, a7, a8, a9, a10, a11, a12, a13, a14, a15, a16, a17, a18, a19, a20, a21, a22, a23, a24, a25, a26, a27, a28, a29, a30) (nI j) := by
  have v := zb_in hj
  have c := zb_cl hj
  -- from 64 on: the entry stands
  have k64 : ∀ (a7 a9 a10 a11 : Nat → Int32) (x2 x4 x5 : Int32), x2 = a7 j → (a7 j = 2 → vp_in (a9 j) 11) →
      (∀ tc a13 a14 b15 a16 a17 a18 a19 a20, zs_cp (a7 j) (a8 j) (a9 j) a15 b15 → zs_th tc a20 → post (le, ck, va, dn, sn, ln, wc, iw, tr, tf, li, tk, tc, lv, ce, sc, gi, pc, a1, a2, a3, a4, a5, a6, a7, a8, a9, a10, a11, a12, a13, a14, b15, a16, a17, a18, a19, a20, a21, a22, a23, a24, a25, a26, a27, a28, a29, a30)) → wX_shareOne_64 post (nI j) x2 (a8 j) x4 x5 le ck va dn sn ln wc iw tr tf li tk tc lv ce sc gi pc a1 a2 a3 a4 a5 a6 a7 a8 a9 a10 a11 a12 a13 a14 a15 a16 a17 a18 a19 a20 a21 a22 a23 a24 a25 a26 a27 a28 a29 a30 := by
    intro a7 a9 a10 a11 x2 x4 x5 e2 h9 h
    subst e2
    have k79 : ∀ z0, ((a7 j = 2 ∧ z0 = a9 j) ∨ (a7 j ≠ 2 ∧ z0 = -1)) → wX_shareOne_79 post (nI j) (a7 j) (a8 j) x4 x5 z0 le ck va dn sn ln wc iw tr tf li tk tc lv ce sc gi pc a1 a2 a3 a4 a5 a6 a7 a8 a9 a10 a11 a12 a13 a14 a15 a16 a17 a18 a19 a20 a21 a22 a23 a24 a25 a26 a27 a28 a29 a30 := by
      intro z0 hz
      have z11 : ¬ z0 < 0 → vp_in z0 11 := fun g => by
        rcases hz with y | y
        · rw [y.2]; exact h9 y.1
        · rw [y.2] at g; exact absurd (by decide) g
      have k145 : z0 ≠ a8 j → ∀ x7 y, wX_shareOne_145 post (nI j) (a8 j) x4 x5 z0 x7 y le ck va dn sn ln wc iw tr tf li tk tc lv ce sc gi pc a1 a2 a3 a4 a5 a6 a7 a8 a9 a10 a11 a12 a13 a14 a15 a16 a17 a18 a19 a20 a21 a22 a23 a24 a25 a26 a27 a28 a29 a30 := by
        intro hne x7 y
        unfold wX_shareOne_145
        refine zs_forget hm ht (fun tc a13 b15 a16 a17 a18 a19 a20 g1 g2 => ?_)
        have k186 : ∀ (tc : Int32) (a13 a14 c15 a16 a17 a18 a19 a20 : Nat → Int32), zs_cp (a7 j) (a8 j) (a9 j) a15 c15 → zs_th tc a20 → wX_shareOne_186 post (nI j) (a8 j) x4 x5 le ck va dn sn ln wc iw tr tf li tk tc lv ce sc gi pc a1 a2 a3 a4 a5 a6 a7 a8 a9 a10 a11 a12 a13 a14 c15 a16 a17 a18 a19 a20 a21 a22 a23 a24 a25 a26 a27 a28 a29 a30 := by
          intro tc a13 a14 c15 a16 a17 a18 a19 a20 g3 g4
          have P : post (le, ck, va, dn, sn, ln, wc, iw, tr, tf, li, tk, tc, lv, ce, sc, gi, pc, a1, a2, a3, a4, a5, a6, a7, a8, a9, a10, a11, a12, a13, a14, c15, a16, a17, a18, a19, a20, a21, a22, a23, a24, a25, a26, a27, a28, a29, a30) := h _ _ _ _ _ _ _ _ _ g3 g4
          exact br_c (fun _ => P) (fun _ => br_c (fun _ => P) (fun _ => ⟨v, br_c (fun _ => P) (fun _ => ⟨v, br_c (fun _ => P) (fun _ => zs_rem hj hm g4 (fun tc a16 a17 a18 a19 a20 g5 => h _ _ _ _ _ _ _ _ _ g3 g5))⟩)⟩))
        have k172 : ∀ (a13 a14 : Nat → Int32), wX_shareOne_172 post (nI j) (a8 j) x4 x5 z0 le ck va dn sn ln wc iw tr tf li tk tc lv ce sc gi pc a1 a2 a3 a4 a5 a6 a7 a8 a9 a10 a11 a12 a13 a14 b15 a16 a17 a18 a19 a20 a21 a22 a23 a24 a25 a26 a27 a28 a29 a30 := by
          intro a13 a14
          refine br_c (fun g => k186 _ _ _ _ _ _ _ _ _ (Or.inr ⟨fun y => ?_, Or.inr ⟨fun y => ?_, g1.1⟩, fun w hw hne => ?_⟩) g2) (fun g => ⟨hm, nm_r (e' := upd b15 (a8 j).toNatClampNeg z0) (by rw [zb_b (zb_mono (z11 g) (by omega))]) (k186 _ _ _ _ _ _ _ _ _ (Or.inr ⟨fun y => ?_, Or.inl ⟨?_, ?_⟩, fun w hw hne => ?_⟩) g2)⟩)
          · rcases hz with t | t
            · rw [t.2] at g; exact absurd g (zb_nn (h9 t.1))
            · exact t.1 y.1
          · rcases hz with t | t
            · rw [t.2] at g; exact absurd g (zb_nn (h9 t.1))
            · exact t.1 y
          · exact (g1.2 w hw hne).imp (fun t => t.2) id
          · rcases hz with t | t
            · exact hne (t.2.trans y.2)
            · exact t.1 y.1
          · rcases hz with t | t
            · exact t.1
            · rw [t.2] at g; exact absurd (by decide) g
          · rcases hz with t | t
            · rw [pk_us, t.2]
            · rw [t.2] at g; exact absurd (by decide) g
          · rw [pk_un (fun t => hne (zb_inj hw hm t))]
            exact (g1.2 w hw hne).imp (fun t => t.2) id
        exact br_c (fun _ => k172 _ _) (fun _ => ⟨hm, nm_e ⟨hm, nm_e (k172 _ _)⟩⟩)
      have k113 : z0 ≠ a8 j → ∀ y, (a7 j ≠ 1 → y ≠ 0 → vp_in z0 11) → wX_shareOne_113 post (nI j) (a7 j) (a8 j) x4 x5 z0 y le ck va dn sn ln wc iw tr tf li tk tc lv ce sc gi pc a1 a2 a3 a4 a5 a6 a7 a8 a9 a10 a11 a12 a13 a14 a15 a16 a17 a18 a19 a20 a21 a22 a23 a24 a25 a26 a27 a28 a29 a30 := fun hne y hy =>
        br_c (fun _ => ⟨v, k145 hne _ _⟩) (fun g => br_c (fun _ => k145 hne _ _) (fun g2 => ⟨hy g g2, k145 hne _ _⟩))
      refine br_c (fun g => h _ _ _ _ _ _ _ _ _ (Or.inl ?_) ht) (fun g => br_c (fun g2 => k113 g 1 (fun y => absurd g2 y)) (fun g2 => br_c (fun _ => k113 g 0 (fun _ y => absurd rfl y)) (fun g3 => ⟨z11 g3, br_c (fun _ => k113 g 0 (fun _ y => absurd rfl y)) (fun _ => k113 g 1 (fun _ _ => z11 g3))⟩)))
      rcases hz with y | y
      · exact ⟨y.1, y.2 ▸ g, rfl⟩
      · rw [← g, y.2] at hm; exact absurd hm (zb_m1 _)
    exact br_c (fun g => ⟨v, k79 _ (Or.inl ⟨g, by rw [c]⟩)⟩) (fun g => k79 _ (Or.inr ⟨g, rfl⟩))
  have h92 : a7 j = 2 → vp_in (a9 j) 11 := fun z => by
    rcases hsh with t | t | t | t | t | t | t | t | t | t | t
    · rw [z] at t; exact absurd t (by decide)
    · rw [z] at t; exact absurd t.1 (by decide)
    · exact t.2.2.1
    · exact t.2.2.1
    · exact t.2.2.1
    · exact t.2.2.1
    · exact t.2.2.1
    · rw [z] at t; exact absurd t.1 (by decide)
    · rw [z] at t; exact absurd t.1 (by decide)
    · rw [z] at t; exact absurd t.1 (by decide)
    · exact t.2.2.1
  have k46 : ∀ x4 z0, (z0 = -1 ∨ (¬ a7 j < 3 ∧ vp_in z0 11)) → wX_shareOne_46 post (nI j) (a7 j) (a8 j) x4 z0 le ck va dn sn ln wc iw tr tf li tk tc lv ce sc gi pc a1 a2 a3 a4 a5 a6 a7 a8 a9 a10 a11 a12 a13 a14 a15 a16 a17 a18 a19 a20 a21 a22 a23 a24 a25 a26 a27 a28 a29 a30 := by
    intro x4 z0 hz
    refine br_c (fun g => k64 a7 a9 a10 a11 _ _ _ rfl h92 (fun tc a13 a14 b15 a16 a17 a18 a19 a20 => h a7 a9 a10 a11 _ _ _ _ _ _ _ _ _ (Or.inl ⟨rfl, rfl, rfl, rfl⟩))) (fun g => ?_)
    rcases hz with y | ⟨y1, y2⟩
    · rw [y] at g; exact absurd (by decide) g
    · refine zs_become hj (zb_in (n := 2) (by omega)) (Or.inr y2) ?_
      refine k64 (upd a7 j 2) (upd a9 j z0) (upd a10 j (-1)) (upd a11 j 0) _ _ _ (by rw [pk_us]) (fun _ => by rw [pk_us]; exact y2) (fun tc a13 a14 b15 a16 a17 a18 a19 a20 => h _ _ _ _ _ _ _ _ _ _ _ _ _ (Or.inr ⟨y1, zs_ch_u _ _ _ _ _ _ _ _ _, pk_us, by rw [pk_us]; exact y2, pk_us⟩))
  have k29 : wX_shareOne_29 post (nI j) (a7 j) (a8 j) le ck va dn sn ln wc iw tr tf li tk tc lv ce sc gi pc a1 a2 a3 a4 a5 a6 a7 a8 a9 a10 a11 a12 a13 a14 a15 a16 a17 a18 a19 a20 a21 a22 a23 a24 a25 a26 a27 a28 a29 a30 := br_t rfl (k46 _ _ (Or.inl rfl))
  refine ⟨v, nm_r (e' := a7 j) (by rw [c]) ⟨v, nm_r (e' := a8 j) (by rw [c]) (br_c (fun _ => k29) (fun g => br_c (fun _ => k29) (fun g2 => br_f (by decide) ?_)))⟩⟩
  exact zs_find hj ht (k46 _ _ (Or.inl rfl)) (fun r hr => k46 _ _ (Or.inr ⟨g, hr⟩))
end
end
section
/-! the first pass that improves: the loop -/
theorem zs_CI_cp {G : Int32 → Int32 → Prop} {o m f k : Int32} {T : Int32 → Prop} {a15 b15 : Nat → Int32} (ho : ¬ o < 1 ∧ ¬ 14 < o) (hm : vp_in m 11) (hf : o = 2 → vp_in f 11) (h : zs_CI a15 T) (g : zs_cp o m f a15 b15) : zs_CI b15 (zt_tr G o m f k T) := by
  intro v hv
  rcases g with ⟨e1, e2, e3⟩ | ⟨e1, e2, e3⟩
  · subst e1; subst e2; subst e3
    have hT : ∀ v, zt_tr G 2 f f k T v ↔ T v := fun v => by
      rw [zt_tr_p G f f k T v (by decide)]
      constructor
      · rintro (⟨y1, (y2 | y2)⟩ | y)
        · exact absurd y2.1 (by decide)
        · rw [y1]; exact y2.2
        · exact y.2
      · intro y
        by_cases z : v = f
        · exact Or.inl ⟨z, Or.inr ⟨rfl, z ▸ y⟩⟩
        · exact Or.inr ⟨z, y⟩
    rw [hT, hT]
    exact h v hv
  · by_cases z : v = m
    · subst z
      rcases e2 with ⟨y1, y2⟩ | ⟨y1, y2⟩
      · rw [y2]
        refine ⟨hf y1, fun t => ?_⟩
        rw [zt_tr_p G _ _ _ T _ ho] at t ⊢
        rcases t with ⟨_, (t | t)⟩ | t
        · rw [y1] at t; exact absurd t.1 (by decide)
        · exact Or.inr ⟨fun u => e1 ⟨y1, u⟩, t.2⟩
        · exact absurd rfl t.1
      · rw [y2]; exact ⟨hv, id⟩
    · rcases e3 v hv z with y | ⟨y1, y2⟩
      · rw [y]; exact ⟨hv, id⟩
      · rw [y2]
        refine ⟨(h v hv).1, fun t => ?_⟩
        rw [zt_tr_p G _ _ _ T _ ho] at t ⊢
        rcases t with t | t
        · exact absurd t.1 z
        · exact Or.inr ⟨y1, (h v hv).2 t.2⟩
theorem zs_CI_s {c : Nat → Int32} {T T' : Int32 → Prop} (h : zs_CI c T) (g : ∀ v, vp_in v 11 → (T' v ↔ T v)) : zs_CI c T' := fun v hv => ⟨(h v hv).1, fun t => (g _ (h v hv).1).mpr ((h v hv).2 ((g v hv).mp t))⟩
theorem zs_CI_all {c : Nat → Int32} {T T' : Int32 → Prop} (h : zs_CI c T) (g : ∀ v, T' v) : zs_CI c T' := fun v hv => ⟨(h v hv).1, fun _ => g _⟩
/-- what is kept of an entry (O, K) that has become (o m f s k) -/
def zs_E (O K o m f s k : Int32) : Prop := zt_sh o m f s k ∧ (o = 19 ↔ O = 19) ∧ (O = 19 → k = K) ∧ ((o = 16 ∨ o = 17 ∨ o = 18) → (O = 16 ∨ O = 17 ∨ O = 18) ∧ k = K) ∧ zt_wt o k ≤ zt_wt O K
theorem zs_E_r {o m f s k : Int32} (h : zt_sh o m f s k) : zs_E o k o m f s k := ⟨h, Iff.rfl, fun _ => rfl, fun g => ⟨g, rfl⟩, Nat.le_refl _⟩
def zs_I (G : Int32 → Int32 → Prop) (O M F S K : Nat → Int32) (i : Nat) (tc : Int32) (o m f s k a15 a20 : Nat → Int32) : Prop :=
  (∀ j, i ≤ j → o j = O j ∧ m j = M j ∧ f j = F j ∧ s j = S j ∧ k j = K j) ∧ (∀ j, j < i → zs_E (O j) (K j) (o j) (m j) (f j) (s j) (k j)) ∧
  (∀ j, j < i → zt_ck G (o j) (f j) (k j) (zt_T G o m f k j)) ∧ (∀ v, zt_T G O M F K i v → zt_T G o m f k i v) ∧ zs_CI a15 (zt_T G o m f k i) ∧ zs_th tc a20
theorem zs_stp {G : Int32 → Int32 → Prop} {O M F S K : Nat → Int32} {i : Nat} {tc tc' : Int32} {o m f s k a15 a20 o' m' f' s' k' b15 b20 : Nat → Int32} (h : zs_I G O M F S K i tc o m f s k a15 a20)
    (hoff : ∀ j, j ≠ i → o' j = o j ∧ m' j = m j ∧ f' j = f j ∧ s' j = s j ∧ k' j = k j) (hE : zs_E (O i) (K i) (o' i) (m' i) (f' i) (s' i) (k' i))
    (hck : zt_ck G (o' i) (f' i) (k' i) (zt_T G o m f k i)) (htr : ∀ v, zt_tr G (O i) (M i) (F i) (K i) (zt_T G O M F K i) v → zt_tr G (o' i) (m' i) (f' i) (k' i) (zt_T G o m f k i) v)
    (hCI : zs_CI b15 (zt_tr G (o' i) (m' i) (f' i) (k' i) (zt_T G o m f k i))) (hth : zs_th tc' b20) : zs_I G O M F S K (i + 1) tc' o' m' f' s' k' b15 b20 := by
  obtain ⟨h1, h2, h3, h4, h5, h6⟩ := h
  have hT : ∀ j, j ≤ i → zt_T G o' m' f' k' j = zt_T G o m f k j := fun j hj => zt_T_congr (fun q hq => by
    obtain ⟨l1, l2, l3, l4, l5⟩ := hoff q (by omega)
    exact ⟨l1, l2, l3, l5⟩)
  have hT1 : zt_T G o' m' f' k' (i + 1) = zt_tr G (o' i) (m' i) (f' i) (k' i) (zt_T G o m f k i) := by
    show zt_tr G (o' i) (m' i) (f' i) (k' i) (zt_T G o' m' f' k' i) = _
    rw [hT i (Nat.le_refl _)]
  refine ⟨fun j hj => ?_, fun j hj => ?_, fun j hj => ?_, fun v hv => ?_, ?_, hth⟩
  · obtain ⟨l1, l2, l3, l4, l5⟩ := hoff j (by omega)
    obtain ⟨t1, t2, t3, t4, t5⟩ := h1 j (by omega)
    exact ⟨l1.trans t1, l2.trans t2, l3.trans t3, l4.trans t4, l5.trans t5⟩
  · by_cases z : j = i
    · rw [z]; exact hE
    · obtain ⟨l1, l2, l3, l4, l5⟩ := hoff j z
      rw [l1, l2, l3, l4, l5]
      exact h2 j (by omega)
  · rw [hT j (by omega)]
    by_cases z : j = i
    · rw [z]; exact hck
    · obtain ⟨l1, l2, l3, l4, l5⟩ := hoff j z
      rw [l1, l3, l5]
      exact h3 j (by omega)
  · rw [hT1]; exact htr v hv
  · rw [hT1]; exact hCI
theorem zs_w1 (k : Int32) : zt_wt 1 k = 3 := rfl
theorem zs_w2 (k : Int32) : zt_wt 2 k = 3 := rfl
theorem zs_w13 (k : Int32) : zt_wt 13 k = 3 := rfl
theorem zs_w18 (k : Int32) : zt_wt 18 k = 1 := rfl
theorem zs_w0 (k : Int32) : zt_wt 0 k = 0 := rfl
theorem zs_w16 (k : Int32) : zt_wt 16 k = 2 := rfl
theorem zs_w17 (k : Int32) : zt_wt 17 k = 2 := rfl
theorem zs_wt3 {O K : Int32} (h : ¬ O < 3 ∧ ¬ 14 < O) : 3 ≤ zt_wt O K := by
  have ne : ∀ c : Int32, (c < 3 ∨ 14 < c) → O ≠ c := fun c hc z => by rw [z] at h; exact hc.elim h.1 h.2
  unfold zt_wt
  rw [if_neg (fun g => g.elim (ne _ (by decide)) (ne _ (by decide))), if_neg (ne _ (by decide)), if_neg (ne _ (by decide)),
    if_neg (fun g => g.elim (ne _ (by decide)) (fun g => g.elim (ne _ (by decide)) (fun g => g.elim (ne _ (by decide)) (ne _ (by decide)))))]
  split <;> omega
/-- a plain entry (O M F K), as it may stand: (o m f k) -/
def zs_R (c : Nat → Int32) (O M F K o m f k : Int32) : Prop :=
  m = M ∧ ((O = 1 ∧ o = 1 ∧ k = K) ∨ (O = 2 ∧ o = 2 ∧ f = c F.toNatClampNeg) ∨ ((¬ O < 3 ∧ ¬ 14 < O) ∧ ((¬ o < 1 ∧ ¬ 13 < o) ∨ (O = 14 ∧ o = 14 ∧ f = c F.toNatClampNeg))))
theorem zs_R_pl {c : Nat → Int32} {O M F K o m f k : Int32} (h : zs_R c O M F K o m f k) : (¬ o < 1 ∧ ¬ 14 < o) ∧ (¬ O < 1 ∧ ¬ 14 < O) := by
  rcases h with ⟨_, ⟨e1, e2, _⟩ | ⟨e1, e2, _⟩ | ⟨e1, e2⟩⟩
  · rw [e1, e2]; decide
  · rw [e1, e2]; decide
  · refine ⟨?_, fun z => e1.1 (Int32.lt_trans z (by decide)), e1.2⟩
    rcases e2 with e2 | ⟨_, e2, _⟩
    · exact ⟨e2.1, fun z => e2.2 (Int32.lt_trans (by decide) z)⟩
    · rw [e2]; decide
theorem zs_R_ok {G : Int32 → Int32 → Prop} {c : Nat → Int32} {O M F K o m f s k : Int32} {T T' : Int32 → Prop} (h : zs_R c O M F K o m f k) (hsh : zt_sh o m f s k) (hw : zt_wt o k ≤ zt_wt O K) (hF : O = 2 ∨ O = 14 → vp_in F 11)
    (hTT : ∀ v, T v → T' v) (hCI : zs_CI c T') (hck : zt_ck G O F K T) :
    zs_E O K o m f s k ∧ zt_ck G o f k T' ∧ (∀ v, zt_tr G O M F K T v → zt_tr G o m f k T' v) := by
  obtain ⟨p1, p2⟩ := zs_R_pl h
  have ne : ∀ c : Int32, (c < 1 ∨ 14 < c) → o ≠ c ∧ O ≠ c := fun c hc => ⟨zt_pne p1 hc, zt_pne p2 hc⟩
  refine ⟨⟨hsh, ⟨fun z => absurd z (ne _ (by decide)).1, fun z => absurd z (ne _ (by decide)).2⟩, fun z => absurd z (ne _ (by decide)).2, fun z => ?_, hw⟩, ?_, fun v hv => ?_⟩
  · exact z.elim (fun z => absurd z (ne _ (by decide)).1) (fun z => z.elim (fun z => absurd z (ne _ (by decide)).1) (fun z => absurd z (ne _ (by decide)).1))
  · rcases h with ⟨_, ⟨_, e2, _⟩ | ⟨_, e2, _⟩ | ⟨_, e2 | ⟨e2, e3, e4⟩⟩⟩
    · exact zt_ck_n (by rw [e2]; decide)
    · exact zt_ck_n (by rw [e2]; decide)
    · exact zt_ck_n (Or.inl e2.2)
    · subst e3
      refine ⟨fun _ => ?_, fun z => absurd z (by decide), fun z => absurd z (by decide)⟩
      rw [e4]
      exact (hCI F (hF (Or.inr e2))).2 (hTT _ (hck.1 (Or.inl e2)))
  · rw [zt_tr_p G _ _ _ T v p2] at hv
    rw [zt_tr_p G _ _ _ T' v p1]
    obtain ⟨hm, h⟩ := h
    rcases hv with ⟨v1, v2⟩ | ⟨v1, v2⟩
    · refine Or.inl ⟨v1.trans hm.symm, ?_⟩
      rcases h with ⟨e1, e2, e3⟩ | ⟨e1, e2, e3⟩ | ⟨e1, _⟩
      · rcases v2 with v2 | v2
        · exact Or.inl ⟨e2, e3 ▸ v2.2⟩
        · rw [e1] at v2; exact absurd v2.1 (by decide)
      · rcases v2 with v2 | v2
        · rw [e1] at v2; exact absurd v2.1 (by decide)
        · exact Or.inr ⟨e2, e3 ▸ (hCI F (hF (Or.inl e1))).2 (hTT _ v2.2)⟩
      · rcases v2 with v2 | v2 <;> rw [v2.1] at e1 <;> exact absurd e1 (by decide)
    · exact Or.inr ⟨fun z => v1 (z.trans hm), hTT v v2⟩
section
variable {le ck va dn sn ln wc tr tf li tk tc lv ce sc gi pc : Int32} {iw : Int64} {a1 a2 a3 a4 a5 a6 a7 a8 a9 a10 a11 a12 a13 a14 a15 a16 a17 a18 a19 a20 a21 a22 a23 a24 a25 a26 a27 a28 a29 a30 : Nat → Int32}
theorem zs_share {post : St1 → Prop} {e : Nat} (hL : zt_L e a7 a8 a9 a10 a11) (hN : zt_N e a7)
    (hp : ∀ tc a7 a8 a9 a10 a11 a13 a14 a15 a16 a17 a18 a19 a20, zt_L e a7 a8 a9 a10 a11 → post (le, ck, va, dn, sn, ln, wc, iw, tr, tf, nI e, tk, tc, lv, ce, sc, gi, pc, a1, a2, a3, a4, a5, a6, a7, a8, a9, a10, a11, a12, a13, a14, a15, a16, a17, a18, a19, a20, a21, a22, a23, a24, a25, a26, a27, a28, a29, a30)) : wpX_shareValues post (le, ck, va, dn, sn, ln, wc, iw, tr, tf, nI e, tk, tc, lv, ce, sc, gi, pc, a1, a2, a3, a4, a5, a6, a7, a8, a9, a10, a11, a12, a13, a14, a15, a16, a17, a18, a19, a20, a21, a22, a23, a24, a25, a26, a27, a28, a29, a30) := by
  have hL' := hL
  obtain ⟨he, hsh, hld, htg, hws, G, hG, hck, hend⟩ := hL
  unfold wpX_shareValues
  refine zs_fall (fun tc a13 a15 hid htc => ?_)
  refine pk_loop (σ := Int32 × (Nat → Int32) × (Nat → Int32) × (Nat → Int32) × (Nat → Int32) × (Nat → Int32) × (Nat → Int32) × (Nat → Int32) × (Nat → Int32) × (Nat → Int32) × (Nat → Int32) × (Nat → Int32) × (Nat → Int32) × (Nat → Int32))
    (fun m i s => wX_shareValues_6 post m (nI i) le ck va dn sn ln wc iw tr tf (nI e) tk s.1 lv ce sc gi pc a1 a2 a3 a4 a5 a6 s.2.1 s.2.2.1 s.2.2.2.1 s.2.2.2.2.1 s.2.2.2.2.2.1 a12 s.2.2.2.2.2.2.1 s.2.2.2.2.2.2.2.1 s.2.2.2.2.2.2.2.2.1 s.2.2.2.2.2.2.2.2.2.1 s.2.2.2.2.2.2.2.2.2.2.1 s.2.2.2.2.2.2.2.2.2.2.2.1 s.2.2.2.2.2.2.2.2.2.2.2.2.1 s.2.2.2.2.2.2.2.2.2.2.2.2.2 a21 a22 a23 a24 a25 a26 a27 a28 a29 a30)
    (fun i s => zs_I G a7 a8 a9 a10 a11 i s.1 s.2.1 s.2.2.1 s.2.2.2.1 s.2.2.2.2.1 s.2.2.2.2.2.1 s.2.2.2.2.2.2.2.2.1 s.2.2.2.2.2.2.2.2.2.2.2.2.2) e 0 (tc, a7, a8, a9, a10, a11, a13, a14, a15, a16, a17, a18, a19, a20) (by omega) ?_ ?_ ?_
  · refine ⟨fun _ _ => ⟨rfl, rfl, rfl, rfl, rfl⟩, fun j hj => absurd hj (by omega), fun j hj => absurd hj (by omega), fun v g => g, fun v hv => ?_, 0, by omega, htc, fun k hk => absurd hk (by omega)⟩
    (try dsimp only)
    rw [hid v hv]; exact ⟨hv, id⟩
  · rintro m ⟨tc, b7, b8, b9, b10, b11, a13, a14, a15, a16, a17, a18, a19, a20⟩ ⟨h1, h2, h3, h4, h5, h6⟩
    (try dsimp only at h1 h2 h3 h4 h5 h6 ⊢)
    refine pk_le e e (fun _ => hp _ _ _ _ _ _ _ _ _ _ _ _ _ _ ?_) (fun g => absurd g (by omega))
    exact zt_L_ew hL' (fun j hj => (h2 j hj).1) (fun j hj => (h2 j hj).2.1) (fun j hj => (h2 j hj).2.2.1) (fun j hj => (h2 j hj).2.2.2.1) (fun j hj => (h2 j hj).2.2.2.2) ⟨G, hG, h3, h4 _ hend⟩
  · rintro m i ⟨tc, b7, b8, b9, b10, b11, a13, a14, a15, a16, a17, a18, a19, a20⟩ hi hI hstep
    have hI' : zs_I G a7 a8 a9 a10 a11 i tc b7 b8 b9 b10 b11 a15 a20 := hI
    obtain ⟨h1, h2, h3, h4, h5, h6⟩ := hI
    (try dsimp only at h1 h2 h3 h4 h5 h6 hstep ⊢)
    have hi240 : i < 240 := by omega
    have v := zb_in hi240
    have c := zb_cl hi240
    obtain ⟨o7, o8, o9, o10, o11⟩ := h1 i (Nat.le_refl _)
    have hne0 := hN i hi
    have hcki := hck i hi
    -- the next turn
    have next : ∀ (tc : Int32) (c7 c8 c9 c10 c11 a13 a14 a15 a16 a17 a18 a19 a20 : Nat → Int32), zs_I G a7 a8 a9 a10 a11 (i + 1) tc c7 c8 c9 c10 c11 a15 a20 →
        ∀ x, x = nI i + 1 → wX_shareValues_6 post m x le ck va dn sn ln wc iw tr tf (nI e) tk tc lv ce sc gi pc a1 a2 a3 a4 a5 a6 c7 c8 c9 c10 c11 a12 a13 a14 a15 a16 a17 a18 a19 a20 a21 a22 a23 a24 a25 a26 a27 a28 a29 a30 := fun tc c7 c8 c9 c10 c11 a13 a14 a15 a16 a17 a18 a19 a20 g =>
      nm_r (nI_1 i) (hstep (tc, c7, c8, c9, c10, c11, a13, a14, a15, a16, a17, a18, a19, a20) g)
    -- a plain entry, ready to be shared
    have k187 : ∀ (c7 c9 c10 c11 : Nat → Int32), (∀ j, j ≠ i → c7 j = b7 j ∧ c9 j = b9 j ∧ c10 j = b10 j ∧ c11 j = b11 j) → zs_R a15 (a7 i) (a8 i) (a9 i) (a11 i) (c7 i) (b8 i) (c9 i) (c11 i) → zt_sh (c7 i) (b8 i) (c9 i) (c10 i) (c11 i) → vp_in (b8 i) 11 →
        zt_wt (c7 i) (c11 i) ≤ zt_wt (a7 i) (a11 i) → (a7 i = 2 ∨ a7 i = 14 → vp_in (a9 i) 11) → wX_shareValues_187 post (wX_shareValues_6 post m) (nI i) le ck va dn sn ln wc iw tr tf (nI e) tk tc lv ce sc gi pc a1 a2 a3 a4 a5 a6 c7 b8 c9 c10 c11 a12 a13 a14 a15 a16 a17 a18 a19 a20 a21 a22 a23 a24 a25 a26 a27 a28 a29 a30 := by
      intro c7 c9 c10 c11 hoff hR hs hm hw hF
      obtain ⟨p1, p2⟩ := zs_R_pl hR
      refine ⟨v, br_f (by rw [c]; exact zb_nn hm) ?_⟩
      refine zs_one hi240 p1 hs hm h6 (fun d7 d9 d10 d11 tc a13 a14 b15 a16 a17 a18 a19 a20 hd hcp hth => next _ _ _ _ _ _ _ _ _ _ _ _ _ _ ?_)
      rcases hd with ⟨z1, z2, z3, z4⟩ | ⟨y0, y1, y2, y3, y4⟩
      · subst z1; subst z2; subst z3; subst z4
        obtain ⟨r1, r2, r3⟩ := zs_R_ok hR hs hw hF h4 h5 hcki
        refine zs_stp hI' (fun j hj => ?_) r1 r2 r3 (zs_CI_cp p1 hm (fun z => ?_) h5 hcp) hth
        · obtain ⟨l1, l3, l4, l5⟩ := hoff j hj
          exact ⟨l1, rfl, l3, l4, l5⟩
        · have := (zt_sh_v hs (zt_pne p1 (by decide))).2.1
          rcases hs with t | t | t | t | t | t | t | t | t | t | t
          · rw [z] at t; exact absurd t (by decide)
          · rw [z] at t; exact absurd t.1 (by decide)
          · exact t.2.2.1
          · exact t.2.2.1
          · exact t.2.2.1
          · exact t.2.2.1
          · exact t.2.2.1
          · rw [z] at t; exact absurd t.1 (by decide)
          · rw [z] at t; exact absurd t.1 (by decide)
          · rw [z] at t; exact absurd t.1 (by decide)
          · exact t.2.2.1
      · have hO : ¬ a7 i < 3 ∧ ¬ 14 < a7 i := by
          rcases hR with ⟨_, ⟨e1, e2, _⟩ | ⟨e1, e2, _⟩ | ⟨e1, _⟩⟩
          · rw [e2] at y0; exact absurd (by decide) y0
          · rw [e2] at y0; exact absurd (by decide) y0
          · exact e1
        have hR2 : zs_R a15 (a7 i) (a8 i) (a9 i) (a11 i) (d7 i) (b8 i) (d9 i) (d11 i) := ⟨hR.1, Or.inr (Or.inr ⟨hO, Or.inl (by rw [y2]; decide)⟩)⟩
        have hs2 : zt_sh (d7 i) (b8 i) (d9 i) (d10 i) (d11 i) := Or.inr (Or.inr (Or.inl ⟨Or.inl y2, hm, y3, y4⟩))
        have hw2 : zt_wt (d7 i) (d11 i) ≤ zt_wt (a7 i) (a11 i) := by
          rw [y2, zs_w2]
          exact zs_wt3 hO
        obtain ⟨r1, r2, r3⟩ := zs_R_ok hR2 hs2 hw2 hF h4 h5 hcki
        refine zs_stp hI' (fun j hj => ?_) r1 r2 r3 (zs_CI_cp (by rw [y2]; decide) hm (fun _ => y3) h5 hcp) hth
        obtain ⟨l1, l3, l4, l5⟩ := hoff j hj
        obtain ⟨t1, t3, t4, t5⟩ := y1 j hj
        exact ⟨t1.trans l1, rfl, t3.trans l3, t4.trans l4, t5.trans l5⟩
    -- an entry that makes nothing
    have k187n : ∀ (c7 c9 c10 c11 : Nat → Int32), (∀ j, j ≠ i → c7 j = b7 j ∧ c9 j = b9 j ∧ c10 j = b10 j ∧ c11 j = b11 j) → b8 i = -1 → zs_E (a7 i) (a11 i) (c7 i) (b8 i) (c9 i) (c10 i) (c11 i) →
        zt_ck G (c7 i) (c9 i) (c11 i) (zt_T G b7 b8 b9 b11 i) → (∀ v, zt_tr G (a7 i) (a8 i) (a9 i) (a11 i) (zt_T G a7 a8 a9 a11 i) v → zt_tr G (c7 i) (b8 i) (c9 i) (c11 i) (zt_T G b7 b8 b9 b11 i) v) →
        zs_CI a15 (zt_tr G (c7 i) (b8 i) (c9 i) (c11 i) (zt_T G b7 b8 b9 b11 i)) → wX_shareValues_187 post (wX_shareValues_6 post m) (nI i) le ck va dn sn ln wc iw tr tf (nI e) tk tc lv ce sc gi pc a1 a2 a3 a4 a5 a6 c7 b8 c9 c10 c11 a12 a13 a14 a15 a16 a17 a18 a19 a20 a21 a22 a23 a24 a25 a26 a27 a28 a29 a30 := by
      intro c7 c9 c10 c11 hoff hm r1 r2 r3 r4
      refine ⟨v, br_t (by rw [c, hm]; decide) (next _ _ _ _ _ _ _ _ _ _ _ _ _ _ (zs_stp hI' (fun j hj => ?_) r1 r2 r3 r4 h6))⟩
      obtain ⟨l1, l3, l4, l5⟩ := hoff j hj
      exact ⟨l1, rfl, l3, l4, l5⟩
    have hs0 := hsh i hi
    have hTm : ∀ v, vp_in v 11 → ∀ w, w = a15 v.toNatClampNeg → zt_T G a7 a8 a9 a11 i v → zt_T G b7 b8 b9 b11 i w := fun v hv w hw g => by rw [hw]; exact (h5 v hv).2 (h4 v g)
    have toc : ∀ (c9 c10 : Nat → Int32), (a7 i < 3 ∨ 12 < a7 i) → a7 i ≠ 15 → wX_shareValues_129 post (wX_shareValues_6 post m) (nI i) (a7 i) le ck va dn sn ln wc iw tr tf (nI e) tk tc lv ce sc gi pc a1 a2 a3 a4 a5 a6 b7 b8 c9 c10 b11 a12 a13 a14 a15 a16 a17 a18 a19 a20 a21 a22 a23 a24 a25 a26 a27 a28 a29 a30 →
        wX_shareValues_86 post (wX_shareValues_6 post m) (nI i) (a7 i) le ck va dn sn ln wc iw tr tf (nI e) tk tc lv ce sc gi pc a1 a2 a3 a4 a5 a6 b7 b8 c9 c10 b11 a12 a13 a14 a15 a16 a17 a18 a19 a20 a21 a22 a23 a24 a25 a26 a27 a28 a29 a30 := fun c9 c10 h hne H =>
      br_f hne (h.elim (fun z => br_t z (br_t rfl H)) (fun z => br_c (fun _ => br_t rfl H) (fun _ => br_t z (br_t rfl H))))
    have t187 : ∀ (c7 c9 c10 c11 : Nat → Int32), a7 i ≠ 13 → a7 i ≠ 16 → a7 i ≠ 17 → wX_shareValues_187 post (wX_shareValues_6 post m) (nI i) le ck va dn sn ln wc iw tr tf (nI e) tk tc lv ce sc gi pc a1 a2 a3 a4 a5 a6 c7 b8 c9 c10 c11 a12 a13 a14 a15 a16 a17 a18 a19 a20 a21 a22 a23 a24 a25 a26 a27 a28 a29 a30 →
        wX_shareValues_129 post (wX_shareValues_6 post m) (nI i) (a7 i) le ck va dn sn ln wc iw tr tf (nI e) tk tc lv ce sc gi pc a1 a2 a3 a4 a5 a6 c7 b8 c9 c10 c11 a12 a13 a14 a15 a16 a17 a18 a19 a20 a21 a22 a23 a24 a25 a26 a27 a28 a29 a30 := fun c7 c9 c10 c11 n1 n2 n3 H => br_f n1 (br_f n2 (br_f n3 H))
    have k86 : ∀ (c9 c10 : Nat → Int32), a7 i ≠ 19 → (∀ j, j ≠ i → c9 j = b9 j) → (∀ j, j ≠ i → c10 j = b10 j) → ((a9 i = -1 ∧ c9 i = -1) ∨ (vp_in (a9 i) 11 ∧ c9 i = a15 (a9 i).toNatClampNeg)) → ((a10 i = -1 ∧ c10 i = -1) ∨ (vp_in (a10 i) 11 ∧ c10 i = a15 (a10 i).toNatClampNeg)) →
        wX_shareValues_86 post (wX_shareValues_6 post m) (nI i) (a7 i) le ck va dn sn ln wc iw tr tf (nI e) tk tc lv ce sc gi pc a1 a2 a3 a4 a5 a6 b7 b8 c9 c10 b11 a12 a13 a14 a15 a16 a17 a18 a19 a20 a21 a22 a23 a24 a25 a26 a27 a28 a29 a30 := by
      intro c9 c10 n19 hc9 hc10 hv9 hv10
      have off : ∀ j, j ≠ i → b7 j = b7 j ∧ c9 j = b9 j ∧ c10 j = b10 j ∧ b11 j = b11 j := fun j hj => ⟨rfl, hc9 j hj, hc10 j hj, rfl⟩
      have n9 : a9 i = -1 → c9 i = -1 := fun z => hv9.elim (fun t => t.2) (fun t => absurd z (zb_ne1 t.1))
      have n10 : a10 i = -1 → c10 i = -1 := fun z => hv10.elim (fun t => t.2) (fun t => absurd z (zb_ne1 t.1))
      have p9 : vp_in (a9 i) 11 → c9 i = a15 (a9 i).toNatClampNeg := fun z => hv9.elim (fun t => absurd t.1 (zb_ne1 z)) (fun t => t.2)
      have p10 : vp_in (a10 i) 11 → c10 i = a15 (a10 i).toNatClampNeg := fun z => hv10.elim (fun t => absurd t.1 (zb_ne1 z)) (fun t => t.2)
      have q9 : vp_in (a9 i) 11 → vp_in (c9 i) 11 := fun z => by rw [p9 z]; exact (h5 _ z).1
      have q10 : vp_in (a10 i) 11 → vp_in (c10 i) 11 := fun z => by rw [p10 z]; exact (h5 _ z).1
      rcases hs0 with t | ⟨t, t1, t2, t3⟩ | ⟨t, t1, t2, t3⟩ | ⟨t, t1, t2, t3⟩ | ⟨t, t1, t2, t3⟩ | ⟨t, t1, t2, t3⟩ | ⟨t, t1, t2, t3, t4⟩ | ⟨t, t1, t2, t3, t4⟩ | ⟨t, t1, t2, t3, t4⟩ | ⟨t, t1, t2, t3, t4, t5⟩ | ⟨t, t1, t2, t3⟩
      · exact absurd t hne0
      · -- NUMBER
        refine toc _ _ (by rw [t]; decide) (by rw [t]; decide) (t187 _ _ _ _ (by rw [t]; decide) (by rw [t]; decide) (by rw [t]; decide) ?_)
        refine k187 b7 c9 c10 b11 off ⟨o8, Or.inl ⟨t, o7.trans t, o11⟩⟩ (Or.inr (Or.inl ⟨o7.trans t, by rw [o8]; exact t1, n9 t2, n10 t3⟩)) (by rw [o8]; exact t1) (by rw [o7, o11]; exact Nat.le_refl _) (fun z => ?_)
        rw [t] at z; exact absurd z (by decide)
      · rcases t with t | t
        · -- MOVE
          refine toc _ _ (by rw [t]; decide) (by rw [t]; decide) (t187 _ _ _ _ (by rw [t]; decide) (by rw [t]; decide) (by rw [t]; decide) ?_)
          exact k187 b7 c9 c10 b11 off ⟨o8, Or.inr (Or.inl ⟨t, o7.trans t, p9 t2⟩)⟩ (Or.inr (Or.inr (Or.inl ⟨Or.inl (o7.trans t), by rw [o8]; exact t1, q9 t2, n10 t3⟩))) (by rw [o8]; exact t1) (by rw [o7, o11]; exact Nat.le_refl _) (fun _ => t2)
        · -- NOT
          refine toc _ _ (by rw [t]; decide) (by rw [t]; decide) (br_t t ⟨v, by rw [c]; exact q9 t2, br_c (fun _ => ?_) (fun _ => ⟨v, by rw [c]; exact q9 t2, ?_⟩)⟩)
          · refine br_f (by rw [t]; decide) (br_f (by rw [t]; decide) ?_)
            refine k187 b7 c9 c10 b11 off ⟨o8, Or.inr (Or.inr ⟨by rw [t]; decide, Or.inl (by rw [o7, t]; decide)⟩)⟩ (Or.inr (Or.inr (Or.inl ⟨Or.inr (o7.trans t), by rw [o8]; exact t1, q9 t2, n10 t3⟩))) (by rw [o8]; exact t1) (by rw [o7, o11]; exact Nat.le_refl _) (fun _ => t2)
          · refine zs_become hi240 (zb_in (n := 1) (by omega)) (Or.inl rfl) (br_f (by rw [t]; decide) (br_f (by rw [t]; decide) ?_))
            refine k187 (upd b7 i 1) (upd c9 i (-1)) (upd c10 i (-1)) (upd b11 i _) (fun j hj => ?_) ⟨o8, Or.inr (Or.inr ⟨by rw [t]; decide, Or.inl (by rw [pk_us]; decide)⟩)⟩ (by rw [pk_us, pk_us, pk_us, pk_us]; exact Or.inr (Or.inl ⟨rfl, by rw [o8]; exact t1, rfl, rfl⟩)) (by rw [o8]; exact t1) (by rw [pk_us, t, zs_w1, zs_w13]; exact Nat.le_refl _) (fun _ => t2)
            rw [pk_un hj, pk_un hj, pk_un hj, pk_un hj]
            exact off j hj
      · -- ADD .. SAME
        have e14 : ¬ a7 i < 3 ∧ ¬ 14 < a7 i := ⟨t.1, fun z => t.2 (Int32.lt_trans (by decide) z)⟩
        refine br_f (zt_cne t (by decide)) (br_f t.1 (br_f t.2 (br_f (by decide) ?_)))
        refine zs_simplify hi240 (by rw [o7]; exact t) (by rw [o8]; exact t1) (q9 t2) ?_ (fun d7 d9 d10 d11 g1 g2 => t187 _ _ _ _ (zt_cne t (by decide)) (zt_cne t (by decide)) (zt_cne t (by decide)) ?_)
        · rcases t3 with z | z
          · exact Or.inl (n10 z)
          · exact Or.inr (q10 z)
        · refine k187 d7 d9 d10 d11 (fun j hj => ?_) ⟨o8, Or.inr (Or.inr ⟨e14, Or.inl g2.1⟩)⟩ g2.2 (by rw [o8]; exact t1) ?_ (fun z => t2)
          · obtain ⟨y1, y2, y3, y4⟩ := g1 j hj
            exact ⟨y1, y2.trans (hc9 j hj), y3.trans (hc10 j hj), y4⟩
          · rw [zt_wtc t]
            exact zt_wt4 (fun z => by have := g2.1.2; rw [z] at this; exact absurd (by decide) this)
      · -- FETCH
        refine toc _ _ (by rw [t]; decide) (by rw [t]; decide) (t187 _ _ _ _ (by rw [t]; decide) (by rw [t]; decide) (by rw [t]; decide) ?_)
        exact k187 b7 c9 c10 b11 off ⟨o8, Or.inr (Or.inr ⟨by rw [t]; decide, Or.inr ⟨t, o7.trans t, p9 t2⟩⟩)⟩ (Or.inr (Or.inr (Or.inr (Or.inr (Or.inl ⟨o7.trans t, by rw [o8]; exact t1, q9 t2, q10 t3⟩))))) (by rw [o8]; exact t1) (by rw [o7, o11]; exact Nat.le_refl _) (fun _ => t2)
      · -- KEEP
        refine br_t t ⟨v, by rw [c, o8]; exact t1, v, nm_r (e' := upd b8 i (a15 (a8 i).toNatClampNeg)) (by rw [c, o8, zb_vb (zb_mono (h5 _ t1).1 (by omega))]) ?_⟩
        refine zs_ffet h6 (fun tc a16 a17 a18 a19 a20 hth => next _ _ _ _ _ _ _ _ _ _ _ _ _ _ ?_)
        have e15 : b7 i = 15 := o7.trans t
        refine zs_stp hI' (fun j hj => ⟨rfl, pk_un hj, hc9 j hj, hc10 j hj, rfl⟩) ⟨?_, ?_, fun z => ?_, fun z => ?_, ?_⟩ ⟨fun _ => ?_, fun z => ?_, fun z => ?_⟩ (fun v hv => ?_) (zs_CI_s h5 (fun v hv => zt_tr_k G _ _ _ _ v (Or.inr e15))) hth
        · rw [pk_us]; exact Or.inr (Or.inr (Or.inr (Or.inr (Or.inr (Or.inl ⟨e15, (h5 _ t1).1, q9 t2, q10 t3⟩)))))
        · rw [o7]
        · exact o11
        · rw [e15] at z; exact absurd z (by decide)
        · rw [o7, o11]; exact Nat.le_refl _
        · exact hTm _ t2 _ (p9 t2) (hcki.1 (Or.inr t))
        · rw [e15] at z; exact absurd z (by decide)
        · rw [e15] at z; exact absurd z (by decide)
        · rw [zt_tr_k G _ _ _ _ v (Or.inr t)] at hv
          rw [zt_tr_k G _ _ _ _ v (Or.inr e15)]
          exact h4 v hv
      · -- BRANCH, BRANCH_ABOVE
        have h8 : b8 i = -1 := o8.trans t1
        have hb : a7 i = 16 ∨ a7 i = 17 ∨ a7 i = 18 := t.imp id Or.inl
        have hb4 : a7 i = 16 ∨ a7 i = 17 ∨ a7 i = 18 ∨ a7 i = 19 := t.imp id Or.inl
        have hb5 : a7 i = 16 ∨ a7 i = 17 ∨ a7 i = 18 ∨ a7 i = 21 ∨ a7 i = 22 := t.imp id Or.inl
        have hs3 : a7 i = 16 ∨ a7 i = 17 ∨ a7 i = 21 := t.imp id Or.inl
        have w2 : zt_wt (a7 i) (a11 i) = 2 := by
          rcases t with z | z
          · rw [z, zs_w16]
          · rw [z, zs_w17]
        have n13 : a7 i ≠ 13 := by rcases t with z | z <;> rw [z] <;> decide
        have gT : ∀ v, G (b11 i) v → zt_T G b7 b8 b9 b11 i v := fun v g => h4 v (hcki.2.1 hb4 v (by rw [← o11]; exact g))
        have armed : zt_T G b7 b8 b9 b11 i (-1) := h4 _ (hcki.2.2 hb5)
        have hdec : wX_shareValues_181 post (wX_shareValues_6 post m) (nI i) (a7 i) le ck va dn sn ln wc iw tr tf (nI e) tk tc lv ce sc gi pc a1 a2 a3 a4 a5 a6 b7 b8 c9 c10 b11 a12 a13 a14 a15 a16 a17 a18 a19 a20 a21 a22 a23 a24 a25 a26 a27 a28 a29 a30 := by
          unfold wX_shareValues_181
          refine zs_decide hi240 (q9 t2) ?_ ?_ ?_
          · refine k187n b7 c9 c10 b11 off h8 ⟨?_, ?_, fun _ => o11, fun z => ⟨hb, o11⟩, ?_⟩ ⟨fun z => ?_, fun _ => gT, fun _ => armed⟩ (fun v hv => ?_) (zs_CI_s h5 (fun v hv => ?_))
            · rw [o7, h8, o11]; exact Or.inr (Or.inr (Or.inr (Or.inr (Or.inr (Or.inr (Or.inl ⟨t, rfl, q9 t2, n10 t3, t4⟩))))))
            · rw [o7]
            · rw [o7, o11]; exact Nat.le_refl _
            · rw [o7] at z; rcases t with y | y <;> rw [y] at z <;> exact absurd z (by decide)
            · rw [zt_tr_s G _ _ _ _ v hs3] at hv
              rw [zt_tr_s G _ _ _ _ v (by rw [o7]; exact hs3)]
              exact ⟨hv.1, h4 v hv.2⟩
            · rw [zt_tr_s G _ _ _ _ v (by rw [o7]; exact hs3)]
              exact ⟨fun z => z.2, fun z => ⟨zb_ne1 hv, z⟩⟩
          · refine k187n (upd b7 i 0) c9 c10 b11 (fun j hj => ⟨pk_un hj, hc9 j hj, hc10 j hj, rfl⟩) h8 ?_ ?_ (fun v hv => ?_) (zs_CI_s h5 (fun v hv => ?_))
            · rw [pk_us]
              exact ⟨Or.inl rfl, ⟨fun z => absurd z (by decide), fun z => absurd z n19⟩, fun _ => o11, fun z => absurd z (by decide), by rw [zs_w0]; exact Nat.zero_le _⟩
            · rw [pk_us]; exact zt_ck_n (by decide)
            · rw [zt_tr_s G _ _ _ _ v hs3] at hv
              rw [pk_us, zt_tr_k G _ _ _ _ v (Or.inl rfl)]
              exact h4 v hv.2
            · rw [pk_us, zt_tr_k G _ _ _ _ v (Or.inl rfl)]
          · refine k187n (upd b7 i 18) (upd c9 i (-1)) (upd c10 i (-1)) (upd b11 i (b11 i)) (fun j hj => ?_) h8 ?_ ?_ (fun v hv => ?_) (zs_CI_all h5 (fun v => ?_))
            · rw [pk_un hj, pk_un hj, pk_un hj, pk_un hj]; exact off j hj
            · rw [pk_us, pk_us, pk_us, pk_us, h8, o11]
              exact ⟨Or.inr (Or.inr (Or.inr (Or.inr (Or.inr (Or.inr (Or.inr (Or.inl ⟨rfl, rfl, rfl, rfl, t4⟩))))))), ⟨fun z => absurd z (by decide), fun z => absurd z n19⟩, fun _ => rfl, fun _ => ⟨hb, rfl⟩, by rw [w2, zs_w18]; omega⟩
            · rw [pk_us, pk_us, pk_us]
              exact ⟨fun z => absurd z (by decide), fun _ => gT, fun _ => armed⟩
            · rw [pk_us]; exact zt_tr_e G _ _ _ _ v (Or.inl rfl)
            · rw [pk_us]; exact zt_tr_e G _ _ _ _ v (Or.inl rfl)
        refine toc _ _ (by rcases t with z | z <;> rw [z] <;> decide) (by rcases t with z | z <;> rw [z] <;> decide) (br_f n13 ?_)
        exact br_c (fun _ => hdec) (fun z => br_t (t.elim (fun y => absurd y z) id) hdec)
      · -- GO
        refine toc _ _ (by rw [t]; decide) (by rw [t]; decide) (t187 _ _ _ _ (by rw [t]; decide) (by rw [t]; decide) (by rw [t]; decide) ?_)
        refine k187n b7 c9 c10 b11 off (o8.trans t1) ?_ ?_ (fun v hv => ?_) (zs_CI_all h5 (fun v => ?_))
        · rw [o7, o8, o11, n9 t2, n10 t3, t]
          exact zs_E_r (Or.inr (Or.inr (Or.inr (Or.inr (Or.inr (Or.inr (Or.inr (Or.inl ⟨rfl, t1, rfl, rfl, t4⟩))))))))
        · rw [o7, o11, n9 t2, ← t2]
          exact zt_ck_mono h4 hcki
        · rw [o7]; exact zt_tr_e G _ _ _ _ v (Or.inl t)
        · rw [o7]; exact zt_tr_e G _ _ _ _ v (Or.inl t)
      · exact absurd t n19
      · -- TICK
        refine toc _ _ (by rw [t]; decide) (by rw [t]; decide) (t187 _ _ _ _ (by rw [t]; decide) (by rw [t]; decide) (by rw [t]; decide) ?_)
        refine k187n b7 c9 c10 b11 off (o8.trans t1) ?_ ?_ (fun v hv => ?_) (zs_CI_s h5 (fun v hv => ?_))
        · rw [o7, o8, o11, n9 t2, n10 t3, t]
          exact zs_E_r (Or.inr (Or.inr (Or.inr (Or.inr (Or.inr (Or.inr (Or.inr (Or.inr (Or.inr (Or.inl ⟨rfl, t1, rfl, rfl, t4, t5⟩))))))))))
        · rw [o7, o11, n9 t2, ← t2]
          exact zt_ck_mono h4 hcki
        · rw [o7, o8, o11, n9 t2, ← t2]
          exact zt_tr_mono h4 v hv
        · rw [o7, t, zt_tr_t]
          exact ⟨fun z => z.elim (fun y => absurd y (zb_ne1 hv)) id, Or.inr⟩
      · -- OUTPUT, GIVE
        refine toc _ _ (by rcases t with z | z <;> rw [z] <;> decide) (by rcases t with z | z <;> rw [z] <;> decide) (t187 _ _ _ _ (by rcases t with z | z <;> rw [z] <;> decide) (by rcases t with z | z <;> rw [z] <;> decide) (by rcases t with z | z <;> rw [z] <;> decide) ?_)
        have n16 : ¬ (a7 i = 14 ∨ a7 i = 15) := by rcases t with z | z <;> rw [z] <;> decide
        have n17 : ¬ (a7 i = 16 ∨ a7 i = 17 ∨ a7 i = 18 ∨ a7 i = 19) := by rcases t with z | z <;> rw [z] <;> decide
        have n18 : ¬ (a7 i = 16 ∨ a7 i = 17 ∨ a7 i = 18) := by rcases t with z | z <;> rw [z] <;> decide
        have arm : zt_T G b7 b8 b9 b11 i (-1) := h4 _ (hcki.2.2 (Or.inr (Or.inr (Or.inr t))))
        refine k187n b7 c9 c10 b11 off (o8.trans t1) ⟨?_, ?_, fun _ => o11, fun z => ?_, ?_⟩ ⟨fun z => ?_, fun z => ?_, fun _ => arm⟩ (fun v hv => ?_) ?_
        · rw [o7, o8, t1]
          exact Or.inr (Or.inr (Or.inr (Or.inr (Or.inr (Or.inr (Or.inr (Or.inr (Or.inr (Or.inr ⟨t, rfl, q9 t2, n10 t3⟩)))))))))
        · rw [o7]
        · rw [o7] at z; exact absurd z n18
        · rw [o7, o11]; exact Nat.le_refl _
        · rw [o7] at z; exact absurd z n16
        · rw [o7] at z; exact absurd z n17
        · rcases t with z | z
          · rw [zt_tr_s G _ _ _ _ v (Or.inr (Or.inr z))] at hv
            rw [zt_tr_s G _ _ _ _ v (by rw [o7]; exact Or.inr (Or.inr z))]
            exact ⟨hv.1, h4 v hv.2⟩
          · rw [o7]; exact zt_tr_e G _ _ _ _ v (Or.inr z)
        · rcases t with z | z
          · refine zs_CI_s h5 (fun v hv => ?_)
            rw [zt_tr_s G _ _ _ _ v (by rw [o7]; exact Or.inr (Or.inr z))]
            exact ⟨fun y => y.2, fun y => ⟨zb_ne1 hv, y⟩⟩
          · refine zs_CI_all h5 (fun v => ?_)
            rw [o7]; exact zt_tr_e G _ _ _ _ v (Or.inr z)
    have k60 : ∀ (c9 : Nat → Int32), a7 i ≠ 19 → (∀ j, j ≠ i → c9 j = b9 j) → ((a9 i = -1 ∧ c9 i = -1) ∨ (vp_in (a9 i) 11 ∧ c9 i = a15 (a9 i).toNatClampNeg)) → wX_shareValues_60 post (wX_shareValues_6 post m) (nI i) (a7 i) le ck va dn sn ln wc iw tr tf (nI e) tk tc lv ce sc gi pc a1 a2 a3 a4 a5 a6 b7 b8 c9 b10 b11 a12 a13 a14 a15 a16 a17 a18 a19 a20 a21 a22 a23 a24 a25 a26 a27 a28 a29 a30 := by
      intro c9 n19 hc9 hv9
      have ho := (zt_sh_v hs0 hne0).2.2
      refine ⟨v, br_c (fun z => k86 c9 b10 n19 hc9 (fun _ _ => rfl) hv9 (Or.inl ?_)) (fun z => ?_)⟩
      · rw [c, o10] at z
        have := zb_on ho z
        exact ⟨this, o10.trans this⟩
      · rw [c, o10] at z
        have h10 := zb_op ho z
        refine ⟨v, by rw [c, o10]; exact h10, v, nm_r (e' := upd b10 i (a15 (a10 i).toNatClampNeg)) (by rw [c, o10, zb_vb (zb_mono (h5 _ h10).1 (by omega))]) ?_⟩
        exact k86 c9 _ n19 hc9 (fun j hj => pk_un hj) hv9 (Or.inr ⟨h10, pk_us⟩)
    refine pk_le e i (fun g => absurd g (by omega)) (fun _ => ⟨v, nm_r (e' := a7 i) (by rw [c, o7]) (br_c (fun t => ?_) (fun n19 => ⟨v, ?_⟩))⟩)
    · refine zs_fall (fun tc a13 a15 hid htc => next _ _ _ _ _ _ _ _ _ _ _ _ _ _ (zs_stp hI' (fun j hj => ⟨rfl, rfl, rfl, rfl, rfl⟩) ?_ ?_ (fun v hv => ?_) (fun v hv => by rw [hid v hv]; exact ⟨hv, id⟩) ⟨0, by omega, htc, fun k hk => absurd hk (by omega)⟩))
      · rw [o7, o8, o9, o10, o11]; exact zs_E_r hs0
      · rw [o7, o9, o11]; exact zt_ck_mono h4 hcki
      · rw [o7, o8, o9, o11]; exact zt_tr_mono h4 v hv
    · have ho := (zt_sh_v hs0 hne0).2.1
      refine br_c (fun z => k60 b9 n19 (fun _ _ => rfl) (Or.inl ?_)) (fun z => ?_)
      · rw [c, o9] at z
        have := zb_on ho z
        exact ⟨this, o9.trans this⟩
      · rw [c, o9] at z
        have h9 := zb_op ho z
        refine ⟨v, by rw [c, o9]; exact h9, v, nm_r (e' := upd b9 i (a15 (a9 i).toNatClampNeg)) (by rw [c, o9, zb_vb (zb_mono (h5 _ h9).1 (by omega))]) ?_⟩
        exact k60 _ n19 (fun j hj => pk_un hj) (Or.inr ⟨h9, pk_us⟩)
end
end
section
/-! what isn't reached goes; the list is packed -/
/-- passes that only strike entries out -/
theorem zd_L {e : Nat} {O o m f s k : Nat → Int32} (h : zt_L e O m f s k) (ho : ∀ j, j < e → o j = O j ∨ o j = 0)
    (htg : ∀ i, i < e → (o i = 16 ∨ o i = 17 ∨ o i = 18) → ∃ j, j < e ∧ o j = 19 ∧ k j = k i) (ht : zt_ty e o m f k) : zt_L e o m f s k := by
  obtain ⟨h1, h2, h3, h4, h5, h6⟩ := h
  refine ⟨h1, fun j hj => ?_, fun i j hi hj e1 e2 e3 => ?_, htg, ?_, ht⟩
  · rcases ho j hj with z | z
    · rw [z]; exact h2 j hj
    · rw [z]; exact Or.inl rfl
  · have l : ∀ j, j < e → o j = 19 → O j = 19 := fun j hj z => by
      rcases ho j hj with y | y
      · rw [← y]; exact z
      · rw [y] at z; exact absurd z (by decide)
    exact h3 i j hi hj (l i hi e1) (l j hj e2) e3
  · refine Nat.le_trans (zb_sm_le (fun j hj => ?_)) h5
    rcases ho j hj with z | z
    · rw [z]; exact Nat.le_refl _
    · rw [z]; exact Nat.zero_le _
/-- the state of the pass: O the list as it was, o as it is, r: reached -/
def zd_D (G : Int32 → Int32 → Prop) (e : Nat) (O m f k : Nat → Int32) (i : Nat) (r : Int32) (o : Nat → Int32) : Prop :=
  (∀ j, i ≤ j → o j = O j) ∧ (∀ j, j < i → o j = O j ∨ o j = 0) ∧ (∀ j, j < i → zt_ck G (o j) (f j) (k j) (zt_T G o m f k j)) ∧
  ((r = 0 ∧ ∀ v, zt_T G o m f k i v) ∨ (r = 1 ∧ ((∀ v, zt_T G O m f k i v → zt_T G o m f k i v) ∨ (∃ q, i ≤ q ∧ q < e ∧ (∀ p, i ≤ p → p < q → O p = 0) ∧ O q = 19 ∧ ∀ v, G (k q) v → zt_T G o m f k i v)))) ∧
  (∀ j, j < e → (o j = 16 ∨ o j = 17 ∨ o j = 18) → ∃ q, q < e ∧ o q = 19 ∧ k q = k j)
/-- the entry stays -/
theorem zd_keep {G : Int32 → Int32 → Prop} {e : Nat} {O m f k : Nat → Int32} {i : Nat} {r r' : Int32} {o : Nat → Int32} (h : zd_D G e O m f k i r o) (hck : zt_ck G (o i) (f i) (k i) (zt_T G o m f k i))
    (hr : (r' = 0 ∧ ∀ v, zt_tr G (o i) (m i) (f i) (k i) (zt_T G o m f k i) v) ∨ (r' = 1 ∧ ((∀ v, zt_T G O m f k (i + 1) v → zt_tr G (o i) (m i) (f i) (k i) (zt_T G o m f k i) v) ∨ (∃ q, i + 1 ≤ q ∧ q < e ∧ (∀ p, i + 1 ≤ p → p < q → O p = 0) ∧ O q = 19 ∧ ∀ v, G (k q) v → zt_tr G (o i) (m i) (f i) (k i) (zt_T G o m f k i) v)))) : zd_D G e O m f k (i + 1) r' o := by
  obtain ⟨h1, h2, h3, h4, h5⟩ := h
  refine ⟨fun j hj => h1 j (by omega), fun j hj => ?_, fun j hj => ?_, hr, h5⟩
  · by_cases z : j = i
    · rw [z]; exact Or.inl (h1 i (Nat.le_refl _))
    · exact h2 j (by omega)
  · by_cases z : j = i
    · rw [z]; exact hck
    · exact h3 j (by omega)
/-- the entry goes -/
theorem zd_gone {G : Int32 → Int32 → Prop} {e : Nat} {O m f k : Nat → Int32} {i : Nat} {r r' : Int32} {o o' : Nat → Int32} (h : zd_D G e O m f k i r o) (ho : ∀ j, j ≠ i → o' j = o j) (ho0 : o' i = 0)
    (hl : O i = 19 → ∀ j, j < e → (o j = 16 ∨ o j = 17 ∨ o j = 18) → k j ≠ k i)
    (hr : (r' = 0 ∧ ∀ v, zt_T G o m f k i v) ∨ (r' = 1 ∧ ((∀ v, zt_T G O m f k (i + 1) v → zt_T G o m f k i v) ∨ (∃ q, i + 1 ≤ q ∧ q < e ∧ (∀ p, i + 1 ≤ p → p < q → O p = 0) ∧ O q = 19 ∧ ∀ v, G (k q) v → zt_T G o m f k i v)))) : zd_D G e O m f k (i + 1) r' o' := by
  obtain ⟨h1, h2, h3, h4, h5⟩ := h
  have hT : ∀ j, j ≤ i → zt_T G o' m f k j = zt_T G o m f k j := fun j hj => zt_T_congr (fun q hq => ⟨ho q (by omega), rfl, rfl, rfl⟩)
  have hT1 : ∀ v, zt_T G o' m f k (i + 1) v ↔ zt_T G o m f k i v := fun v => by
    show zt_tr G (o' i) (m i) (f i) (k i) (zt_T G o' m f k i) v ↔ _
    rw [ho0, zt_tr_k G _ _ _ _ v (Or.inl rfl), hT i (Nat.le_refl _)]
  refine ⟨fun j hj => by rw [ho j (by omega)]; exact h1 j (by omega), fun j hj => ?_, fun j hj => ?_, ?_, fun j hj g => ?_⟩
  · by_cases z : j = i
    · rw [z]; exact Or.inr ho0
    · rw [ho j z]; exact h2 j (by omega)
  · by_cases z : j = i
    · rw [z, ho0]; exact zt_ck_n (by decide)
    · rw [ho j z, hT j (by omega)]; exact h3 j (by omega)
  · rcases hr with ⟨z1, z2⟩ | ⟨z1, z2 | ⟨q, y1, y2, y3, y4, y5⟩⟩
    · exact Or.inl ⟨z1, fun v => (hT1 v).mpr (z2 v)⟩
    · exact Or.inr ⟨z1, Or.inl (fun v g => (hT1 v).mpr (z2 v g))⟩
    · exact Or.inr ⟨z1, Or.inr ⟨q, y1, y2, y3, y4, fun v g => (hT1 v).mpr (y5 v g)⟩⟩
  · have hji : j ≠ i := fun z => by rw [z, ho0] at g; exact absurd g (by decide)
    rw [ho j hji] at g
    obtain ⟨q, q1, q2, q3⟩ := h5 j hj g
    have hqi : q ≠ i := fun z => by
      rw [z] at q2 q3
      exact hl (by rw [← h1 i (Nat.le_refl _)]; exact q2) j hj g q3.symm
    exact ⟨q, q1, by rw [ho q hqi]; exact q2, q3⟩
section
variable {le ck va dn sn ln wc tr tf li tk tc lv ce sc gi pc : Int32} {iw : Int64} {a1 a2 a3 a4 a5 a6 a7 a8 a9 a10 a11 a12 a13 a14 a15 a16 a17 a18 a19 a20 a21 a22 a23 a24 a25 a26 a27 a28 a29 a30 : Nat → Int32}
theorem zd_leaves {post : Int32 → Prop} {p : Int32} (h0 : ¬ (p = 16 ∨ p = 17 ∨ p = 18) → post 0) (h1 : (p = 16 ∨ p = 17 ∨ p = 18) → post 1) : wpX_leaves post (le, ck, va, dn, sn, ln, wc, iw, tr, tf, li, tk, tc, lv, ce, sc, gi, pc, a1, a2, a3, a4, a5, a6, a7, a8, a9, a10, a11, a12, a13, a14, a15, a16, a17, a18, a19, a20, a21, a22, a23, a24, a25, a26, a27, a28, a29, a30) p :=
  br_c (fun z => h1 (Or.inl z)) (fun z1 => br_c (fun z => h1 (Or.inr (Or.inl z))) (fun z2 => br_c (fun z => h1 (Or.inr (Or.inr z))) (fun z3 => h0 (fun g => g.elim z1 (fun g => g.elim z2 z3)))))
theorem zd_used {post : Int32 → Prop} {e : Nat} {l : Int32} (he : e ≤ 240) (h0 : (∀ j, j < e → (a7 j = 16 ∨ a7 j = 17 ∨ a7 j = 18) → a11 j ≠ l) → post 0) (h1 : post 1) : wpX_isLabelUsed post (le, ck, va, dn, sn, ln, wc, iw, tr, tf, nI e, tk, tc, lv, ce, sc, gi, pc, a1, a2, a3, a4, a5, a6, a7, a8, a9, a10, a11, a12, a13, a14, a15, a16, a17, a18, a19, a20, a21, a22, a23, a24, a25, a26, a27, a28, a29, a30) l := by
  refine pk_loop (σ := Unit) (fun m x _ => wX_isLabelUsed_2 post l le ck va dn sn ln wc iw tr tf (nI e) tk tc lv ce sc gi pc a1 a2 a3 a4 a5 a6 a7 a8 a9 a10 a11 a12 a13 a14 a15 a16 a17 a18 a19 a20 a21 a22 a23 a24 a25 a26 a27 a28 a29 a30 m (nI x)) (fun x _ => ∀ j, j < x → (a7 j = 16 ∨ a7 j = 17 ∨ a7 j = 18) → a11 j ≠ l) e 0 () (by omega) (fun j hj => absurd hj (by omega)) ?_ ?_
  · intro m _ hs
    exact pk_le e e (fun _ => h0 hs) (fun g => absurd g (by omega))
  · intro m x _ hx hs hm
    have v := zb_in (n := x) (N := 240) (by omega)
    have c := zb_cl (n := x) (N := 240) (by omega)
    have nx : ((a7 x = 16 ∨ a7 x = 17 ∨ a7 x = 18) → a11 x ≠ l) → ∀ y, y = nI x + 1 → wX_isLabelUsed_2 post l le ck va dn sn ln wc iw tr tf (nI e) tk tc lv ce sc gi pc a1 a2 a3 a4 a5 a6 a7 a8 a9 a10 a11 a12 a13 a14 a15 a16 a17 a18 a19 a20 a21 a22 a23 a24 a25 a26 a27 a28 a29 a30 m y := fun g => nm_r (nI_1 x) (hm () (fun j hj => by
      by_cases z : j = x
      · rw [z]; exact g
      · exact hs j (by omega)))
    refine pk_le e x (fun g => absurd g (by omega)) (fun _ => ⟨v, zd_leaves (fun g => br_t rfl (nx (fun y => absurd y (by rw [c] at g; exact g)))) (fun g => br_f (by decide) ⟨v, br_c (fun _ => h1) (fun z => nx (fun _ => ?_))⟩)⟩)
    rw [c] at z; exact z
theorem zd_next {post : Int32 → Prop} {e i : Nat} (he : e ≤ 240) (hi : i < e) (h0 : post 0) (h1 : (∃ q, i < q ∧ q < e ∧ (∀ p, i < p → p < q → a7 p = 0) ∧ a7 q = 19 ∧ a11 q = a11 i) → post 1) : wpX_nextIsLabel post (le, ck, va, dn, sn, ln, wc, iw, tr, tf, nI e, tk, tc, lv, ce, sc, gi, pc, a1, a2, a3, a4, a5, a6, a7, a8, a9, a10, a11, a12, a13, a14, a15, a16, a17, a18, a19, a20, a21, a22, a23, a24, a25, a26, a27, a28, a29, a30) (nI i) := by
  refine nm_r (nI_1 i) ?_
  have vi := zb_in (n := i) (N := 240) (by omega)
  have ci := zb_cl (n := i) (N := 240) (by omega)
  have k27 : ∀ x, i < x → x ≤ e → (∀ p, i < p → p < x → a7 p = 0) → wX_nextIsLabel_27 post (nI i) (nI x) le ck va dn sn ln wc iw tr tf (nI e) tk tc lv ce sc gi pc a1 a2 a3 a4 a5 a6 a7 a8 a9 a10 a11 a12 a13 a14 a15 a16 a17 a18 a19 a20 a21 a22 a23 a24 a25 a26 a27 a28 a29 a30 := by
    intro x hx hxe hz
    refine pk_le e x (fun _ => h0) (fun g => ?_)
    have v := zb_in (n := x) (N := 240) (by omega)
    have c := zb_cl (n := x) (N := 240) (by omega)
    refine ⟨v, br_c (fun z => ⟨v, vi, br_c (fun z2 => h1 ⟨x, hx, g, hz, ?_, ?_⟩) (fun _ => h0)⟩) (fun _ => h0)⟩
    · rw [c] at z; exact z
    · rw [c, ci] at z2; exact z2
  refine pk_loop (σ := Unit) (fun m x _ => wX_nextIsLabel_4 post (nI i) le ck va dn sn ln wc iw tr tf (nI e) tk tc lv ce sc gi pc a1 a2 a3 a4 a5 a6 a7 a8 a9 a10 a11 a12 a13 a14 a15 a16 a17 a18 a19 a20 a21 a22 a23 a24 a25 a26 a27 a28 a29 a30 m (nI x)) (fun x _ => i < x ∧ ∀ p, i < p → p < x → a7 p = 0) e (i + 1) () (by omega) ⟨by omega, fun p h1 h2 => absurd h2 (by omega)⟩ ?_ ?_
  · intro m _ hs
    exact pk_le e e (fun _ => k27 e hs.1 (Nat.le_refl _) hs.2) (fun g => absurd g (by omega))
  · intro m x _ hx hs hm
    have v := zb_in (n := x) (N := 240) (by omega)
    have c := zb_cl (n := x) (N := 240) (by omega)
    refine pk_le e x (fun g => absurd g (by omega)) (fun _ => ⟨v, br_c (fun z => nm_r (nI_1 x) (hm () ⟨by omega, fun p h1 h2 => ?_⟩)) (fun _ => k27 x hs.1 (by omega) hs.2)⟩)
    by_cases y : p = x
    · rw [y]; rw [c] at z; exact z
    · exact hs.2 p h1 (by omega)
theorem zd_lab {post : St1 → Prop} {J : Int32 → Int32 → (Nat → Int32) → (Nat → Int32) → (Nat → Int32) → (Nat → Int32) → (Nat → Int32) → (Nat → Int32) → (Nat → Int32) → (Nat → Int32) → (Nat → Int32) → (Nat → Int32) → (Nat → Int32) → (Nat → Int32) → (Nat → Int32) → (Nat → Int32) → (Nat → Int32) → (Nat → Int32) → (Nat → Int32) → (Nat → Int32) → (Nat → Int32) → (Nat → Int32) → (Nat → Int32) → (Nat → Int32) → (Nat → Int32) → (Nat → Int32) → (Nat → Int32) → (Nat → Int32) → (Nat → Int32) → (Nat → Int32) → (Nat → Int32) → (Nat → Int32) →  Prop} {G : Int32 → Int32 → Prop} {e i : Nat} {O o : Nat → Int32} {r : Int32} (he : e ≤ 240) (hi : i < e) (t : O i = 19) (hcki : zt_ck G (O i) (a9 i) (a11 i) (zt_T G O a8 a9 a11 i)) (hD : zd_D G e O a8 a9 a11 i r o)
    (hJ : ∀ (r' : Int32) (o' : Nat → Int32), zd_D G e O a8 a9 a11 (i + 1) r' o' → J r' (nI (i + 1)) a1 a2 a3 a4 a5 a6 o' a8 a9 a10 a11 a12 a13 a14 a15 a16 a17 a18 a19 a20 a21 a22 a23 a24 a25 a26 a27 a28 a29 a30) :
    wpX_isLabelUsed (fun r_19 => ((r = 0 → ((r_19 = 0 → (wX_dropUnreached_51 post J (nI i) (O i) r_19 0 le ck va dn sn ln wc iw tr tf (nI e) tk tc lv ce sc gi pc a1 a2 a3 a4 a5 a6 o a8 a9 a10 a11 a12 a13 a14 a15 a16 a17 a18 a19 a20 a21 a22 a23 a24 a25 a26 a27 a28 a29 a30)) ∧ (¬ r_19 = 0 → (wX_dropUnreached_46 post J (nI i) (O i) r_19 le ck va dn sn ln wc iw tr tf (nI e) tk tc lv ce sc gi pc a1 a2 a3 a4 a5 a6 o a8 a9 a10 a11 a12 a13 a14 a15 a16 a17 a18 a19 a20 a21 a22 a23 a24 a25 a26 a27 a28 a29 a30)))) ∧ (¬ r = 0 → (wX_dropUnreached_46 post J (nI i) (O i) r_19 le ck va dn sn ln wc iw tr tf (nI e) tk tc lv ce sc gi pc a1 a2 a3 a4 a5 a6 o a8 a9 a10 a11 a12 a13 a14 a15 a16 a17 a18 a19 a20 a21 a22 a23 a24 a25 a26 a27 a28 a29 a30)))) (le, ck, va, dn, sn, ln, wc, iw, tr, tf, nI e, tk, tc, lv, ce, sc, gi, pc, a1, a2, a3, a4, a5, a6, o, a8, a9, a10, a11, a12, a13, a14, a15, a16, a17, a18, a19, a20, a21, a22, a23, a24, a25, a26, a27, a28, a29, a30) (a11 i) := by
  have hi240 : i < 240 := by omega
  have v := zb_in hi240
  have c := zb_cl hi240
  have hD' := hD
  obtain ⟨h1, h2, h3, h4, h5⟩ := hD
  have hoi := h1 i (Nat.le_refl _)
  have hr01 : r = 0 ∨ r = 1 := h4.imp (fun z => z.1) (fun z => z.1)
  have next : ∀ (r' : Int32) (o' : Nat → Int32), zd_D G e O a8 a9 a11 (i + 1) r' o' → ∀ x, x = nI i + 1 → J r' x a1 a2 a3 a4 a5 a6 o' a8 a9 a10 a11 a12 a13 a14 a15 a16 a17 a18 a19 a20 a21 a22 a23 a24 a25 a26 a27 a28 a29 a30 := fun r' o' g => nm_r (nI_1 i) (hJ r' o' g)
  have hGT : ∀ v, G (a11 i) v → zt_T G o a8 a9 a11 i v := fun v g => by
    rcases h4 with ⟨_, z⟩ | ⟨_, z | ⟨q, q1, q2, q3, q4, q5⟩⟩
    · exact z v
    · exact z v (hcki.2.1 (Or.inr (Or.inr (Or.inr t))) v g)
    · by_cases y : q = i
      · rw [y] at q5; exact q5 v g
      · have := q3 i (Nat.le_refl _) (by omega)
        rw [t] at this; exact absurd this (by decide)
  have k89 : ∀ (r' : Int32) (o' : Nat → Int32), zd_D G e O a8 a9 a11 (i + 1) r' o' → wX_dropUnreached_75 post J r' (nI i) (O i) le ck va dn sn ln wc iw tr tf (nI e) tk tc lv ce sc gi pc a1 a2 a3 a4 a5 a6 o' a8 a9 a10 a11 a12 a13 a14 a15 a16 a17 a18 a19 a20 a21 a22 a23 a24 a25 a26 a27 a28 a29 a30 := fun r' o' g =>
    br_f (by rw [t]; decide) (br_f (by rw [t]; decide) (br_f (by rw [t]; decide) (next r' o' g)))
  refine zd_used he (fun hu => ?_) ?_
  · -- not used
    have gone : ∀ r' o', (∀ j, j ≠ i → o' j = o j) → o' i = 0 → r' = r → zd_D G e O a8 a9 a11 (i + 1) r' o' := fun r' o' y1 y2 y3 => by
      refine zd_gone hD' y1 y2 (fun _ j hj g => hu j hj g) ?_
      rcases h4 with ⟨z1, z2⟩ | ⟨z1, _⟩
      · exact Or.inl ⟨y3.trans z1, z2⟩
      · refine Or.inr ⟨y3.trans z1, Or.inl (fun v g => hGT v ?_)⟩
        have g' : zt_tr G (O i) (a8 i) (a9 i) (a11 i) (zt_T G O a8 a9 a11 i) v := g
        rw [t, zt_tr_l] at g'
        exact g'
    refine br_c (fun z => br_t rfl (br_t rfl ⟨v, nm_r (e' := upd o i 0) (by rw [c]) (br_t rfl ⟨v, nm_r (e' := upd (upd o i 0) i 0) (by rw [c]) (k89 0 _ (gone 0 _ (fun j hj => by rw [pk_un hj, pk_un hj]) pk_us z.symm))⟩)⟩)) (fun z => br_t rfl ⟨v, nm_r (e' := upd o i 0) (by rw [c]) (br_f (by decide) (k89 1 _ (gone 1 _ (fun j hj => pk_un hj) pk_us ?_)))⟩)
    exact (hr01.elim (fun y => absurd y z) id).symm
  · -- used
    have D1 : zd_D G e O a8 a9 a11 (i + 1) 1 o := by
      refine zd_keep hD' ⟨fun y => ?_, fun _ => hGT, fun y => ?_⟩ (Or.inr ⟨rfl, Or.inl (fun v g => ?_)⟩)
      · rw [hoi, t] at y; exact absurd y (by decide)
      · rw [hoi, t] at y; exact absurd y (by decide)
      · rw [hoi, t, zt_tr_l]
        have g' : zt_tr G (O i) (a8 i) (a9 i) (a11 i) (zt_T G O a8 a9 a11 i) v := g
        rw [t, zt_tr_l] at g'
        exact g'
    have k46 : wX_dropUnreached_46 post J (nI i) (O i) 1 le ck va dn sn ln wc iw tr tf (nI e) tk tc lv ce sc gi pc a1 a2 a3 a4 a5 a6 o a8 a9 a10 a11 a12 a13 a14 a15 a16 a17 a18 a19 a20 a21 a22 a23 a24 a25 a26 a27 a28 a29 a30 := br_f (by decide) (br_f (by decide) (k89 1 o D1))
    exact br_c (fun _ => br_f (by decide) k46) (fun _ => k46)
theorem zd_nol {post : St1 → Prop} {J : Int32 → Int32 → (Nat → Int32) → (Nat → Int32) → (Nat → Int32) → (Nat → Int32) → (Nat → Int32) → (Nat → Int32) → (Nat → Int32) → (Nat → Int32) → (Nat → Int32) → (Nat → Int32) → (Nat → Int32) → (Nat → Int32) → (Nat → Int32) → (Nat → Int32) → (Nat → Int32) → (Nat → Int32) → (Nat → Int32) → (Nat → Int32) → (Nat → Int32) → (Nat → Int32) → (Nat → Int32) → (Nat → Int32) → (Nat → Int32) → (Nat → Int32) → (Nat → Int32) → (Nat → Int32) → (Nat → Int32) → (Nat → Int32) → (Nat → Int32) → (Nat → Int32) →  Prop} {G : Int32 → Int32 → Prop} {e i : Nat} {O o : Nat → Int32} {r : Int32} (he : e ≤ 240) (hi : i < e) (n19 : O i ≠ 19) (hcki : zt_ck G (O i) (a9 i) (a11 i) (zt_T G O a8 a9 a11 i)) (hD : zd_D G e O a8 a9 a11 i r o)
    (hJ : ∀ (r' : Int32) (o' : Nat → Int32), zd_D G e O a8 a9 a11 (i + 1) r' o' → J r' (nI (i + 1)) a1 a2 a3 a4 a5 a6 o' a8 a9 a10 a11 a12 a13 a14 a15 a16 a17 a18 a19 a20 a21 a22 a23 a24 a25 a26 a27 a28 a29 a30) :
    wX_dropUnreached_64 post J r (nI i) (O i) le ck va dn sn ln wc iw tr tf (nI e) tk tc lv ce sc gi pc a1 a2 a3 a4 a5 a6 o a8 a9 a10 a11 a12 a13 a14 a15 a16 a17 a18 a19 a20 a21 a22 a23 a24 a25 a26 a27 a28 a29 a30 := by
  have hi240 : i < 240 := by omega
  have v := zb_in hi240
  have c := zb_cl hi240
  have hD' := hD
  obtain ⟨h1, h2, h3, h4, h5⟩ := hD
  have hoi := h1 i (Nat.le_refl _)
  have hr01 : r = 0 ∨ r = 1 := h4.imp (fun z => z.1) (fun z => z.1)
  have next : ∀ (r' : Int32) (o' : Nat → Int32), zd_D G e O a8 a9 a11 (i + 1) r' o' → ∀ x, x = nI i + 1 → J r' x a1 a2 a3 a4 a5 a6 o' a8 a9 a10 a11 a12 a13 a14 a15 a16 a17 a18 a19 a20 a21 a22 a23 a24 a25 a26 a27 a28 a29 a30 := fun r' o' g => nm_r (nI_1 i) (hJ r' o' g)
  have sim : r = 1 → O i ≠ 0 → ∀ v, zt_T G O a8 a9 a11 i v → zt_T G o a8 a9 a11 i v := fun y1 y2 => by
    rcases h4 with ⟨z, _⟩ | ⟨_, z | ⟨q, q1, q2, q3, q4, q5⟩⟩
    · rw [y1] at z; exact absurd z (by decide)
    · exact z
    · by_cases y : q = i
      · rw [y] at q4; exact absurd q4 n19
      · exact absurd (q3 i (Nat.le_refl _) (by omega)) y2
  -- r = 0: all goes
  have case0 : r = 0 → wX_dropUnreached_75 post J 0 (nI i) (O i) le ck va dn sn ln wc iw tr tf (nI e) tk tc lv ce sc gi pc a1 a2 a3 a4 a5 a6 (upd o i 0) a8 a9 a10 a11 a12 a13 a14 a15 a16 a17 a18 a19 a20 a21 a22 a23 a24 a25 a26 a27 a28 a29 a30 := by
    intro z
    have hall : ∀ v, zt_T G o a8 a9 a11 i v := by
      rcases h4 with y | y
      · exact y.2
      · rw [z] at y; exact absurd y.1 (by decide)
    have g0 : ∀ o', (∀ j, j ≠ i → o' j = o j) → o' i = 0 → zd_D G e O a8 a9 a11 (i + 1) 0 o' := fun o' y1 y2 => zd_gone hD' y1 y2 (fun y => absurd y n19) (Or.inl ⟨rfl, hall⟩)
    have g1 : ∀ o', (∀ j, j ≠ i → o' j = o j) → o' i = 0 → zd_D G e O a8 a9 a11 (i + 1) 1 o' := fun o' y1 y2 => zd_gone hD' y1 y2 (fun y => absurd y n19) (Or.inr ⟨rfl, Or.inl (fun v _ => hall v)⟩)
    have A0 := g0 (upd o i 0) (fun j hj => pk_un hj) pk_us
    have k89 : wX_dropUnreached_89 post J 0 (nI i) (O i) le ck va dn sn ln wc iw tr tf (nI e) tk tc lv ce sc gi pc a1 a2 a3 a4 a5 a6 (upd o i 0) a8 a9 a10 a11 a12 a13 a14 a15 a16 a17 a18 a19 a20 a21 a22 a23 a24 a25 a26 a27 a28 a29 a30 :=
      br_c (fun _ => zd_next he hi (br_t rfl (next 0 _ A0)) (fun _ => br_f (by decide) ⟨v, nm_r (e' := upd (upd o i 0) i 0) (by rw [c]) (next 1 _ (g1 _ (fun j hj => by rw [pk_un hj, pk_un hj]) pk_us))⟩)) (fun _ => next 0 _ A0)
    exact br_c (fun _ => k89) (fun _ => br_c (fun _ => k89) (fun _ => k89))
  have case1 : r = 1 → wX_dropUnreached_75 post J 1 (nI i) (O i) le ck va dn sn ln wc iw tr tf (nI e) tk tc lv ce sc gi pc a1 a2 a3 a4 a5 a6 o a8 a9 a10 a11 a12 a13 a14 a15 a16 a17 a18 a19 a20 a21 a22 a23 a24 a25 a26 a27 a28 a29 a30 := by
    intro z
    refine br_c (fun t => ?_) (fun n18 => br_c (fun t => ?_) (fun n22 => br_f n18 (next 1 _ ?_)))
    · -- GO
      have sm := sim z (by rw [t]; decide)
      refine br_t t (zd_next he hi (br_t rfl (next 0 _ ?_)) (fun hq => br_f (by decide) ⟨v, nm_r (e' := upd o i 0) (by rw [c]) (next 1 _ ?_)⟩))
      · exact zd_keep hD' (by rw [hoi]; exact zt_ck_mono sm hcki) (Or.inl ⟨rfl, fun v => by rw [hoi]; exact zt_tr_e G _ _ _ _ v (Or.inl t)⟩)
      · obtain ⟨q, q1, q2, q3, q4, q5⟩ := hq
        refine zd_gone hD' (fun j hj => pk_un hj) pk_us (fun y => absurd y n19) (Or.inr ⟨rfl, Or.inr ⟨q, by omega, q2, fun p p1 p2 => ?_, ?_, fun v g => ?_⟩⟩)
        · rw [← h1 p (by omega)]; exact q3 p (by omega) p2
        · rw [← h1 q (by omega)]; exact q4
        · rw [q5] at g
          exact sm v (hcki.2.1 (Or.inr (Or.inr (Or.inl t))) v g)
    · -- GIVE
      have sm := sim z (by rw [t]; decide)
      refine br_f (by rw [t]; decide) (next 0 _ ?_)
      exact zd_keep hD' (by rw [hoi]; exact zt_ck_mono sm hcki) (Or.inl ⟨rfl, fun v => by rw [hoi]; exact zt_tr_e G _ _ _ _ v (Or.inr t)⟩)
    · by_cases y0 : O i = 0
      · refine zd_keep hD' (by rw [hoi, y0]; exact zt_ck_n (by decide)) (Or.inr ⟨rfl, ?_⟩)
        have same : ∀ v, zt_tr G (o i) (a8 i) (a9 i) (a11 i) (zt_T G o a8 a9 a11 i) v ↔ zt_T G o a8 a9 a11 i v := fun v => by rw [hoi]; exact zt_tr_k G _ _ _ _ v (Or.inl y0)
        rcases h4 with ⟨y, _⟩ | ⟨_, y | ⟨q, q1, q2, q3, q4, q5⟩⟩
        · rw [z] at y; exact absurd y (by decide)
        · refine Or.inl (fun v g => (same v).mpr (y v ?_))
          exact (zt_tr_k G _ _ _ _ v (Or.inl y0)).mp g
        · refine Or.inr ⟨q, ?_, q2, fun p p1 p2 => q3 p (by omega) p2, q4, fun v g => (same v).mpr (q5 v g)⟩
          by_cases y : q = i
          · rw [y] at q4; exact absurd q4 n19
          · omega
      · have sm := sim z y0
        exact zd_keep hD' (by rw [hoi]; exact zt_ck_mono sm hcki) (Or.inr ⟨rfl, Or.inl (fun v g => by rw [hoi]; exact zt_tr_mono sm v g)⟩)
  rcases hr01 with z | z
  · subst z
    exact br_t rfl ⟨v, nm_r (e' := upd o i 0) (by rw [c]) (case0 rfl)⟩
  · subst z
    exact br_f (by decide) (case1 rfl)
theorem zd_unr {post : St1 → Prop} {e : Nat} (hL : zt_L e a7 a8 a9 a10 a11) (hp : ∀ a7, zt_L e a7 a8 a9 a10 a11 → post (le, ck, va, dn, sn, ln, wc, iw, tr, tf, nI e, tk, tc, lv, ce, sc, gi, pc, a1, a2, a3, a4, a5, a6, a7, a8, a9, a10, a11, a12, a13, a14, a15, a16, a17, a18, a19, a20, a21, a22, a23, a24, a25, a26, a27, a28, a29, a30)) : wpX_dropUnreached post (le, ck, va, dn, sn, ln, wc, iw, tr, tf, nI e, tk, tc, lv, ce, sc, gi, pc, a1, a2, a3, a4, a5, a6, a7, a8, a9, a10, a11, a12, a13, a14, a15, a16, a17, a18, a19, a20, a21, a22, a23, a24, a25, a26, a27, a28, a29, a30) := by
  have hL' := hL
  obtain ⟨he, hsh, hld, htg, hws, G, hG, hck, hend⟩ := hL
  refine pk_loop (fun m i s => wX_dropUnreached_4 post le ck va dn sn ln wc iw tr tf (nI e) tk tc lv ce sc gi pc m s.1 (nI i) a1 a2 a3 a4 a5 a6 s.2 a8 a9 a10 a11 a12 a13 a14 a15 a16 a17 a18 a19 a20 a21 a22 a23 a24 a25 a26 a27 a28 a29 a30) (fun i s => zd_D G e a7 a8 a9 a11 i s.1 s.2) e 0 ((1 : Int32), a7) (by omega) ?_ ?_ ?_
  · exact ⟨fun _ _ => rfl, fun j hj => absurd hj (by omega), fun j hj => absurd hj (by omega), Or.inr ⟨rfl, Or.inl (fun v g => g)⟩, htg⟩
  · rintro m ⟨r, o⟩ hD
    (try dsimp only at hD ⊢)
    refine pk_le e e (fun _ => hp _ ?_) (fun g => absurd g (by omega))
    obtain ⟨h1, h2, h3, h4, h5⟩ := hD
    refine zd_L hL' h2 h5 ⟨G, hG, h3, ?_⟩
    rcases h4 with ⟨_, z⟩ | ⟨_, z | ⟨q, q1, q2, _⟩⟩
    · exact z _
    · exact z _ hend
    · omega
  · rintro m i ⟨r, o⟩ hi hD hstep
    (try dsimp only at hD hstep ⊢)
    have v := zb_in (n := i) (N := 240) (by omega)
    have c := zb_cl (n := i) (N := 240) (by omega)
    have hoi := hD.1 i (Nat.le_refl _)
    refine pk_le e i (fun g => absurd g (by omega)) (fun _ => ⟨v, nm_r (e' := a7 i) (by rw [c, hoi]) (br_c (fun t => ⟨v, ?_⟩) (fun n19 => ?_))⟩)
    · rw [c]
      exact zd_lab he hi t (hck i hi) hD (fun r' o' g => hstep (r', o') g)
    · exact zd_nol he hi n19 (hck i hi) hD (fun r' o' g => hstep (r', o') g)
/-- packing -/
theorem zd_pack {post : St1 → Prop} {e : Nat} (hL : zt_L e a7 a8 a9 a10 a11) (hp : ∀ e' a7 a8 a9 a10 a11, zt_L e' a7 a8 a9 a10 a11 → zt_N e' a7 → post (le, ck, va, dn, sn, ln, wc, iw, tr, tf, nI e', tk, tc, lv, ce, sc, gi, pc, a1, a2, a3, a4, a5, a6, a7, a8, a9, a10, a11, a12, a13, a14, a15, a16, a17, a18, a19, a20, a21, a22, a23, a24, a25, a26, a27, a28, a29, a30)) : wpX_packList post (le, ck, va, dn, sn, ln, wc, iw, tr, tf, nI e, tk, tc, lv, ce, sc, gi, pc, a1, a2, a3, a4, a5, a6, a7, a8, a9, a10, a11, a12, a13, a14, a15, a16, a17, a18, a19, a20, a21, a22, a23, a24, a25, a26, a27, a28, a29, a30) := by
  obtain ⟨he, hsh, hld, htg, hws, G, hG, hck, hend⟩ := hL
  refine pk_loop (σ := Nat × (Nat → Int32) × (Nat → Int32) × (Nat → Int32) × (Nat → Int32) × (Nat → Int32))
    (fun m i s => wX_packList_4 post le ck va dn sn ln wc iw tr tf (nI e) tk tc lv ce sc gi pc m (nI s.1) (nI i) a1 a2 a3 a4 a5 a6 s.2.1 s.2.2.1 s.2.2.2.1 s.2.2.2.2.1 s.2.2.2.2.2 a12 a13 a14 a15 a16 a17 a18 a19 a20 a21 a22 a23 a24 a25 a26 a27 a28 a29 a30)
    (fun i s => s.1 ≤ i ∧ (∀ j, i ≤ j → s.2.1 j = a7 j ∧ s.2.2.1 j = a8 j ∧ s.2.2.2.1 j = a9 j ∧ s.2.2.2.2.1 j = a10 j ∧ s.2.2.2.2.2 j = a11 j) ∧
      (∀ j, j < s.1 → ∃ q, q < i ∧ a7 q ≠ 0 ∧ s.2.1 j = a7 q ∧ s.2.2.1 j = a8 q ∧ s.2.2.2.1 j = a9 q ∧ s.2.2.2.2.1 j = a10 q ∧ s.2.2.2.2.2 j = a11 q) ∧
      (∀ q, q < i → a7 q ≠ 0 → ∃ j, j < s.1 ∧ s.2.1 j = a7 q ∧ s.2.2.2.2.2 j = a11 q) ∧
      (∀ j k, j < k → k < s.1 → s.2.1 j = 19 → s.2.1 k = 19 → s.2.2.2.2.2 j ≠ s.2.2.2.2.2 k) ∧
      zt_ws s.2.1 s.2.2.2.2.2 s.1 = zt_ws a7 a11 i ∧ (∀ j, j < s.1 → zt_ck G (s.2.1 j) (s.2.2.2.1 j) (s.2.2.2.2.2 j) (zt_T G s.2.1 s.2.2.1 s.2.2.2.1 s.2.2.2.2.2 j)) ∧
      (∀ v, zt_T G s.2.1 s.2.2.1 s.2.2.2.1 s.2.2.2.2.2 s.1 v ↔ zt_T G a7 a8 a9 a11 i v)) e 0 (0, a7, a8, a9, a10, a11) (by omega) ?_ ?_ ?_
  · exact ⟨by (try dsimp only); omega, fun _ _ => ⟨rfl, rfl, rfl, rfl, rfl⟩, fun j hj => absurd hj (by (try dsimp only); omega), fun q hq => absurd hq (by omega), fun j k _ hk => absurd hk (by (try dsimp only); omega), rfl, fun j hj => absurd hj (by (try dsimp only); omega), fun v => Iff.rfl⟩
  · rintro m ⟨p, b7, b8, b9, b10, b11⟩ ⟨h0, h1, h2, h3, h4, h5, h6, h7⟩
    (try dsimp only at h0 h1 h2 h3 h4 h5 h6 h7 ⊢)
    refine pk_le e e (fun _ => hp _ _ _ _ _ _ ⟨by omega, fun j hj => ?_, fun i j hi hj e1 e2 e3 => ?_, fun i hi g => ?_, by omega, G, hG, h6, (h7 _).mpr hend⟩ (fun j hj => ?_)) (fun g => absurd g (by omega))
    · obtain ⟨q, q1, q2, q3, q4, q5, q6, q7⟩ := h2 j hj
      rw [q3, q4, q5, q6, q7]; exact hsh q q1
    · rcases Nat.lt_trichotomy i j with z | z | z
      · exact absurd e3 (h4 i j z hj e1 e2)
      · exact z
      · exact absurd e3.symm (h4 j i z hi e2 e1)
    · obtain ⟨q, q1, q2, q3, q4, q5, q6, q7⟩ := h2 i hi
      rw [q3] at g
      obtain ⟨j, j1, j2, j3⟩ := htg q q1 g
      obtain ⟨j', j4, j5, j6⟩ := h3 j j1 (by rw [j2]; decide)
      exact ⟨j', j4, j5.trans j2, by rw [j6, j3, q7]⟩
    · obtain ⟨q, q1, q2, q3, _⟩ := h2 j hj
      rw [q3]; exact q2
  · rintro m i ⟨p, b7, b8, b9, b10, b11⟩ hi ⟨h0, h1, h2, h3, h4, h5, h6, h7⟩ hstep
    (try dsimp only at h0 h1 h2 h3 h4 h5 h6 h7 hstep ⊢)
    have v := zb_in (n := i) (N := 240) (by omega)
    have c := zb_cl (n := i) (N := 240) (by omega)
    have vp := zb_in (n := p) (N := 240) (by omega)
    have cp := zb_cl (n := p) (N := 240) (by omega)
    obtain ⟨o7, o8, o9, o10, o11⟩ := h1 i (Nat.le_refl _)
    refine pk_le e i (fun g => absurd g (by omega)) (fun _ => ⟨v, br_c (fun z => ?_) (fun z => ?_)⟩)
    · rw [c, o7] at z
      refine nm_r (nI_1 i) (hstep (p, b7, b8, b9, b10, b11) ⟨by (try dsimp only); omega, fun j hj => h1 j (by omega), fun j hj => ?_, fun q hq hne => ?_, h4, ?_, h6, fun v => ?_⟩)
      · obtain ⟨q, q1, q2⟩ := h2 j hj
        exact ⟨q, by omega, q2⟩
      · by_cases y : q = i
        · rw [y] at hne; exact absurd z hne
        · exact h3 q (by omega) hne
      · (try dsimp only)
        rw [h5]
        show _ = zb_sm _ i + zt_wt (a7 i) (a11 i)
        rw [z]; rfl
      · (try dsimp only)
        rw [h7 v]
        show _ ↔ zt_tr G (a7 i) (a8 i) (a9 i) (a11 i) (zt_T G a7 a8 a9 a11 i) v
        exact (zt_tr_k G _ _ _ _ v (Or.inl z)).symm
    · rw [c, o7] at z
      have hs := hsh i hi
      obtain ⟨v1, v2, v3⟩ := zt_sh_v hs z
      refine ⟨v, vp, nm_r (e' := upd b7 p (a7 i)) (by rw [c, cp, o7, zb_vb (zb_mono (zt_sh_o hs) (by omega))]) ⟨v, vp, nm_r (e' := upd b8 p (a8 i)) (by rw [c, cp, o8, zb_ovb v1]) ⟨v, vp, nm_r (e' := upd b9 p (a9 i)) (by rw [c, cp, o9, zb_ovb v2]) ⟨v, vp, nm_r (e' := upd b10 p (a10 i)) (by rw [c, cp, o10, zb_ovb v3]) ⟨v, vp, nm_r (e' := upd b11 p (a11 i)) (by rw [c, cp, o11]) (nm_r (nI_1 p) (nm_r (nI_1 i) (hstep (p + 1, upd b7 p (a7 i), upd b8 p (a8 i), upd b9 p (a9 i), upd b10 p (a10 i), upd b11 p (a11 i)) ?_)))⟩⟩⟩⟩⟩
      have low : ∀ j, j ≠ p → upd b7 p (a7 i) j = b7 j ∧ upd b8 p (a8 i) j = b8 j ∧ upd b9 p (a9 i) j = b9 j ∧ upd b10 p (a10 i) j = b10 j ∧ upd b11 p (a11 i) j = b11 j := fun j hj => ⟨pk_un hj, pk_un hj, pk_un hj, pk_un hj, pk_un hj⟩
      have hT : ∀ j, j ≤ p → zt_T G (upd b7 p (a7 i)) (upd b8 p (a8 i)) (upd b9 p (a9 i)) (upd b11 p (a11 i)) j = zt_T G b7 b8 b9 b11 j := fun j hj => zt_T_congr (fun q hq => by
        obtain ⟨l1, l2, l3, l4, l5⟩ := low q (by omega)
        exact ⟨l1, l2, l3, l5⟩)
      refine ⟨by (try dsimp only); omega, fun j hj => ?_, fun j hj => ?_, fun q hq hne => ?_, fun j k hjk hk e1 e2 => ?_, ?_, fun j hj => ?_, fun v => ?_⟩
      · (try dsimp only)
        obtain ⟨l1, l2, l3, l4, l5⟩ := low j (by omega)
        rw [l1, l2, l3, l4, l5]; exact h1 j (by omega)
      · (try dsimp only at hj ⊢)
        by_cases y : j = p
        · rw [y, pk_us, pk_us, pk_us, pk_us, pk_us]
          exact ⟨i, by omega, z, rfl, rfl, rfl, rfl, rfl⟩
        · obtain ⟨l1, l2, l3, l4, l5⟩ := low j y
          rw [l1, l2, l3, l4, l5]
          obtain ⟨q, q1, q2⟩ := h2 j (by omega)
          exact ⟨q, by omega, q2⟩
      · (try dsimp only)
        by_cases y : q = i
        · exact ⟨p, by omega, by rw [pk_us, y], by rw [pk_us, y]⟩
        · obtain ⟨j, j1, j2, j3⟩ := h3 q (by omega) hne
          obtain ⟨l1, l2, l3, l4, l5⟩ := low j (by omega)
          exact ⟨j, by omega, by rw [l1]; exact j2, by rw [l5]; exact j3⟩
      · (try dsimp only at hk e1 e2 ⊢)
        obtain ⟨l1, l2, l3, l4, l5⟩ := low j (by omega)
        rw [l1] at e1
        rw [l5]
        by_cases y : k = p
        · rw [y, pk_us] at e2
          rw [y, pk_us]
          obtain ⟨q, q1, q2, q3, q4, q5, q6, q7⟩ := h2 j (by omega)
          intro t
          rw [q3] at e1
          rw [q7] at t
          have := hld q i (by omega) hi e1 e2 t
          omega
        · obtain ⟨m1, m2, m3, m4, m5⟩ := low k y
          rw [m1] at e2
          rw [m5]
          exact h4 j k hjk (by omega) e1 e2
      · (try dsimp only)
        show zb_sm _ p + zt_wt (upd b7 p (a7 i) p) (upd b11 p (a11 i) p) = zb_sm _ i + zt_wt (a7 i) (a11 i)
        rw [pk_us, pk_us]
        have := zb_sm_congr (f := fun j => zt_wt (upd b7 p (a7 i) j) (upd b11 p (a11 i) j)) (g := fun j => zt_wt (b7 j) (b11 j)) (n := p) (fun j hj => by
          obtain ⟨l1, l2, l3, l4, l5⟩ := low j (by omega)
          (try dsimp only)
          rw [l1, l5])
        unfold zt_ws at h5
        omega
      · (try dsimp only at hj ⊢)
        rw [hT j (by omega)]
        by_cases y : j = p
        · rw [y, pk_us, pk_us, pk_us]
          exact zt_ck_mono (fun v g => (h7 v).mpr g) (hck i hi)
        · obtain ⟨l1, l2, l3, l4, l5⟩ := low j y
          rw [l1, l3, l5]
          exact h6 j (by omega)
      · (try dsimp only)
        show zt_tr G (upd b7 p (a7 i) p) (upd b8 p (a8 i) p) (upd b9 p (a9 i) p) (upd b11 p (a11 i) p) (zt_T G (upd b7 p (a7 i)) (upd b8 p (a8 i)) (upd b9 p (a9 i)) (upd b11 p (a11 i)) p) v ↔ zt_tr G (a7 i) (a8 i) (a9 i) (a11 i) (zt_T G a7 a8 a9 a11 i) v
        rw [hT p (Nat.le_refl _), pk_us, pk_us, pk_us, pk_us]
        exact ⟨zt_tr_mono (fun v g => (h7 v).mp g) v, zt_tr_mono (fun v g => (h7 v).mpr g) v⟩
end
end
section
/-! what is alive -/
theorem zb_inot (m k : Int32) {v : Int32} (hv : vp_in v 32) : zb_i (m &&& (k ^^^ (-1))) v ↔ zb_i m v ∧ ¬ zb_i k v := by
  rw [zb_iand _ _ hv, zb_iv k hv, zb_iv (k ^^^ (-1)) hv, zb_txor, zb_tm1 _ (zb_lt hv)]
  simp
/-- alive behind entry i -/
def za_A (o k la al : Nat → Int32) (i : Nat) (v : Int32) : Prop :=
  (o i ≠ 18 ∧ o i ≠ 22 ∧ zb_i (al (i + 1)) v) ∨ ((o i = 16 ∨ o i = 17 ∨ o i = 18) ∧ zb_i (al (la (k i).toNatClampNeg).toNatClampNeg) v)
/-- alive ahead of entry i -/
def za_F (o m f s k la al : Nat → Int32) (i : Nat) (v : Int32) : Prop :=
  ((o i = 15 ∧ (za_A o k la al i v ∨ v = m i)) ∨ (o i ≠ 15 ∧ za_A o k la al i v ∧ v ≠ m i)) ∨ v = f i ∨ v = s i
theorem za_A_mono {o k la al bl : Nat → Int32} (h : ∀ j v, vp_in v 11 → zb_i (al j) v → zb_i (bl j) v) {i : Nat} {v : Int32} (hv : vp_in v 11) (g : za_A o k la al i v) : za_A o k la bl i v :=
  g.imp (fun g => ⟨g.1, g.2.1, h _ v hv g.2.2⟩) (fun g => ⟨g.1, h _ v hv g.2⟩)
theorem za_F_mono {o m f s k la al bl : Nat → Int32} (h : ∀ j v, vp_in v 11 → zb_i (al j) v → zb_i (bl j) v) {i : Nat} {v : Int32} (hv : vp_in v 11) (g : za_F o m f s k la al i v) : za_F o m f s k la bl i v :=
  g.imp (fun g => g.imp (fun g => ⟨g.1, g.2.imp (za_A_mono h hv) id⟩) (fun g => ⟨g.1, za_A_mono h hv g.2.1, g.2.2⟩)) id
/-- the labels' places -/
def za_la (e : Nat) (o k la : Nat → Int32) : Prop := ∀ j, j < e → o j = 19 → la (k j).toNatClampNeg = nI j
def za_rg (e : Nat) (al : Nat → Int32) : Prop := ∀ j, j ≤ e → vp_in (al j) 2048
/-- the sets hold -/
def za_LV (e : Nat) (o m f s k la al : Nat → Int32) : Prop := za_rg e al ∧ za_la e o k la ∧ ∀ j, j < e → ∀ v, vp_in v 11 → (zb_i (al j) v ↔ za_F o m f s k la al j v)
theorem za_k40 {e : Nat} {o m f s k : Nat → Int32} (h : ∀ j, j < e → zt_sh (o j) (m j) (f j) (s j) (k j)) {j : Nat} (hj : j < e) (y : o j = 19) : vp_in (k j) 40 := by
  have := h j hj
  rw [y] at this
  rcases this with t | t | t | t | t | t | t | t | t | t | t
  · exact absurd t (by decide)
  · exact absurd t.1 (by decide)
  · exact absurd t.1 (by decide)
  · exact absurd t.1 (by decide)
  · exact absurd t.1 (by decide)
  · exact absurd t.1 (by decide)
  · exact absurd t.1 (by decide)
  · exact absurd t.1 (by decide)
  · exact t.2.2.2.2
  · exact absurd t.1 (by decide)
  · exact absurd t.1 (by decide)
/-- jumps go to labels -/
def za_tg (e : Nat) (o k la : Nat → Int32) : Prop := ∀ i, i < e → (o i = 16 ∨ o i = 17 ∨ o i = 18) → vp_in (k i) 40 ∧ ∃ q, q < e ∧ la (k i).toNatClampNeg = nI q ∧ o q = 19 ∧ k q = k i
theorem za_tgL {e : Nat} {o m f s k la : Nat → Int32} (h : zt_L e o m f s k) (g : za_la e o k la) : za_tg e o k la := fun i hi z => by
  obtain ⟨h1, h2, h3, h4, h5, h6⟩ := h
  obtain ⟨q, q1, q2, q3⟩ := h4 i hi z
  refine ⟨?_, q, q1, by rw [← q3]; exact g q q1 q2, q2, q3⟩
  have := h2 q q1
  rw [q2, q3] at this
  rcases this with t | t | t | t | t | t | t | t | t | t | t
  · exact absurd t (by decide)
  · exact absurd t.1 (by decide)
  · exact absurd t.1 (by decide)
  · exact absurd t.1 (by decide)
  · exact absurd t.1 (by decide)
  · exact absurd t.1 (by decide)
  · exact absurd t.1 (by decide)
  · exact absurd t.1 (by decide)
  · exact t.2.2.2.2
  · exact absurd t.1 (by decide)
  · exact absurd t.1 (by decide)
section
variable {le ck va dn sn ln wc tr tf li tk tc lv ce sc gi pc : Int32} {iw : Int64} {a1 a2 a3 a4 a5 a6 a7 a8 a9 a10 a11 a12 a13 a14 a15 a16 a17 a18 a19 a20 a21 a22 a23 a24 a25 a26 a27 a28 a29 a30 : Nat → Int32}
theorem za_after {post : Int32 → Prop} {e i : Nat} (he : e ≤ 240) (hi : i < e) (hr : za_rg e a21) (ht : za_tg e a7 a11 a12)
    (h : ∀ r, vp_in r 2048 → (∀ v, vp_in v 11 → (zb_i r v ↔ za_A a7 a11 a12 a21 i v)) → post r) : wpX_aliveAfter post (le, ck, va, dn, sn, ln, wc, iw, tr, tf, li, tk, tc, lv, ce, sc, gi, pc, a1, a2, a3, a4, a5, a6, a7, a8, a9, a10, a11, a12, a13, a14, a15, a16, a17, a18, a19, a20, a21, a22, a23, a24, a25, a26, a27, a28, a29, a30) (nI i) := by
  have v := zb_in (n := i) (N := 240) (by omega)
  have c := zb_cl (n := i) (N := 240) (by omega)
  have v1 := zb_in (n := i + 1) (N := 241) (by omega)
  have c1 := zb_cl (n := i + 1) (N := 241) (by omega)
  have k31 : ∀ z0, vp_in z0 2048 → (∀ v, vp_in v 11 → (zb_i z0 v ↔ (a7 i ≠ 18 ∧ a7 i ≠ 22 ∧ zb_i (a21 (i + 1)) v))) → wX_aliveAfter_31 post (nI i) (a7 i) z0 le ck va dn sn ln wc iw tr tf li tk tc lv ce sc gi pc a1 a2 a3 a4 a5 a6 a7 a8 a9 a10 a11 a12 a13 a14 a15 a16 a17 a18 a19 a20 a21 a22 a23 a24 a25 a26 a27 a28 a29 a30 := by
    intro z0 hz0 hz
    unfold wX_aliveAfter_31
    refine zd_leaves (fun g => br_t rfl (h z0 hz0 (fun v hv => ?_))) (fun g => br_f (by decide) ?_)
    · rw [hz v hv]
      exact ⟨Or.inl, fun y => y.elim id (fun y => absurd y.1 g)⟩
    · obtain ⟨t1, q, t2, t3, t4, t5⟩ := ht i hi g
      have rq : vp_in (a21 (a12 (a11 i).toNatClampNeg).toNatClampNeg) 2048 := by rw [t3, zb_cl (n := q) (N := 240) (by omega)]; exact hr q (by omega)
      refine ⟨v, by (try rw [c]); exact t1, by (try rw [c]); rw [t3]; exact zb_in (by omega), ?_⟩
      (try rw [c])
      refine h _ (zb_ror hz0 rq) (fun v hv => ?_)
      rw [zb_ior _ _ (zb_mono hv (by omega)), hz v hv]
      exact or_congr Iff.rfl ⟨fun y => ⟨g, y⟩, fun y => y.2⟩
  have k0 : (a7 i = 18 ∨ a7 i = 22) → wX_aliveAfter_31 post (nI i) (a7 i) 0 le ck va dn sn ln wc iw tr tf li tk tc lv ce sc gi pc a1 a2 a3 a4 a5 a6 a7 a8 a9 a10 a11 a12 a13 a14 a15 a16 a17 a18 a19 a20 a21 a22 a23 a24 a25 a26 a27 a28 a29 a30 := fun g => k31 0 zb_r0 (fun v hv => ⟨fun y => absurd y (zb_i0 (zb_mono hv (by omega))), fun y => g.elim (fun g => absurd g y.1) (fun g => absurd g y.2.1)⟩)
  refine ⟨v, nm_r (e' := a7 i) (by first | rw [c] | rfl) (br_c (fun g => k0 (Or.inl g)) (fun g1 => br_c (fun g => k0 (Or.inr g)) (fun g2 => ?_)))⟩
  rw [nI_1]
  refine ⟨v1, ?_⟩
  rw [c1]
  exact k31 _ (hr (i + 1) (by omega)) (fun v hv => ⟨fun y => ⟨g1, g2, y⟩, fun y => y.2.2⟩)
theorem za_bit {post : Int32 → Prop} {p : Int32} (hp : zb_o p) (h : ∀ r, vp_in r 2048 → (∀ v, vp_in v 11 → (zb_i r v ↔ v = p)) → post r) : wpX_bitOf post (le, ck, va, dn, sn, ln, wc, iw, tr, tf, li, tk, tc, lv, ce, sc, gi, pc, a1, a2, a3, a4, a5, a6, a7, a8, a9, a10, a11, a12, a13, a14, a15, a16, a17, a18, a19, a20, a21, a22, a23, a24, a25, a26, a27, a28, a29, a30) p := by
  rcases hp with g | g
  · subst g
    exact br_f (by decide) (h 0 zb_r0 (fun v hv => ⟨fun y => absurd y (zb_i0 (zb_mono hv (by omega))), fun y => absurd y (zb_ne1 hv)⟩))
  · exact br_t (zb_ge g) (h _ (zb_rbit g) (fun v hv => zb_ibit (zb_mono hv (by omega)) (zb_mono g (by omega))))
/-- the sets grow -/
def za_PF (e : Nat) (o m f s k la al : Nat → Int32) : Prop := ∀ j, j < e → ∀ v, vp_in v 11 → zb_i (al j) v → za_F o m f s k la al j v
theorem za_inner {post : St1 → Prop} {J : Int32 → (Nat → Int32) → (Nat → Int32) → (Nat → Int32) → (Nat → Int32) → (Nat → Int32) → (Nat → Int32) → (Nat → Int32) → (Nat → Int32) → (Nat → Int32) → (Nat → Int32) → (Nat → Int32) → (Nat → Int32) → (Nat → Int32) → (Nat → Int32) → (Nat → Int32) → (Nat → Int32) → (Nat → Int32) → (Nat → Int32) → (Nat → Int32) → (Nat → Int32) → (Nat → Int32) → (Nat → Int32) → (Nat → Int32) → (Nat → Int32) → (Nat → Int32) → (Nat → Int32) → (Nat → Int32) → (Nat → Int32) → (Nat → Int32) → (Nat → Int32) → Prop}
    {e : Nat} (he : e ≤ 240) (hv : ∀ j, j < e → zb_o (a8 j) ∧ zb_o (a9 j) ∧ zb_o (a10 j)) (ht : za_tg e a7 a11 a12) (hr : za_rg e a21) (hPF : za_PF e a7 a8 a9 a10 a11 a12 a21)
    (hJ : ∀ x1 b21, za_rg e b21 → za_PF e a7 a8 a9 a10 a11 a12 b21 → ((x1 = 0 ∧ b21 = a21 ∧ ∀ j, j < e → ∀ v, vp_in v 11 → (zb_i (b21 j) v ↔ za_F a7 a8 a9 a10 a11 a12 b21 j v)) ∨ (x1 = 1 ∧ zb_sm (fun j => (a21 j).toNatClampNeg) e < zb_sm (fun j => (b21 j).toNatClampNeg) e)) → J x1 a1 a2 a3 a4 a5 a6 a7 a8 a9 a10 a11 a12 a13 a14 a15 a16 a17 a18 a19 a20 b21 a22 a23 a24 a25 a26 a27 a28 a29 a30) :
    ∃ fu, wX_findAlive_78 post J le ck va dn sn ln wc iw tr tf li tk tc lv ce sc gi pc fu 0 (nI e - 1) a1 a2 a3 a4 a5 a6 a7 a8 a9 a10 a11 a12 a13 a14 a15 a16 a17 a18 a19 a20 a21 a22 a23 a24 a25 a26 a27 a28 a29 a30 := by
  have main := pk_loopD (σ := Int32 × (Nat → Int32)) (fun n i s => wX_findAlive_78 post J le ck va dn sn ln wc iw tr tf li tk tc lv ce sc gi pc n s.1 (nI i - 1) a1 a2 a3 a4 a5 a6 a7 a8 a9 a10 a11 a12 a13 a14 a15 a16 a17 a18 a19 a20 s.2 a22 a23 a24 a25 a26 a27 a28 a29 a30)
    (fun i s => i ≤ e ∧ za_rg e s.2 ∧ za_PF e a7 a8 a9 a10 a11 a12 s.2 ∧ ((s.1 = 0 ∧ s.2 = a21 ∧ ∀ j, i ≤ j → j < e → ∀ v, vp_in v 11 → (zb_i (s.2 j) v ↔ za_F a7 a8 a9 a10 a11 a12 s.2 j v)) ∨ (s.1 = 1 ∧ zb_sm (fun j => (a21 j).toNatClampNeg) e < zb_sm (fun j => (s.2 j).toNatClampNeg) e)))
    ?_ ?_ e (0, a21) ⟨Nat.le_refl _, hr, hPF, Or.inl ⟨rfl, rfl, fun j h1 h2 => absurd h2 (by omega)⟩⟩
  · exact ⟨_, main⟩
  · rintro n ⟨x1, b21⟩ ⟨h1, h2, h3, h4⟩
    refine br_t (by decide) (hJ x1 b21 h2 h3 (h4.imp (fun g => ⟨g.1, g.2.1, fun j hj => g.2.2 j (by omega) hj⟩) id))
  · rintro n i ⟨x1, b21⟩ ⟨h1, h2, h3, h4⟩ hstep
    (try dsimp only at h1 h2 h3 h4 hstep ⊢)
    rw [nI_pred]
    have hi : i < e := by omega
    have v := zb_in (n := i) (N := 240) (by omega)
    have v1 := zb_in (n := i) (N := 241) (by omega)
    have c := zb_cl (n := i) (N := 240) (by omega)
    obtain ⟨o8, o9, o10⟩ := hv i hi
    have m1 : nI i + (-1) = nI i - 1 := by grind
    have k130 : ∀ x3, vp_in x3 2048 → (∀ v, vp_in v 11 → (zb_i x3 v ↔ ((a7 i = 15 ∧ (za_A a7 a11 a12 b21 i v ∨ v = a8 i)) ∨ (a7 i ≠ 15 ∧ za_A a7 a11 a12 b21 i v ∧ v ≠ a8 i)))) →
        wX_findAlive_130 post J (wX_findAlive_78 post J le ck va dn sn ln wc iw tr tf li tk tc lv ce sc gi pc n) x1 (nI i) x3 le ck va dn sn ln wc iw tr tf li tk tc lv ce sc gi pc a1 a2 a3 a4 a5 a6 a7 a8 a9 a10 a11 a12 a13 a14 a15 a16 a17 a18 a19 a20 b21 a22 a23 a24 a25 a26 a27 a28 a29 a30 := by
      intro x3 hx3 hb3
      refine ⟨v, ?_⟩
      (try rw [c])
      refine za_bit o9 (fun r9 hr9 hb9 => ⟨v, ?_⟩)
      (try rw [c])
      refine za_bit o10 (fun r10 hr10 hb10 => nm_e ⟨v1, ?_⟩)
      have hR := zb_ror hx3 (zb_ror hr9 hr10)
      have hF : ∀ v, vp_in v 11 → (zb_i (x3 ||| (r9 ||| r10)) v ↔ za_F a7 a8 a9 a10 a11 a12 b21 i v) := fun v hv => by
        rw [zb_ior _ _ (zb_mono hv (by omega)), zb_ior _ _ (zb_mono hv (by omega)), hb3 v hv, hb9 v hv, hb10 v hv]
        exact Iff.rfl
      refine br_c (fun z => nm_r m1 (hstep (x1, b21) ⟨by omega, h2, h3, ?_⟩)) (fun z => ⟨v1, nm_r (e' := upd b21 i (x3 ||| (r9 ||| r10))) (by (try rw [c]); rw [zb_s hR]) (nm_r m1 (hstep (1, upd b21 i (x3 ||| (r9 ||| r10))) ⟨by omega, fun j hj => ?_, fun j hj w hw g => ?_, Or.inr ⟨rfl, ?_⟩⟩))⟩)
      · (try rw [c] at z)
        refine h4.imp (fun g => ⟨g.1, g.2.1, fun j hj hje w hw => ?_⟩) id
        by_cases y : j = i
        · rw [y]
          show zb_i (b21 i) w ↔ _
          rw [← z]; exact hF w hw
        · exact g.2.2 j (by omega) hje w hw
      · (try dsimp only)
        by_cases y : j = i
        · rw [y, pk_us]; exact hR
        · rw [pk_un y]; exact h2 j hj
      · have up : ∀ j v, vp_in v 11 → zb_i (b21 j) v → zb_i (upd b21 i (x3 ||| (r9 ||| r10)) j) v := fun j v hv g => by
          by_cases y : j = i
          · rw [y, pk_us, hF v hv]; rw [y] at g; exact h3 i hi v hv g
          · rw [pk_un y]; exact g
        refine za_F_mono up hw ?_
        (try dsimp only at g)
        by_cases y : j = i
        · rw [y, pk_us] at g; rw [y]; exact (hF w hw).mp g
        · rw [pk_un y] at g; exact h3 j hj w hw g
      · (try dsimp only)
        (try rw [c] at z)
        have lt : (b21 i).toNatClampNeg < (x3 ||| (r9 ||| r10)).toNatClampNeg := zb_sub_lt (h2 i (by omega)) hR (fun v hv g => (hF v hv).mpr (h3 i hi v hv g)) (fun y => z y.symm)
        have s1 : zb_sm (fun j => (b21 j).toNatClampNeg) e < zb_sm (fun j => (upd b21 i (x3 ||| (r9 ||| r10)) j).toNatClampNeg) e := by
          refine zb_sm_lt (i := i) (fun j hj => ?_) hi (by (try dsimp only); rw [pk_us]; exact lt)
          (try dsimp only)
          by_cases y : j = i
          · rw [y, pk_us]; omega
          · rw [pk_un y]; exact Nat.le_refl _
        rcases h4 with g | g
        · rw [g.2.1] at s1 ⊢; exact s1
        · omega
    refine br_f (nI_pos (by omega)) (za_after he hi h2 ht (fun r hr hb => ⟨v, ?_⟩))
    (try rw [c])
    refine br_c (fun z => ⟨v, ?_⟩) (fun z => ⟨v, ?_⟩)
    · refine za_bit o8 (fun r8 hr8 hb8 => nm_e (k130 _ (zb_ror hr hr8) (fun v hv => ?_)))
      rw [zb_ior _ _ (zb_mono hv (by omega)), hb v hv, hb8 v hv]
      exact ⟨fun y => Or.inl ⟨z, y⟩, fun y => y.elim (fun y => y.2) (fun y => absurd z y.1)⟩
    · refine za_bit o8 (fun r8 hr8 hb8 => nm_e (k130 _ (zb_rand hr) (fun v hv => ?_)))
      rw [zb_inot _ _ (zb_mono hv (by omega)), hb v hv, hb8 v hv]
      exact ⟨fun y => Or.inr ⟨z, y⟩, fun y => y.elim (fun y => absurd y.1 z) (fun y => y.2)⟩
theorem za_find {post : St1 → Prop} {e : Nat} (hL : zt_L e a7 a8 a9 a10 a11) (hN : zt_N e a7) (hp : ∀ a12 a21, za_LV e a7 a8 a9 a10 a11 a12 a21 → post (le, ck, va, dn, sn, ln, wc, iw, tr, tf, nI e, tk, tc, lv, ce, sc, gi, pc, a1, a2, a3, a4, a5, a6, a7, a8, a9, a10, a11, a12, a13, a14, a15, a16, a17, a18, a19, a20, a21, a22, a23, a24, a25, a26, a27, a28, a29, a30)) : wpX_findAlive post (le, ck, va, dn, sn, ln, wc, iw, tr, tf, nI e, tk, tc, lv, ce, sc, gi, pc, a1, a2, a3, a4, a5, a6, a7, a8, a9, a10, a11, a12, a13, a14, a15, a16, a17, a18, a19, a20, a21, a22, a23, a24, a25, a26, a27, a28, a29, a30) := by
  have hL' := hL
  obtain ⟨he, hsh, hld, htg, hws, hty⟩ := hL
  have hv : ∀ j, j < e → zb_o (a8 j) ∧ zb_o (a9 j) ∧ zb_o (a10 j) := fun j hj => zt_sh_v (hsh j hj) (hN j hj)
  refine pk_loop (fun m i s => wX_findAlive_2 post le ck va dn sn ln wc iw tr tf (nI e) tk tc lv ce sc gi pc m (nI i) a1 a2 a3 a4 a5 a6 a7 a8 a9 a10 a11 s a13 a14 a15 a16 a17 a18 a19 a20 a21 a22 a23 a24 a25 a26 a27 a28 a29 a30) (fun i s => ∀ j, j < i → a7 j = 19 → s (a11 j).toNatClampNeg = nI j) e 0 a12 (by omega) (fun j hj => absurd hj (by omega)) ?_ ?_
  · intro m a12 hla
    have ht := za_tgL hL' hla
    refine pk_le e e (fun _ => ?_) (fun g => absurd g (by omega))
    refine pk_loop (fun m i s => wX_findAlive_42 post le ck va dn sn ln wc iw tr tf (nI e) tk tc lv ce sc gi pc m (nI i) a1 a2 a3 a4 a5 a6 a7 a8 a9 a10 a11 a12 a13 a14 a15 a16 a17 a18 a19 a20 s a22 a23 a24 a25 a26 a27 a28 a29 a30) (fun i s => ∀ j, j < i → s j = 0) (e + 1) 0 a21 (by omega) (fun j hj => absurd hj (by omega)) ?_ ?_
    · intro m a21 h0
      refine pk_lt e (e + 1) (fun _ => ?_) (fun g => absurd g (by omega))
      refine loop_m (σ := Int32 × (Nat → Int32)) (fun n s => wX_findAlive_65 post le ck va dn sn ln wc iw tr tf (nI e) tk tc lv ce sc gi pc n s.1 a1 a2 a3 a4 a5 a6 a7 a8 a9 a10 a11 a12 a13 a14 a15 a16 a17 a18 a19 a20 s.2 a22 a23 a24 a25 a26 a27 a28 a29 a30)
        (fun s => za_rg e s.2 ∧ za_PF e a7 a8 a9 a10 a11 a12 s.2 ∧ ((s.1 = 0 ∧ ∀ j, j < e → ∀ v, vp_in v 11 → (zb_i (s.2 j) v ↔ za_F a7 a8 a9 a10 a11 a12 s.2 j v)) ∨ s.1 = 1))
        (fun s => if s.1 = 0 then 0 else 2048 * e + 1 - zb_sm (fun j => (s.2 j).toNatClampNeg) e) ?_ (1, a21) ⟨fun j hj => by (try dsimp only); rw [h0 j (by omega)]; exact zb_r0, fun j hj v hv g => ?_, Or.inr rfl⟩
      · rintro n ⟨x1, b21⟩ ⟨h1, h2, h3⟩ hstep
        (try dsimp only at h1 h2 h3 hstep ⊢)
        have bnd : ∀ b : Nat → Int32, za_rg e b → zb_sm (fun j => (b j).toNatClampNeg) e ≤ 2048 * e := fun b hb => zb_sm_bd (fun j hj => by have := zb_lt (hb j (by omega)); (try dsimp only); omega)
        rcases h3 with ⟨z, h3⟩ | z
        · exact br_t z (hp _ _ ⟨h1, hla, h3⟩)
        · subst z
          refine br_f (by decide) (nm_e (za_inner he hv ht h1 h2 (fun x1 c21 g1 g2 g3 => hstep (x1, c21) ⟨g1, g2, ?_⟩ ?_)))
          · exact g3.imp (fun y => ⟨y.1, y.2.2⟩) (fun y => y.1)
          · (try dsimp only)
            have b1 := bnd b21 h1
            have b2 := bnd c21 g1
            rcases g3 with y | y
            · rw [if_pos y.1, if_neg (by decide)]; omega
            · rw [if_neg (show ¬ x1 = 0 by rw [y.1]; decide), if_neg (by decide)]
              have := y.2
              omega
      · (try dsimp only at g)
        rw [h0 j (by omega)] at g
        exact absurd g (zb_i0 (zb_mono hv (by omega)))
    · intro m i s hi hs hm
      refine pk_lt e i (fun g => absurd g (by omega)) (fun _ => ⟨zb_in (by omega), nm_r (e' := upd s i 0) (by rw [zb_cl (N := 241) (by omega)]) (nm_r (nI_1 i) (hm _ (fun j hj => ?_)))⟩)
      by_cases y : j = i
      · rw [y, pk_us]
      · rw [pk_un y]; exact hs j (by omega)
  · intro m i s hi hs hm
    have v := zb_in (n := i) (N := 240) (by omega)
    have c := zb_cl (n := i) (N := 240) (by omega)
    refine pk_le e i (fun g => absurd g (by omega)) (fun _ => ⟨v, br_c (fun z => ?_) (fun z => nm_r (nI_1 i) (hm _ (fun j hj g => ?_)))⟩)
    · (try rw [c] at z)
      have k40 : ∀ j, j < e → a7 j = 19 → vp_in (a11 j) 40 := fun j hj y => by
        have := hsh j hj
        rw [y] at this
        rcases this with t | t | t | t | t | t | t | t | t | t | t
        · exact absurd t (by decide)
        · exact absurd t.1 (by decide)
        · exact absurd t.1 (by decide)
        · exact absurd t.1 (by decide)
        · exact absurd t.1 (by decide)
        · exact absurd t.1 (by decide)
        · exact absurd t.1 (by decide)
        · exact absurd t.1 (by decide)
        · exact t.2.2.2.2
        · exact absurd t.1 (by decide)
        · exact absurd t.1 (by decide)
      refine ⟨v, by (try rw [c]); exact k40 i hi z, nm_r (e' := upd s (a11 i).toNatClampNeg (nI i)) (by (try rw [c]); rw [zb_s (zb_in (by omega))]) (nm_r (nI_1 i) (hm _ (fun j hj g => ?_)))⟩
      by_cases y : j = i
      · rw [y, pk_us]
      · rw [pk_un (fun t => y (hld j i (by omega) hi g z (zb_inj (k40 j (by omega) g) (k40 i hi z) t)))]
        exact hs j (by omega) g
    · (try rw [c] at z)
      by_cases y : j = i
      · rw [y] at g; exact absurd g z
      · exact hs j (by omega) g
end
end
section
/-! what is dead goes; steps are joined -/
/-- alive ahead of entry i, or 'a step was counted' -/
def za_Lv (al : Nat → Int32) (i : Nat) (v : Int32) : Prop := v = -1 ∨ (vp_in v 11 ∧ zb_i (al i) v)
/-- what holds at a label and is alive there -/
def za_G (G : Int32 → Int32 → Prop) (la al : Nat → Int32) (l v : Int32) : Prop := G l v ∧ zb_i (al (la l.toNatClampNeg).toNatClampNeg) v
theorem za_use {e : Nat} {o m f s k la al : Nat → Int32} (h : za_LV e o m f s k la al) {i : Nat} (hi : i < e) (hf : vp_in (f i) 11) : zb_i (al i) (f i) := (h.2.2 i hi _ hf).mpr (Or.inr (Or.inl rfl))
theorem za_flow {e : Nat} {o m f s k la al : Nat → Int32} (h : za_LV e o m f s k la al) {i : Nat} (hi : i < e) (h18 : o i ≠ 18) (h22 : o i ≠ 22) {v : Int32} (hv : vp_in v 11) (g : zb_i (al (i + 1)) v) : zb_i (al i) v ∨ (v = m i ∧ o i ≠ 15) := by
  rw [h.2.2 i hi v hv]
  by_cases z : o i = 15
  · exact Or.inl (Or.inl (Or.inl ⟨z, Or.inl (Or.inl ⟨h18, h22, g⟩)⟩))
  · by_cases y : v = m i
    · exact Or.inr ⟨y, z⟩
    · exact Or.inl (Or.inl (Or.inr ⟨z, Or.inl ⟨h18, h22, g⟩, y⟩))
theorem za_jump {e : Nat} {o m f s k la al : Nat → Int32} (h : za_LV e o m f s k la al) {i : Nat} (hi : i < e) (hj : o i = 16 ∨ o i = 17 ∨ o i = 18) (hm : m i = -1) {v : Int32} (hv : vp_in v 11) (g : zb_i (al (la (k i).toNatClampNeg).toNatClampNeg) v) : zb_i (al i) v := by
  rw [h.2.2 i hi v hv]
  refine Or.inl (Or.inr ⟨fun z => ?_, Or.inr ⟨hj, g⟩, fun z => absurd (z.trans hm) (zb_ne1 hv)⟩)
  rw [z] at hj; exact absurd hj (by decide)
/-- an entry that stays -/
theorem za_sim {e : Nat} {G : Int32 → Int32 → Prop} {o m f s k la al : Nat → Int32} (hG : ∀ l v, G l v → vp_in v 11) (h : za_LV e o m f s k la al) (he : e ≤ 240) {i : Nat} (hi : i < e) (h0 : o i ≠ 0) (hsh : zt_sh (o i) (m i) (f i) (s i) (k i)) {T T' : Int32 → Prop} (hck : zt_ck G (o i) (f i) (k i) T)
    (hT : ∀ v, za_Lv al i v → T v → T' v) : zt_ck (za_G G la al) (o i) (f i) (k i) T' ∧ ∀ v, za_Lv al (i + 1) v → zt_tr G (o i) (m i) (f i) (k i) T v → zt_tr (za_G G la al) (o i) (m i) (f i) (k i) T' v := by
  have arm : T (-1) → T' (-1) := hT _ (Or.inl rfl)
  have flow : o i ≠ 18 → o i ≠ 22 → ∀ v, za_Lv al (i + 1) v → (v ≠ m i ∨ o i = 15) → T v → T' v := fun n1 n2 v hv hm g => by
    rcases hv with hv | ⟨hv, hb⟩
    · rw [hv] at g ⊢; exact arm g
    · rcases za_flow h hi n1 n2 hv hb with y | y
      · exact hT v (Or.inr ⟨hv, y⟩) g
      · exact hm.elim (fun z => absurd y.1 z) (fun z => absurd z y.2)
  have jmp : (o i = 16 ∨ o i = 17 ∨ o i = 18) → m i = -1 → ∀ v, za_G G la al (k i) v → T' v := fun hj hm v g => by
    have hv := hG _ v g.1
    refine hT v (Or.inr ⟨hv, za_jump h hi hj hm hv g.2⟩) (hck.2.1 ?_ v g.1)
    exact hj.imp id (fun z => z.imp id Or.inl)
  have plain : (¬ o i < 1 ∧ ¬ 14 < o i) → (o i = 2 → vp_in (f i) 11) → ∀ v, za_Lv al (i + 1) v → zt_tr G (o i) (m i) (f i) (k i) T v → zt_tr (za_G G la al) (o i) (m i) (f i) (k i) T' v := fun hp hf v hv g => by
    rw [zt_tr_p _ _ _ _ _ v hp] at g ⊢
    rcases g with ⟨g1, g2⟩ | ⟨g1, g2⟩
    · refine Or.inl ⟨g1, g2.imp id (fun z => ⟨z.1, hT _ (Or.inr ⟨hf z.1, za_use h hi (hf z.1)⟩) z.2⟩)⟩
    · exact Or.inr ⟨g1, flow (zt_pne hp (by decide)) (zt_pne hp (by decide)) v hv (Or.inl g1) g2⟩
  have nock : (¬ 13 < o i) → zt_ck (za_G G la al) (o i) (f i) (k i) T' := fun z => zt_ck_n (Or.inl z)
  rcases hsh with t | ⟨t, t1, t2, t3⟩ | ⟨t, t1, t2, t3⟩ | ⟨t, t1, t2, t3⟩ | ⟨t, t1, t2, t3⟩ | ⟨t, t1, t2, t3⟩ | ⟨t, t1, t2, t3, t4⟩ | ⟨t, t1, t2, t3, t4⟩ | ⟨t, t1, t2, t3, t4⟩ | ⟨t, t1, t2, t3, t4, t5⟩ | ⟨t, t1, t2, t3⟩
  · exact absurd t h0
  · exact ⟨nock (by rw [t]; decide), plain (by rw [t]; decide) (fun z => by rw [t] at z; exact absurd z (by decide))⟩
  · exact ⟨nock (by rcases t with t | t <;> rw [t] <;> decide), plain (by rcases t with t | t <;> rw [t] <;> decide) (fun _ => t2)⟩
  · exact ⟨nock (fun z => t.2 (Int32.lt_trans (by decide) z)), plain ⟨fun z => t.1 (Int32.lt_trans z (by decide)), fun z => t.2 (Int32.lt_trans (by decide) z)⟩ (fun _ => t2)⟩
  · refine ⟨⟨fun _ => hT _ (Or.inr ⟨t2, za_use h hi t2⟩) (hck.1 (Or.inl t)), fun z => ?_, fun z => ?_⟩, plain (by rw [t]; decide) (fun _ => t2)⟩
    · rw [t] at z; exact absurd z (by decide)
    · rw [t] at z; exact absurd z (by decide)
  · refine ⟨⟨fun _ => hT _ (Or.inr ⟨t2, za_use h hi t2⟩) (hck.1 (Or.inr t)), fun z => ?_, fun z => ?_⟩, fun v hv g => ?_⟩
    · rw [t] at z; exact absurd z (by decide)
    · rw [t] at z; exact absurd z (by decide)
    · rw [zt_tr_k _ _ _ _ _ v (Or.inr t)] at g ⊢
      exact flow (by rw [t]; decide) (by rw [t]; decide) v hv (Or.inr t) g
  · have n18 : o i ≠ 18 := by rcases t with t | t <;> rw [t] <;> decide
    have n22 : o i ≠ 22 := by rcases t with t | t <;> rw [t] <;> decide
    refine ⟨⟨fun z => ?_, fun _ => jmp (t.imp id Or.inl) t1, fun _ => arm (hck.2.2 (t.imp id Or.inl))⟩, fun v hv g => ?_⟩
    · rcases t with t | t <;> rw [t] at z <;> exact absurd z (by decide)
    · rw [zt_tr_s _ _ _ _ _ v (t.imp id Or.inl)] at g ⊢
      refine ⟨g.1, ?_⟩
      rcases hv with hv | hv
      · exact absurd hv g.1
      · exact flow n18 n22 v (Or.inr hv) (Or.inl (fun z => absurd (z.trans t1) g.1)) g.2
  · refine ⟨⟨fun z => ?_, fun _ => jmp (Or.inr (Or.inr t)) t1, fun _ => arm (hck.2.2 (Or.inr (Or.inr (Or.inl t))))⟩, fun v _ _ => zt_tr_e _ _ _ _ _ v (Or.inl t)⟩
    rw [t] at z; exact absurd z (by decide)
  · have hla : la (k i).toNatClampNeg = nI i := h.2.1 i hi t
    have hcl : (nI i).toNatClampNeg = i := zb_cl (N := 240) (by omega)
    have hlab : ∀ v, za_G G la al (k i) v ↔ G (k i) v ∧ zb_i (al i) v := fun v => by
      unfold za_G
      rw [hla, hcl]
    refine ⟨⟨fun z => ?_, fun _ v g => ?_, fun z => ?_⟩, fun v hv g => ?_⟩
    · rw [t] at z; exact absurd z (by decide)
    · have g' := (hlab v).mp g
      exact hT v (Or.inr ⟨hG _ v g'.1, g'.2⟩) (hck.2.1 (Or.inr (Or.inr (Or.inr t))) v g'.1)
    · rw [t] at z; exact absurd z (by decide)
    · have n18 : o i ≠ 18 := by rw [t]; decide
      have n22 : o i ≠ 22 := by rw [t]; decide
      rw [t] at g ⊢
      have g1 : G (k i) v := g
      have hv11 := hG _ v g1
      refine (hlab v).mpr ⟨g1, ?_⟩
      rcases hv with hv | ⟨_, hb⟩
      · exact absurd hv (zb_ne1 hv11)
      · rcases za_flow h hi n18 n22 hv11 hb with y | y
        · exact y
        · exact absurd (y.1.trans t1) (zb_ne1 hv11)
  · refine ⟨zt_ck_n (Or.inr t), fun v hv g => ?_⟩
    rw [t] at g ⊢
    rw [zt_tr_t] at g ⊢
    by_cases z : v = -1
    · exact Or.inl z
    · exact Or.inr (flow (by rw [t]; decide) (by rw [t]; decide) v hv (Or.inl (fun y => z (y.trans t1))) (g.elim (fun y => absurd y z) id))
  · refine ⟨⟨fun z => ?_, fun z => ?_, fun _ => arm (hck.2.2 (Or.inr (Or.inr (Or.inr t))))⟩, fun v hv g => ?_⟩
    · rcases t with t | t <;> rw [t] at z <;> exact absurd z (by decide)
    · rcases t with t | t <;> rw [t] at z <;> exact absurd z (by decide)
    · rcases t with t | t
      · rw [zt_tr_s _ _ _ _ _ v (Or.inr (Or.inr t))] at g ⊢
        refine ⟨g.1, ?_⟩
        exact flow (by rw [t]; decide) (by rw [t]; decide) v hv (Or.inl (fun z => absurd (z.trans t1) g.1)) g.2
      · exact zt_tr_e _ _ _ _ _ v (Or.inr t)
section
variable {le ck va dn sn ln wc tr tf li tk tc lv ce sc gi pc : Int32} {iw : Int64} {a1 a2 a3 a4 a5 a6 a7 a8 a9 a10 a11 a12 a13 a14 a15 a16 a17 a18 a19 a20 a21 a22 a23 a24 a25 a26 a27 a28 a29 a30 : Nat → Int32}
theorem zd_plain {post : Int32 → Prop} {p : Int32} (h0 : ¬ (¬ p < 1 ∧ ¬ 14 < p) → post 0) (h1 : (¬ p < 1 ∧ ¬ 14 < p) → post 1) : wpX_isPlain post (le, ck, va, dn, sn, ln, wc, iw, tr, tf, li, tk, tc, lv, ce, sc, gi, pc, a1, a2, a3, a4, a5, a6, a7, a8, a9, a10, a11, a12, a13, a14, a15, a16, a17, a18, a19, a20, a21, a22, a23, a24, a25, a26, a27, a28, a29, a30) p := by
  refine br_c (fun z => h1 (by rw [z]; decide)) (fun n1 => br_c (fun z => h1 (by rw [z]; decide)) (fun n2 => br_c (fun z => h0 (fun g => ?_)) (fun z => br_c (fun z2 => h0 (fun g => g.2 z2)) (fun z2 => h1 ⟨fun y => z (Int32.lt_trans y (by decide)), z2⟩))))
  have z' := Int32.lt_iff_toInt_lt.mp z
  have g' : ¬ p.toInt < 1 := fun y => g.1 (Int32.lt_iff_toInt_lt.mpr y)
  have e3 : (3 : Int32).toInt = 3 := by decide
  have c : p.toInt = 1 ∨ p.toInt = 2 := by omega
  rcases c with c | c
  · exact n1 (Int32.toInt_inj.mp c)
  · exact n2 (Int32.toInt_inj.mp c)
theorem zd_dead {post : St1 → Prop} {e : Nat} (hL : zt_L e a7 a8 a9 a10 a11) (hN : zt_N e a7) (hLV : za_LV e a7 a8 a9 a10 a11 a12 a21) (hp : ∀ a7, zt_L e a7 a8 a9 a10 a11 → post (le, ck, va, dn, sn, ln, wc, iw, tr, tf, nI e, tk, tc, lv, ce, sc, gi, pc, a1, a2, a3, a4, a5, a6, a7, a8, a9, a10, a11, a12, a13, a14, a15, a16, a17, a18, a19, a20, a21, a22, a23, a24, a25, a26, a27, a28, a29, a30)) : wpX_dropDead post (le, ck, va, dn, sn, ln, wc, iw, tr, tf, nI e, tk, tc, lv, ce, sc, gi, pc, a1, a2, a3, a4, a5, a6, a7, a8, a9, a10, a11, a12, a13, a14, a15, a16, a17, a18, a19, a20, a21, a22, a23, a24, a25, a26, a27, a28, a29, a30) := by
  have hL' := hL
  have htg0 := za_tgL hL hLV.2.1
  obtain ⟨he, hsh, hld, htg, hws, G, hG, hck, hend⟩ := hL
  refine pk_loop (fun m i s => wX_dropDead_2 post le ck va dn sn ln wc iw tr tf (nI e) tk tc lv ce sc gi pc m (nI i) a1 a2 a3 a4 a5 a6 s a8 a9 a10 a11 a12 a13 a14 a15 a16 a17 a18 a19 a20 a21 a22 a23 a24 a25 a26 a27 a28 a29 a30)
    (fun i o => (∀ j, i ≤ j → o j = a7 j) ∧ (∀ j, j < i → o j = a7 j ∨ (o j = 0 ∧ (¬ a7 j < 1 ∧ ¬ 14 < a7 j))) ∧ (∀ j, j < i → zt_ck (za_G G a12 a21) (o j) (a9 j) (a11 j) (zt_T (za_G G a12 a21) o a8 a9 a11 j)) ∧
      ∀ v, za_Lv a21 i v → zt_T G a7 a8 a9 a11 i v → zt_T (za_G G a12 a21) o a8 a9 a11 i v) e 0 a7 (by omega) ?_ ?_ ?_
  · exact ⟨fun _ _ => rfl, fun j hj => absurd hj (by omega), fun j hj => absurd hj (by omega), fun v _ g => g⟩
  · intro m o ⟨h1, h2, h3, h4⟩
    refine pk_le e e (fun _ => hp _ ?_) (fun g => absurd g (by omega))
    have hlab : ∀ j, j < e → (a7 j = 16 ∨ a7 j = 17 ∨ a7 j = 18 ∨ a7 j = 19) → o j = a7 j := fun j hj z => by
      rcases h2 j hj with y | ⟨_, y⟩
      · exact y
      · rcases z with z | z | z | z <;> rw [z] at y <;> exact absurd y (by decide)
    refine zd_L hL' (fun j hj => (h2 j hj).imp id (fun y => y.1)) (fun i hi z => ?_) ⟨za_G G a12 a21, fun l v g => hG l v g.1, h3, h4 _ (Or.inl rfl) hend⟩
    have z' : a7 i = 16 ∨ a7 i = 17 ∨ a7 i = 18 := by
      rcases h2 i hi with y | ⟨y, _⟩
      · rw [← y]; exact z
      · rw [y] at z; exact absurd z (by decide)
    obtain ⟨j, j1, j2, j3⟩ := htg i hi z'
    exact ⟨j, j1, (hlab j j1 (Or.inr (Or.inr (Or.inr j2)))).trans j2, j3⟩
  · intro m i o hi ⟨h1, h2, h3, h4⟩ hstep
    have v := zb_in (n := i) (N := 240) (by omega)
    have c := zb_cl (n := i) (N := 240) (by omega)
    have hoi := h1 i (Nat.le_refl _)
    obtain ⟨s1, s2⟩ := za_sim hG hLV he hi (hN i hi) (hsh i hi) (hck i hi) h4
    have keep : ∀ x, x = nI i + 1 → wX_dropDead_2 post le ck va dn sn ln wc iw tr tf (nI e) tk tc lv ce sc gi pc m x a1 a2 a3 a4 a5 a6 o a8 a9 a10 a11 a12 a13 a14 a15 a16 a17 a18 a19 a20 a21 a22 a23 a24 a25 a26 a27 a28 a29 a30 := nm_r (nI_1 i) (hstep o ⟨fun j hj => h1 j (by omega), fun j hj => by
        by_cases z : j = i
        · rw [z]; exact Or.inl hoi
        · exact h2 j (by omega), fun j hj => by
        by_cases z : j = i
        · rw [z, hoi]; exact s1
        · exact h3 j (by omega), fun v hv g => by
        show zt_tr _ (o i) (a8 i) (a9 i) (a11 i) _ v
        rw [hoi]; exact s2 v hv g⟩)
    have gone : (¬ a7 i < 1 ∧ ¬ 14 < a7 i) → (∀ v, za_Lv a21 (i + 1) v → zt_tr G (a7 i) (a8 i) (a9 i) (a11 i) (zt_T G a7 a8 a9 a11 i) v → zt_T (za_G G a12 a21) o a8 a9 a11 i v) → ∀ x, x = nI i + 1 → wX_dropDead_2 post le ck va dn sn ln wc iw tr tf (nI e) tk tc lv ce sc gi pc m x a1 a2 a3 a4 a5 a6 (upd o i 0) a8 a9 a10 a11 a12 a13 a14 a15 a16 a17 a18 a19 a20 a21 a22 a23 a24 a25 a26 a27 a28 a29 a30 := fun hpl hv => nm_r (nI_1 i) (hstep (upd o i 0) (by
      have hT : ∀ j, j ≤ i → zt_T (za_G G a12 a21) (upd o i 0) a8 a9 a11 j = zt_T (za_G G a12 a21) o a8 a9 a11 j := fun j hj => zt_T_congr (fun q hq => ⟨pk_un (by omega), rfl, rfl, rfl⟩)
      refine ⟨fun j hj => by rw [pk_un (by omega)]; exact h1 j (by omega), fun j hj => ?_, fun j hj => ?_, fun v hv1 g => ?_⟩
      · by_cases z : j = i
        · rw [z, pk_us]; exact Or.inr ⟨rfl, hpl⟩
        · rw [pk_un z]; exact h2 j (by omega)
      · by_cases z : j = i
        · rw [z, pk_us]; exact zt_ck_n (by decide)
        · rw [pk_un z, hT j (by omega)]; exact h3 j (by omega)
      · show zt_tr _ (upd o i 0 i) (a8 i) (a9 i) (a11 i) _ v
        rw [pk_us, zt_tr_k _ _ _ _ _ v (Or.inl rfl), hT i (Nat.le_refl _)]
        exact hv v hv1 g))
    refine pk_le e i (fun g => absurd g (by omega)) (fun _ => ⟨v, ?_⟩)
    (try rw [c])
    refine zd_plain (fun _ => br_t rfl keep) (fun hpl => br_f (by decide) ?_)
    rw [hoi] at hpl
    have htg1 : za_tg e o a11 a12 := fun j hj z => by
      have z' : a7 j = 16 ∨ a7 j = 17 ∨ a7 j = 18 := by
        rcases Nat.lt_or_ge j i with y | y
        · rcases h2 j y with y | ⟨y, _⟩
          · rw [← y]; exact z
          · rw [y] at z; exact absurd z (by decide)
        · rw [← h1 j y]; exact z
      obtain ⟨t1, q, t2, t3, t4, t5⟩ := htg0 j hj z'
      refine ⟨t1, q, t2, t3, ?_, t5⟩
      rcases Nat.lt_or_ge q i with y | y
      · rcases h2 q y with y | ⟨_, y⟩
        · exact y.trans t4
        · rw [t4] at y; exact absurd y (by decide)
      · exact (h1 q y).trans t4
    have hm : vp_in (a8 i) 11 := by
      rcases hsh i hi with t | t | t | t | t | t | t | t | t | t | t
      · exact absurd t (hN i hi)
      · exact t.2.1
      · exact t.2.1
      · exact t.2.1
      · exact t.2.1
      · exact t.2.1
      · rcases t.1 with y | y <;> rw [y] at hpl <;> exact absurd hpl (by decide)
      · rw [t.1] at hpl; exact absurd hpl (by decide)
      · rw [t.1] at hpl; exact absurd hpl (by decide)
      · rw [t.1] at hpl; exact absurd hpl (by decide)
      · rcases t.1 with y | y <;> rw [y] at hpl <;> exact absurd hpl (by decide)
    have n18 : a7 i ≠ 18 := zt_pne hpl (by decide)
    have n22 : a7 i ≠ 22 := zt_pne hpl (by decide)
    have gen : ∀ v, za_Lv a21 (i + 1) v → v ≠ a8 i → zt_T G a7 a8 a9 a11 i v → zt_T (za_G G a12 a21) o a8 a9 a11 i v := fun v hv hne g => by
      refine h4 v ?_ g
      rcases hv with hv | ⟨hv, hb⟩
      · exact Or.inl hv
      · rcases za_flow hLV hi n18 n22 hv hb with y | y
        · exact Or.inr ⟨hv, y⟩
        · exact absurd y.1 hne
    refine za_after he hi hLV.1 htg1 (fun r hr hb => ⟨v, ?_⟩)
    (try rw [c])
    have hb8 : zb_i r (a8 i) ↔ zb_i (a21 (i + 1)) (a8 i) := by
      rw [hb _ hm]
      unfold za_A
      rw [hoi]
      constructor
      · rintro (y | ⟨y, _⟩)
        · exact y.2.2
        · rcases y with y | y | y <;> exact absurd y (zt_pne hpl (by decide))
      · exact fun y => Or.inl ⟨n18, n22, y⟩
    refine br_c (fun z => br_t rfl ⟨v, nm_r (e' := upd o i 0) (by first | rw [c] | rfl) (gone hpl (fun w hw g => ?_))⟩) (fun z => br_f (by decide) ⟨v, ?_⟩)
    · have hz : ¬ zb_i r (a8 i) := fun y => y z
      rw [hb8] at hz
      rw [zt_tr_p _ _ _ _ _ w hpl] at g
      rcases g with ⟨g1, _⟩ | ⟨g1, g2⟩
      · rcases hw with hw | ⟨_, hw⟩
        · exact absurd (hw.symm.trans g1) (fun y => zb_ne1 hm y.symm)
        · rw [g1] at hw; exact absurd hw hz
      · exact gen w hw g1 g2
    · rw [c, hoi]
      refine br_c (fun t => ⟨v, v, ?_⟩) (fun _ => keep)
      refine br_c (fun y => ⟨v, nm_r (e' := upd o i 0) (by first | rw [c] | rfl) (gone hpl (fun w hw g => ?_))⟩) (fun _ => keep)
      (try rw [c] at y)
      rw [zt_tr_p _ _ _ _ _ w hpl] at g
      rcases g with ⟨g1, g2⟩ | ⟨g1, g2⟩
      · rcases g2 with g2 | g2
        · rw [t] at g2; exact absurd g2.1 (by decide)
        · rw [g1]
          have hm' := hm
          rw [y] at hm' ⊢
          exact h4 _ (Or.inr ⟨hm', za_use hLV hi hm'⟩) g2.2
      · exact gen w hw g1 g2
end
end
section
/-! steps are joined; the rounds of improving -/
/-- the same but for the steps -/
def zj_eq (T T' : Int32 → Prop) : Prop := ∀ v, v ≠ -1 → (T v ↔ T' v)
theorem zj_tr {G : Int32 → Int32 → Prop} {o m f k : Int32} {T T' : Int32 → Prop} (h : zj_eq T T') (ho : (¬ o < 1 ∧ ¬ 14 < o) ∨ o = 0) (hf : o = 2 → f ≠ -1) : zj_eq (zt_tr G o m f k T) (zt_tr G o m f k T') := fun v hv => by
  rcases ho with ho | ho
  · rw [zt_tr_p _ _ _ _ _ v ho, zt_tr_p _ _ _ _ _ v ho]
    refine or_congr (and_congr Iff.rfl (or_congr Iff.rfl ?_)) (and_congr Iff.rfl (h v hv))
    exact ⟨fun g => ⟨g.1, (h f (hf g.1)).mp g.2⟩, fun g => ⟨g.1, (h f (hf g.1)).mpr g.2⟩⟩
  · rw [zt_tr_k _ _ _ _ _ v (Or.inl ho), zt_tr_k _ _ _ _ _ v (Or.inl ho)]
    exact h v hv
/-- the tick at p goes into the one at i -/
theorem zj_merge {G : Int32 → Int32 → Prop} {i p : Nat} {o m f s k : Nat → Int32} {x : Int32} (hpi : p < i) (hp : o p = 20) (hi : o i = 20) (hbet : ∀ j, p < j → j < i → ((¬ o j < 1 ∧ ¬ 14 < o j) ∨ o j = 0) ∧ ((¬ o j < 1 ∧ ¬ 14 < o j) → o j = 2 ∨ o j = 14 → vp_in (f j) 11))
    (hck : ∀ j, j < i → zt_ck G (o j) (f j) (k j) (zt_T G o m f k j)) :
    (∀ j, j < i + 1 → zt_ck G (upd o p 0 j) (f j) (upd k i x j) (zt_T G (upd o p 0) m f (upd k i x) j)) ∧ (∀ v, zt_T G (upd o p 0) m f (upd k i x) (i + 1) v ↔ zt_T G o m f k (i + 1) v) := by
  have lo : ∀ j, j ≤ p → zt_T G (upd o p 0) m f (upd k i x) j = zt_T G o m f k j := fun j hj => zt_T_congr (fun q hq => ⟨pk_un (by omega), rfl, rfl, pk_un (by omega)⟩)
  have mid : ∀ d, p + 1 + d ≤ i → zj_eq (zt_T G (upd o p 0) m f (upd k i x) (p + 1 + d)) (zt_T G o m f k (p + 1 + d)) := by
    intro d
    induction d with
    | zero =>
      intro _ v hv
      show zt_tr G (upd o p 0 p) (m p) (f p) (upd k i x p) (zt_T G (upd o p 0) m f (upd k i x) p) v ↔ zt_tr G (o p) (m p) (f p) (k p) (zt_T G o m f k p) v
      rw [pk_us, zt_tr_k _ _ _ _ _ v (Or.inl rfl), lo p (Nat.le_refl _), hp, zt_tr_t]
      exact ⟨Or.inr, fun g => g.elim (fun g => absurd g hv) id⟩
    | succ d ih =>
      intro hd
      have ih := ih (by omega)
      have b := hbet (p + 1 + d) (by omega) (by omega)
      have e1 : upd o p 0 (p + 1 + d) = o (p + 1 + d) := pk_un (by omega)
      have e2 : upd k i x (p + 1 + d) = k (p + 1 + d) := pk_un (by omega)
      show zj_eq (zt_tr G (upd o p 0 (p + 1 + d)) (m (p + 1 + d)) (f (p + 1 + d)) (upd k i x (p + 1 + d)) (zt_T G (upd o p 0) m f (upd k i x) (p + 1 + d))) (zt_tr G (o (p + 1 + d)) (m (p + 1 + d)) (f (p + 1 + d)) (k (p + 1 + d)) (zt_T G o m f k (p + 1 + d)))
      rw [e1, e2]
      refine zj_tr ih b.1 (fun z => ?_)
      rcases b.1 with y | y
      · exact zb_ne1 (b.2 y (Or.inl z))
      · rw [y] at z; exact absurd z (by decide)
  have hmid : ∀ j, p < j → j ≤ i → zj_eq (zt_T G (upd o p 0) m f (upd k i x) j) (zt_T G o m f k j) := fun j h1 h2 => by
    have := mid (j - p - 1) (by omega)
    rwa [show p + 1 + (j - p - 1) = j by omega] at this
  refine ⟨fun j hj => ?_, fun v => ?_⟩
  · rcases Nat.lt_trichotomy j p with z | z | z
    · rw [pk_un (by omega), pk_un (by omega), lo j (by omega)]; exact hck j (by omega)
    · rw [z, pk_us]; exact zt_ck_n (by decide)
    · rw [pk_un (by omega)]
      by_cases y : j = i
      · rw [y, hi]; exact zt_ck_n (Or.inr rfl)
      · have b := hbet j z (by omega)
        rcases b.1 with t | t
        · by_cases u : o j = 14
          · refine ⟨fun _ => ?_, fun w => ?_, fun w => ?_⟩
            · have hf := b.2 t (Or.inr u)
              exact (hmid j z (by omega) _ (zb_ne1 hf)).mpr ((hck j (by omega)).1 (Or.inl u))
            · rw [u] at w; exact absurd w (by decide)
            · rw [u] at w; exact absurd w (by decide)
          · refine zt_ck_n (Or.inl (fun w => u ?_))
            have w' := Int32.lt_iff_toInt_lt.mp w
            have t' : ¬ (14 : Int) < (o j).toInt := fun y => t.2 (Int32.lt_iff_toInt_lt.mpr y)
            have e13 : (13 : Int32).toInt = 13 := by decide
            exact Int32.toInt_inj.mp (show (o j).toInt = 14 by omega)
        · exact zt_ck_n (by rw [t]; decide)
  · show zt_tr G (upd o p 0 i) (m i) (f i) (upd k i x i) (zt_T G (upd o p 0) m f (upd k i x) i) v ↔ zt_tr G (o i) (m i) (f i) (k i) (zt_T G o m f k i) v
    rw [pk_un (by omega), hi, zt_tr_t, zt_tr_t]
    by_cases z : v = -1
    · exact ⟨fun _ => Or.inl z, fun _ => Or.inl z⟩
    · exact or_congr Iff.rfl (hmid i hpi (Nat.le_refl _) v z)
/-- the state of the pass -/
def zj_J (G : Int32 → Int32 → Prop) (e : Nat) (O M F S K : Nat → Int32) (i : Nat) (x : Int32) (o k : Nat → Int32) : Prop :=
  (∀ j, i ≤ j → o j = O j ∧ k j = K j) ∧ (∀ j, j < e → zt_sh (o j) (M j) (F j) (S j) (k j)) ∧ (∀ j, j < e → (o j = O j ∨ (o j = 0 ∧ O j = 20)) ∧ (O j ≠ 20 → k j = K j)) ∧
  zt_ws o k e ≤ 700 ∧ (∀ j, j < i → zt_ck G (o j) (F j) (k j) (zt_T G o M F k j)) ∧ (∀ v, zt_T G o M F k i v ↔ zt_T G O M F K i v) ∧
  (x = -1 ∨ ∃ p, p < i ∧ x = nI p ∧ o p = 20 ∧ ∀ j, p < j → j < i → (¬ o j < 1 ∧ ¬ 14 < o j) ∨ o j = 0)
theorem zj_next {G : Int32 → Int32 → Prop} {e : Nat} {O M F S K : Nat → Int32} {i : Nat} {x x' : Int32} {o k : Nat → Int32} (h : zj_J G e O M F S K i x o k) (hck : zt_ck G (O i) (F i) (K i) (zt_T G O M F K i))
    (hx : x' = -1 ∨ ∃ p, p < i + 1 ∧ x' = nI p ∧ o p = 20 ∧ ∀ j, p < j → j < i + 1 → (¬ o j < 1 ∧ ¬ 14 < o j) ∨ o j = 0) : zj_J G e O M F S K (i + 1) x' o k := by
  obtain ⟨h1, h2, h3, h4, h5, h6, h7⟩ := h
  obtain ⟨o1, o2⟩ := h1 i (Nat.le_refl _)
  refine ⟨fun j hj => h1 j (by omega), h2, h3, h4, fun j hj => ?_, fun v => ?_, hx⟩
  · by_cases z : j = i
    · rw [z, o1, o2]; exact zt_ck_mono (fun v g => (h6 v).mpr g) hck
    · exact h5 j (by omega)
  · show zt_tr G (o i) (M i) (F i) (k i) (zt_T G o M F k i) v ↔ zt_tr G (O i) (M i) (F i) (K i) (zt_T G O M F K i) v
    rw [o1, o2]
    exact ⟨zt_tr_mono (fun v g => (h6 v).mp g) v, zt_tr_mono (fun v g => (h6 v).mpr g) v⟩
section
variable {le ck va dn sn ln wc tr tf li tk tc lv ce sc gi pc : Int32} {iw : Int64} {a1 a2 a3 a4 a5 a6 a7 a8 a9 a10 a11 a12 a13 a14 a15 a16 a17 a18 a19 a20 a21 a22 a23 a24 a25 a26 a27 a28 a29 a30 : Nat → Int32}
theorem zj_join {post : St1 → Prop} {e : Nat} (hL : zt_L e a7 a8 a9 a10 a11) (hp : ∀ a7 a11, zt_L e a7 a8 a9 a10 a11 → post (le, ck, va, dn, sn, ln, wc, iw, tr, tf, nI e, tk, tc, lv, ce, sc, gi, pc, a1, a2, a3, a4, a5, a6, a7, a8, a9, a10, a11, a12, a13, a14, a15, a16, a17, a18, a19, a20, a21, a22, a23, a24, a25, a26, a27, a28, a29, a30)) : wpX_joinTicks post (le, ck, va, dn, sn, ln, wc, iw, tr, tf, nI e, tk, tc, lv, ce, sc, gi, pc, a1, a2, a3, a4, a5, a6, a7, a8, a9, a10, a11, a12, a13, a14, a15, a16, a17, a18, a19, a20, a21, a22, a23, a24, a25, a26, a27, a28, a29, a30) := by
  obtain ⟨he, hsh, hld, htg, hws, G, hG, hck, hend⟩ := hL
  refine pk_loop (fun m i s => wX_joinTicks_4 post le ck va dn sn ln wc iw tr tf (nI e) tk tc lv ce sc gi pc m s.1 (nI i) a1 a2 a3 a4 a5 a6 s.2.1 a8 a9 a10 s.2.2 a12 a13 a14 a15 a16 a17 a18 a19 a20 a21 a22 a23 a24 a25 a26 a27 a28 a29 a30) (fun i s => zj_J G e a7 a8 a9 a10 a11 i s.1 s.2.1 s.2.2) e 0 ((-1 : Int32), a7, a11) (by omega) ?_ ?_ ?_
  · exact ⟨fun _ _ => ⟨rfl, rfl⟩, hsh, fun j hj => ⟨Or.inl rfl, fun _ => rfl⟩, hws, fun j hj => absurd hj (by omega), fun v => Iff.rfl, Or.inl rfl⟩
  · rintro m ⟨x, o, k⟩ ⟨h1, h2, h3, h4, h5, h6, h7⟩
    (try dsimp only at h1 h2 h3 h4 h5 h6 h7 ⊢)
    refine pk_le e e (fun _ => hp _ _ ⟨he, h2, fun i j hi hj e1 e2 e3 => ?_, fun i hi g => ?_, h4, G, hG, h5, (h6 _).mpr hend⟩) (fun g => absurd g (by omega))
    · have l : ∀ j, j < e → o j = 19 → a7 j = 19 ∧ k j = a11 j := fun j hj z => by
        have y : o j = a7 j := (h3 j hj).1.elim id (fun y => by rw [y.1] at z; exact absurd z (by decide))
        rw [y] at z
        exact ⟨z, (h3 j hj).2 (by rw [z]; decide)⟩
      obtain ⟨l1, l2⟩ := l i hi e1
      obtain ⟨l3, l4⟩ := l j hj e2
      exact hld i j hi hj l1 l3 (by rw [← l2, ← l4]; exact e3)
    · have y : o i = a7 i := (h3 i hi).1.elim id (fun y => by rw [y.1] at g; exact absurd g (by decide))
      rw [y] at g
      obtain ⟨j, j1, j2, j3⟩ := htg i hi g
      have y2 : o j = a7 j := (h3 j j1).1.elim id (fun y => by rw [y.2] at j2; exact absurd j2 (by decide))
      refine ⟨j, j1, y2.trans j2, ?_⟩
      rw [(h3 j j1).2 (by rw [j2]; decide), j3, (h3 i hi).2 (fun z => by rw [z] at g; exact absurd g (by decide))]
  · rintro m i ⟨x, o, k⟩ hi hJ hstep
    (try dsimp only at hJ hstep ⊢)
    have hJ' := hJ
    obtain ⟨h1, h2, h3, h4, h5, h6, h7⟩ := hJ
    have v := zb_in (n := i) (N := 240) (by omega)
    have c := zb_cl (n := i) (N := 240) (by omega)
    obtain ⟨o1, o2⟩ := h1 i (Nat.le_refl _)
    have next : ∀ (x' : Int32) (o' k' : Nat → Int32), zj_J G e a7 a8 a9 a10 a11 (i + 1) x' o' k' → ∀ y, y = nI i + 1 → wX_joinTicks_4 post le ck va dn sn ln wc iw tr tf (nI e) tk tc lv ce sc gi pc m x' y a1 a2 a3 a4 a5 a6 o' a8 a9 a10 k' a12 a13 a14 a15 a16 a17 a18 a19 a20 a21 a22 a23 a24 a25 a26 a27 a28 a29 a30 := fun x' o' k' g => nm_r (nI_1 i) (hstep (x', o', k') g)
    have skip : ((¬ a7 i < 1 ∧ ¬ 14 < a7 i) ∨ a7 i = 0) → zj_J G e a7 a8 a9 a10 a11 (i + 1) x o k := fun z => zj_next hJ' (hck i hi) (h7.imp id (fun ⟨p, p1, p2, p3, p4⟩ => ⟨p, by omega, p2, p3, fun j j1 j2 => by
      by_cases y : j = i
      · rw [y, o1]; exact z
      · exact p4 j j1 (by omega)⟩))
    refine pk_le e i (fun g => absurd g (by omega)) (fun _ => ⟨v, nm_r (e' := a7 i) (by (try rw [c]); rw [o1]) (br_c (fun t => ?_) (fun nt => ?_))⟩)
    · have own : ∀ o' : Nat → Int32, o' i = 20 → (nI i = -1 ∨ ∃ p, p < i + 1 ∧ nI i = nI p ∧ o' p = 20 ∧ ∀ j, p < j → j < i + 1 → (¬ o' j < 1 ∧ ¬ 14 < o' j) ∨ o' j = 0) := fun o' z => Or.inr ⟨i, by omega, rfl, z, fun j j1 j2 => absurd j2 (by omega)⟩
      rcases h7 with h7 | ⟨p, p1, p2, p3, p4⟩
      · exact br_t (by rw [h7]; decide) (next _ _ _ (zj_next hJ' (hck i hi) (own o (o1.trans t))))
      · subst p2
        have vp := zb_in (n := p) (N := 240) (by omega)
        have cp := zb_cl (n := p) (N := 240) (by omega)
        have tk : ∀ j, j < e → o j = 20 → a8 j = -1 ∧ a9 j = -1 ∧ a10 j = -1 ∧ vp_in (k j) 701 ∧ 0 < (k j).toNatClampNeg := fun j hj z => by
          have := h2 j hj
          rw [z] at this
          rcases this with t | t | t | t | t | t | t | t | t | t | t
          · exact absurd t (by decide)
          · exact absurd t.1 (by decide)
          · exact absurd t.1 (by decide)
          · exact absurd t.1 (by decide)
          · exact absurd t.1 (by decide)
          · exact absurd t.1 (by decide)
          · exact absurd t.1 (by decide)
          · exact absurd t.1 (by decide)
          · exact absurd t.1 (by decide)
          · exact t.2
          · exact absurd t.1 (by decide)
        obtain ⟨q1, q2, q3, q4, q5⟩ := tk p (by omega) p3
        obtain ⟨r1, r2, r3, r4, r5⟩ := tk i hi (o1.trans t)
        have sum : k i + k p = nI ((k i).toNatClampNeg + (k p).toNatClampNeg) := by
          rw [← nI_add, ← zb_nI r4, ← zb_nI q4]
        have l1 := zb_lt q4
        have l2 := zb_lt r4
        have scl : (k i + k p).toNatClampNeg = (k i).toNatClampNeg + (k p).toNatClampNeg := by rw [sum, zb_cl (N := 2000) (by omega)]
        have w20 : ∀ z, zt_wt 20 z = 1 + z.toNatClampNeg := fun z => rfl
        have w0 : ∀ z, zt_wt 0 z = 0 := fun z => rfl
        -- the weight
        have hw1 := zb_sm_set (f := fun j => zt_wt (upd o p 0 j) (k j)) (g := fun j => zt_wt (o j) (k j)) (n := e) (i := p) (fun j hj hne => by (try dsimp only); rw [pk_un hne]) (by omega)
        have hw2 := zb_sm_set (f := fun j => zt_wt (upd o p 0 j) (upd k i (k i + k p) j)) (g := fun j => zt_wt (upd o p 0 j) (k j)) (n := e) (i := i) (fun j hj hne => by (try dsimp only); rw [pk_un hne]) hi
        (try dsimp only at hw1 hw2)
        rw [pk_us, p3, w20, w0] at hw1
        rw [pk_us, pk_un (show i ≠ p by omega), o1.trans t, w20, w20, scl] at hw2
        have hws' : zt_ws (upd o p 0) (upd k i (k i + k p)) e ≤ 700 := by
          unfold zt_ws at h4 ⊢
          omega
        have hle : 1 + ((k i).toNatClampNeg + (k p).toNatClampNeg) ≤ 700 := by
          have := zb_sm_le (f := fun j => if j = i then zt_wt (upd o p 0 j) (upd k i (k i + k p) j) else 0) (g := fun j => zt_wt (upd o p 0 j) (upd k i (k i + k p) j)) (n := e) (fun j _ => by (try dsimp only); split <;> omega)
          have h0 := zb_sm_set (f := fun j => if j = i then zt_wt (upd o p 0 j) (upd k i (k i + k p) j) else 0) (g := fun _ => 0) (n := e) (i := i) (fun j hj hne => by (try dsimp only); rw [if_neg hne]) hi
          (try dsimp only at h0)
          rw [if_pos rfl, pk_us, pk_un (show i ≠ p by omega), o1.trans t, w20, scl] at h0
          unfold zt_ws at hws'
          omega
        have hbet : ∀ j, p < j → j < i → ((¬ o j < 1 ∧ ¬ 14 < o j) ∨ o j = 0) ∧ ((¬ o j < 1 ∧ ¬ 14 < o j) → o j = 2 ∨ o j = 14 → vp_in (a9 j) 11) := fun j j1 j2 => ⟨p4 j j1 j2, fun y1 y2 => by
          have := h2 j (by omega)
          rcases y2 with y2 | y2 <;> rw [y2] at this
          · rcases this with t | t | t | t | t | t | t | t | t | t | t
            · exact absurd t (by decide)
            · exact absurd t.1 (by decide)
            · exact t.2.2.1
            · exact t.2.2.1
            · exact t.2.2.1
            · exact t.2.2.1
            · exact t.2.2.1
            · exact absurd t.1 (by decide)
            · exact absurd t.1 (by decide)
            · exact absurd t.1 (by decide)
            · exact t.2.2.1
          · rcases this with t | t | t | t | t | t | t | t | t | t | t
            · exact absurd t (by decide)
            · exact absurd t.1 (by decide)
            · exact t.2.2.1
            · exact t.2.2.1
            · exact t.2.2.1
            · exact t.2.2.1
            · exact t.2.2.1
            · exact absurd t.1 (by decide)
            · exact absurd t.1 (by decide)
            · exact absurd t.1 (by decide)
            · exact t.2.2.1⟩
        obtain ⟨M1, M2⟩ := zj_merge (s := a10) (x := k i + k p) p1 p3 (o1.trans t) hbet h5
        refine br_f (by exact nI_pos (by omega)) ⟨v, vp, v, nm_r (e' := upd k i (k i + k p)) (by (try rw [c]); rw [cp]) ⟨vp, nm_r (e' := upd o p 0) (by rw [cp]) (next _ _ _ ⟨fun j hj => ?_, fun j hj => ?_, fun j hj => ?_, hws', M1, fun w => ?_, own _ (by rw [pk_un (by omega)]; exact o1.trans t)⟩)⟩⟩
        · rw [pk_un (by omega), pk_un (by omega)]; exact h1 j (by omega)
        · by_cases y : j = p
          · rw [y, pk_us]; exact Or.inl rfl
          · rw [pk_un y]
            by_cases z : j = i
            · rw [z, pk_us, o1.trans t, r1, r2, r3]
              refine Or.inr (Or.inr (Or.inr (Or.inr (Or.inr (Or.inr (Or.inr (Or.inr (Or.inr (Or.inl ⟨rfl, rfl, rfl, rfl, ?_, by rw [scl]; omega⟩)))))))))
              rw [sum]; exact zb_in (by omega)
            · rw [pk_un z]; exact h2 j hj
        · refine ⟨?_, fun y => ?_⟩
          · by_cases y : j = p
            · rw [y, pk_us]
              refine Or.inr ⟨rfl, ?_⟩
              rcases (h3 p (by omega)).1 with z | z
              · rw [← z]; exact p3
              · exact z.2
            · rw [pk_un y]; exact (h3 j hj).1
          · rw [pk_un (fun z => y (by rw [z]; exact t))]; exact (h3 j hj).2 y
        · rw [M2 w]
          show zt_tr G (o i) (a8 i) (a9 i) (k i) (zt_T G o a8 a9 k i) w ↔ zt_tr G (a7 i) (a8 i) (a9 i) (a11 i) (zt_T G a7 a8 a9 a11 i) w
          rw [o1, o2]
          exact ⟨zt_tr_mono (fun v g => (h6 v).mp g) w, zt_tr_mono (fun v g => (h6 v).mpr g) w⟩
    · exact zd_plain (fun g => br_t rfl (br_c (fun z => next _ _ _ (skip (Or.inr z))) (fun z => next _ _ _ (zj_next hJ' (hck i hi) (Or.inl rfl))))) (fun g => br_f (by decide) (next _ _ _ (skip (Or.inl g))))
theorem zj_improve {post : St1 → Prop} {e : Nat} (hL : zt_L e a7 a8 a9 a10 a11) (hN : zt_N e a7)
    (hp : ∀ e tc a7 a8 a9 a10 a11 a12 a13 a14 a15 a16 a17 a18 a19 a20 a21, zt_L e a7 a8 a9 a10 a11 → zt_N e a7 → post (le, ck, va, dn, sn, ln, wc, iw, tr, tf, nI e, tk, tc, lv, ce, sc, gi, pc, a1, a2, a3, a4, a5, a6, a7, a8, a9, a10, a11, a12, a13, a14, a15, a16, a17, a18, a19, a20, a21, a22, a23, a24, a25, a26, a27, a28, a29, a30)) : wpX_improve post (le, ck, va, dn, sn, ln, wc, iw, tr, tf, nI e, tk, tc, lv, ce, sc, gi, pc, a1, a2, a3, a4, a5, a6, a7, a8, a9, a10, a11, a12, a13, a14, a15, a16, a17, a18, a19, a20, a21, a22, a23, a24, a25, a26, a27, a28, a29, a30) := by
  refine pk_loop (σ := Nat × Int32 × (Nat → Int32) × (Nat → Int32) × (Nat → Int32) × (Nat → Int32) × (Nat → Int32) × (Nat → Int32) × (Nat → Int32) × (Nat → Int32) × (Nat → Int32) × (Nat → Int32) × (Nat → Int32) × (Nat → Int32) × (Nat → Int32) × (Nat → Int32) × (Nat → Int32))
    (fun m i s => wX_improve_2 post m (nI i) le ck va dn sn ln wc iw tr tf (nI s.1) tk s.2.1 lv ce sc gi pc a1 a2 a3 a4 a5 a6 s.2.2.1 s.2.2.2.1 s.2.2.2.2.1 s.2.2.2.2.2.1 s.2.2.2.2.2.2.1 s.2.2.2.2.2.2.2.1 s.2.2.2.2.2.2.2.2.1 s.2.2.2.2.2.2.2.2.2.1 s.2.2.2.2.2.2.2.2.2.2.1 s.2.2.2.2.2.2.2.2.2.2.2.1 s.2.2.2.2.2.2.2.2.2.2.2.2.1 s.2.2.2.2.2.2.2.2.2.2.2.2.2.1 s.2.2.2.2.2.2.2.2.2.2.2.2.2.2.1 s.2.2.2.2.2.2.2.2.2.2.2.2.2.2.2.1 s.2.2.2.2.2.2.2.2.2.2.2.2.2.2.2.2 a22 a23 a24 a25 a26 a27 a28 a29 a30)
    (fun i s => zt_L s.1 s.2.2.1 s.2.2.2.1 s.2.2.2.2.1 s.2.2.2.2.2.1 s.2.2.2.2.2.2.1 ∧ zt_N s.1 s.2.2.1) 3 0 (e, tc, a7, a8, a9, a10, a11, a12, a13, a14, a15, a16, a17, a18, a19, a20, a21) (by omega) ⟨hL, hN⟩ ?_ ?_
  · rintro m ⟨e, tc, a7, a8, a9, a10, a11, a12, a13, a14, a15, a16, a17, a18, a19, a20, a21⟩ ⟨h1, h2⟩
    exact pk_le 3 3 (fun _ => hp _ _ _ _ _ _ _ _ _ _ _ _ _ _ _ _ _ h1 h2) (fun g => absurd g (by omega))
  · rintro m i ⟨e, tc, a7, a8, a9, a10, a11, a12, a13, a14, a15, a16, a17, a18, a19, a20, a21⟩ hi ⟨h1, h2⟩ hstep
    (try dsimp only at h1 h2 hstep ⊢)
    refine pk_le 3 i (fun g => absurd g (by omega)) (fun _ => ?_)
    refine zs_share h1 h2 (fun tc a7 a8 a9 a10 a11 a13 a14 a15 a16 a17 a18 a19 a20 g1 => ?_)
    refine zd_unr g1 (fun a7 g1 => ?_)
    refine zd_pack g1 (fun e a7 a8 a9 a10 a11 g1 g2 => ?_)
    refine za_find g1 g2 (fun a12 a21 g3 => ?_)
    refine zd_dead g1 g2 g3 (fun a7 g1 => ?_)
    refine zd_pack g1 (fun e a7 a8 a9 a10 a11 g1 g2 => ?_)
    refine zj_join g1 (fun a7 a11 g1 => ?_)
    refine zd_pack g1 (fun e a7 a8 a9 a10 a11 g1 g2 => ?_)
    exact nm_r (nI_1 i) (hstep (e, tc, a7, a8, a9, a10, a11, a12, a13, a14, a15, a16, a17, a18, a19, a20, a21) ⟨g1, g2⟩)
end
end
section
/-! registers -/
/-- v and w must not share a register -/
def zr_ap (a22 : Nat → Int32) (v w : Int32) : Prop := zb_i (a22 v.toNatClampNeg) w
def zr_rg (a22 : Nat → Int32) : Prop := ∀ v, vp_in v 11 → vp_in (a22 v.toNatClampNeg) 2048
def zr_sy (a22 : Nat → Int32) : Prop := ∀ v w, vp_in v 11 → vp_in w 11 → zr_ap a22 v w → zr_ap a22 w v
/-- colours are in range -/
def zr_co (c : Nat → Int32) : Prop := ∀ v, vp_in v 11 → c v.toNatClampNeg = -1 ∨ vp_in (c v.toNatClampNeg) 5
/-- values that are apart have different colours -/
def zr_nc (a22 c : Nat → Int32) : Prop := ∀ v w, vp_in v 11 → vp_in w 11 → v ≠ w → zr_ap a22 v w → vp_in (c v.toNatClampNeg) 5 → c w.toNatClampNeg ≠ c v.toNatClampNeg
/-- what entry i makes is apart from what is alive behind it -/
def zr_iv (e : Nat) (o m f al a22 : Nat → Int32) (i : Nat) : Prop := i < e → o i ≠ 15 → vp_in (m i) 11 → ∀ w, vp_in w 11 → zb_i (al (i + 1)) w → w ≠ m i → ¬ (o i = 2 ∧ w = f i) → zr_ap a22 (m i) w
def zr_X (e : Nat) (o m f al c : Nat → Int32) : Prop := ∀ i, i < e → o i ≠ 15 → vp_in (m i) 11 → ∀ w, vp_in w 11 → zb_i (al (i + 1)) w → w ≠ m i → ¬ (o i = 2 ∧ w = f i) → vp_in (c (m i).toNatClampNeg) 5 → c w.toNatClampNeg ≠ c (m i).toNatClampNeg
section
variable {le ck va dn sn ln wc tr tf li tk tc lv ce sc gi pc : Int32} {iw : Int64} {a1 a2 a3 a4 a5 a6 a7 a8 a9 a10 a11 a12 a13 a14 a15 a16 a17 a18 a19 a20 a21 a22 a23 a24 a25 a26 a27 a28 a29 a30 : Nat → Int32}
theorem zr_set {post : St1 → Prop} {v k : Int32} (hv : vp_in v 11) (hk : vp_in k 2048) (hr : zr_rg a22) (hs : zr_sy a22)
    (h : ∀ b22, zr_rg b22 → zr_sy b22 → (∀ x y, vp_in x 11 → vp_in y 11 → zr_ap a22 x y → zr_ap b22 x y) → (∀ y, vp_in y 11 → zb_i k y → zr_ap b22 v y) → post (le, ck, va, dn, sn, ln, wc, iw, tr, tf, li, tk, tc, lv, ce, sc, gi, pc, a1, a2, a3, a4, a5, a6, a7, a8, a9, a10, a11, a12, a13, a14, a15, a16, a17, a18, a19, a20, a21, b22, a23, a24, a25, a26, a27, a28, a29, a30)) : wpX_setApart post (le, ck, va, dn, sn, ln, wc, iw, tr, tf, li, tk, tc, lv, ce, sc, gi, pc, a1, a2, a3, a4, a5, a6, a7, a8, a9, a10, a11, a12, a13, a14, a15, a16, a17, a18, a19, a20, a21, a22, a23, a24, a25, a26, a27, a28, a29, a30) v k := by
  have r1 := zb_ror (hr v hv) hk
  refine ⟨hv, hv, nm_r (e' := upd a22 v.toNatClampNeg (a22 v.toNatClampNeg ||| k)) (by rw [zb_s r1]) ?_⟩
  refine pk_loop (fun m i s => wX_setApart_13 post v k le ck va dn sn ln wc iw tr tf li tk tc lv ce sc gi pc m (nI i) a1 a2 a3 a4 a5 a6 a7 a8 a9 a10 a11 a12 a13 a14 a15 a16 a17 a18 a19 a20 a21 s a23 a24 a25 a26 a27 a28 a29 a30)
    (fun i s => zr_rg s ∧ ∀ x y, vp_in x 11 → vp_in y 11 → (zr_ap s x y ↔ zr_ap a22 x y ∨ (x = v ∧ zb_i k y) ∨ (x.toNatClampNeg < i ∧ zb_i k x ∧ y = v))) 11 0 (upd a22 v.toNatClampNeg (a22 v.toNatClampNeg ||| k)) (by omega) ?_ ?_ ?_
  · refine ⟨fun x hx => ?_, fun x y hx hy => ?_⟩
    · by_cases z : x = v
      · rw [z, pk_us]; exact r1
      · rw [pk_un (fun t => z (zb_inj hx hv t))]; exact hr x hx
    · unfold zr_ap
      by_cases z : x = v
      · rw [z, pk_us, zb_ior _ _ (zb_mono hy (by omega))]
        exact ⟨fun g => g.elim Or.inl (fun g => Or.inr (Or.inl ⟨rfl, g⟩)), fun g => g.elim Or.inl (fun g => g.elim (fun g => Or.inr g.2) (fun g => absurd g.1 (by omega)))⟩
      · rw [pk_un (fun t => z (zb_inj hx hv t))]
        exact ⟨Or.inl, fun g => g.elim id (fun g => g.elim (fun g => absurd g.1 z) (fun g => absurd g.1 (by omega)))⟩
  · intro m s ⟨h1, h2⟩
    have h2' : ∀ x y, vp_in x 11 → vp_in y 11 → (zr_ap s x y ↔ zr_ap a22 x y ∨ (x = v ∧ zb_i k y) ∨ (zb_i k x ∧ y = v)) := fun x y hx hy => by
      rw [h2 x y hx hy]
      exact or_congr Iff.rfl (or_congr Iff.rfl ⟨fun g => g.2, fun g => ⟨zb_lt hx, g⟩⟩)
    refine pk_le 11 11 (fun _ => h s h1 (fun x y hx hy g => ?_) (fun x y hx hy g => (h2' x y hx hy).mpr (Or.inl g)) (fun y hy g => (h2' v y hv hy).mpr (Or.inr (Or.inl ⟨rfl, g⟩)))) (fun g => absurd g (by omega))
    rw [h2' x y hx hy] at g
    rw [h2' y x hy hx]
    rcases g with g | g | g
    · exact Or.inl (hs x y hx hy g)
    · exact Or.inr (Or.inr ⟨g.2, g.1⟩)
    · exact Or.inr (Or.inl ⟨g.2, g.1⟩)
  · intro m i s hi ⟨h1, h2⟩ hm
    have vi := zb_in (n := i) (N := 11) hi
    have c := zb_cl (n := i) (N := 11) hi
    refine pk_le 11 i (fun g => absurd g (by omega)) (fun _ => br_c (fun z => nm_r (nI_1 i) (hm s ⟨h1, fun x y hx hy => ?_⟩)) (fun z => ⟨vi, ?_⟩))
    · rw [h2 x y hx hy]
      refine or_congr Iff.rfl (or_congr Iff.rfl ⟨fun g => ⟨by omega, g.2⟩, fun g => ⟨?_, g.2⟩⟩)
      by_cases t : x.toNatClampNeg = i
      · have : x = nI i := by rw [← t]; exact zb_nI hx
        rw [this] at g
        exact absurd z g.2.1
      · have := g.1; omega
    · refine za_bit (Or.inr hv) (fun r hr hb => ⟨vi, ?_⟩)
      have rr := zb_ror (h1 (nI i) vi) hr
      (try rw [c] at rr)
      refine nm_r (e' := upd s i (s i ||| r)) (by (try rw [c]); rw [zb_s rr]) (nm_r (nI_1 i) (hm _ ⟨fun x hx => ?_, fun x y hx hy => ?_⟩))
      · by_cases t : x.toNatClampNeg = i
        · rw [t, pk_us]; exact rr
        · rw [pk_un t]; exact h1 x hx
      · have h2' := h2 x y hx hy
        unfold zr_ap at h2' ⊢
        by_cases t : x.toNatClampNeg = i
        · have ex : x = nI i := by rw [← t]; exact zb_nI hx
          rw [t] at h2'
          rw [t, pk_us, zb_ior _ _ (zb_mono hy (by omega)), h2', hb y hy]
          constructor
          · rintro ((g | g | g) | g)
            · exact Or.inl g
            · exact Or.inr (Or.inl g)
            · exact absurd g.1 (by omega)
            · exact Or.inr (Or.inr ⟨by omega, by rw [ex]; exact z, g⟩)
          · rintro (g | g | g)
            · exact Or.inl (Or.inl g)
            · exact Or.inl (Or.inr (Or.inl g))
            · exact Or.inr g.2.2
        · rw [pk_un t, h2']
          exact or_congr Iff.rfl (or_congr Iff.rfl ⟨fun g => ⟨by omega, g.2⟩, fun g => ⟨by omega, g.2⟩⟩)
theorem zr_args {post : St1 → Prop} {e : Nat} (hal : za_rg e a21) (hr : zr_rg a22) (hs : zr_sy a22) (h : ∀ a22, zr_rg a22 → zr_sy a22 → post (le, ck, va, dn, sn, ln, wc, iw, tr, tf, li, tk, tc, lv, ce, sc, gi, pc, a1, a2, a3, a4, a5, a6, a7, a8, a9, a10, a11, a12, a13, a14, a15, a16, a17, a18, a19, a20, a21, a22, a23, a24, a25, a26, a27, a28, a29, a30)) : wpX_keepArgumentsApart post (le, ck, va, dn, sn, ln, wc, iw, tr, tf, li, tk, tc, lv, ce, sc, gi, pc, a1, a2, a3, a4, a5, a6, a7, a8, a9, a10, a11, a12, a13, a14, a15, a16, a17, a18, a19, a20, a21, a22, a23, a24, a25, a26, a27, a28, a29, a30) := by
  refine nm_e ?_
  have h3 : vp_in ((a21 0) ||| 3) 2048 := zb_ror (hal 0 (by omega)) (zb_in (n := 3) (by omega))
  refine pk_loop (fun m i s => wX_keepArgumentsApart_11 post ((a21 0) ||| 3) m (nI i) le ck va dn sn ln wc iw tr tf li tk tc lv ce sc gi pc a1 a2 a3 a4 a5 a6 a7 a8 a9 a10 a11 a12 a13 a14 a15 a16 a17 a18 a19 a20 a21 s a23 a24 a25 a26 a27 a28 a29 a30) (fun i s => zr_rg s ∧ zr_sy s) 11 0 a22 (by omega) ⟨hr, hs⟩ ?_ ?_
  · intro m s ⟨h1, h2⟩
    exact pk_le 11 11 (fun _ => h s h1 h2) (fun g => absurd g (by omega))
  · intro m i s hi ⟨h1, h2⟩ hm
    refine pk_le 11 i (fun g => absurd g (by omega)) (fun _ => nm_e (br_c (fun _ => nm_r (nI_1 i) (hm s ⟨h1, h2⟩)) (fun _ => ?_)))
    exact zr_set (zb_in hi) (zb_rand h3) h1 h2 (fun b22 g1 g2 _ _ => nm_r (nI_1 i) (hm b22 ⟨g1, g2⟩))
theorem zr_keep {post : St1 → Prop} {e i : Nat} (he : e ≤ 240) (hi : i < e) (hm : vp_in (a8 i) 11) (h15 : a7 i ≠ 15) (hpl : ¬ a7 i < 1 ∧ ¬ 14 < a7 i) (hf : a7 i = 2 → vp_in (a9 i) 11) (hal : za_rg e a21) (ht : za_tg e a7 a11 a12) (hr : zr_rg a22) (hs : zr_sy a22)
    (h : ∀ b22, zr_rg b22 → zr_sy b22 → (∀ x y, vp_in x 11 → vp_in y 11 → zr_ap a22 x y → zr_ap b22 x y) → zr_iv e a7 a8 a9 a21 b22 i → post (le, ck, va, dn, sn, ln, wc, iw, tr, tf, li, tk, tc, lv, ce, sc, gi, pc, a1, a2, a3, a4, a5, a6, a7, a8, a9, a10, a11, a12, a13, a14, a15, a16, a17, a18, a19, a20, a21, b22, a23, a24, a25, a26, a27, a28, a29, a30)) : wpX_keepApart post (le, ck, va, dn, sn, ln, wc, iw, tr, tf, li, tk, tc, lv, ce, sc, gi, pc, a1, a2, a3, a4, a5, a6, a7, a8, a9, a10, a11, a12, a13, a14, a15, a16, a17, a18, a19, a20, a21, a22, a23, a24, a25, a26, a27, a28, a29, a30) (nI i) := by
  have v := zb_in (n := i) (N := 240) (by omega)
  have c := zb_cl (n := i) (N := 240) (by omega)
  refine ⟨v, nm_r (e' := a8 i) (by first | rw [c] | rfl) (za_after he hi hal ht (fun r hrr hb => za_bit (Or.inr hm) (fun r8 hr8 hb8 => nm_e ⟨v, ?_⟩)))⟩
  (try rw [c])
  have n18 : a7 i ≠ 18 := zt_pne hpl (by decide)
  have n22 : a7 i ≠ 22 := zt_pne hpl (by decide)
  refine br_c (fun z => ⟨v, ?_⟩) (fun z => ?_)
  · refine za_bit (Or.inr (hf z)) (fun r9 hr9 hb9 => nm_e ?_)
    unfold wX_keepApart_46
    refine zr_set hm (zb_rand (zb_rand hrr)) hr hs (fun b22 g1 g2 g3 g4 => h b22 g1 g2 g3 (fun _ _ _ w hw hbw hne hn2 => g4 w hw ?_))
    rw [zb_inot _ _ (zb_mono hw (by omega)), zb_inot _ _ (zb_mono hw (by omega)), hb w hw, hb8 w hw, hb9 w hw]
    exact ⟨⟨Or.inl ⟨n18, n22, hbw⟩, hne⟩, fun y => hn2 ⟨z, y⟩⟩
  · unfold wX_keepApart_46
    refine zr_set hm (zb_rand hrr) hr hs (fun b22 g1 g2 g3 g4 => h b22 g1 g2 g3 (fun _ _ _ w hw hbw hne hn2 => g4 w hw ?_))
    rw [zb_inot _ _ (zb_mono hw (by omega)), hb w hw, hb8 w hw]
    exact ⟨Or.inl ⟨n18, n22, hbw⟩, hne⟩
theorem zr_ones {post : Int32 → Prop} {k : Int32} (h : ∀ n, n ≤ 11 → post (nI n)) : wpX_onesIn post (le, ck, va, dn, sn, ln, wc, iw, tr, tf, li, tk, tc, lv, ce, sc, gi, pc, a1, a2, a3, a4, a5, a6, a7, a8, a9, a10, a11, a12, a13, a14, a15, a16, a17, a18, a19, a20, a21, a22, a23, a24, a25, a26, a27, a28, a29, a30) k := by
  refine pk_loop (fun m i s => wX_onesIn_4 post k le ck va dn sn ln wc iw tr tf li tk tc lv ce sc gi pc a1 a2 a3 a4 a5 a6 a7 a8 a9 a10 a11 a12 a13 a14 a15 a16 a17 a18 a19 a20 a21 a22 a23 a24 a25 a26 a27 a28 a29 a30 m (nI s) (nI i)) (fun i s => s ≤ i) 11 0 0 (by omega) (Nat.le_refl _) ?_ ?_
  · intro m s hs
    exact pk_le 11 11 (fun _ => h s hs) (fun g => absurd g (by omega))
  · intro m i s hi hs hm
    obtain ⟨j, hj, e⟩ := pk_andE (k >>> (nI i &&& 31)) (m := 1) 1 (by decide)
    refine pk_le 11 i (fun g => absurd g (by omega)) (fun _ => nm_r (e' := nI (s + j)) (by rw [e, nI_add]) (nm_r (nI_1 i) (hm _ ?_)))
    have : j < 2 := hj
    omega
def zr_cnt (k : Int32) : Nat := zb_sm (fun j => if zb_t k j then 1 else 0) 11
theorem zr_order {post : St1 → Prop} (h : ∀ b24, (∀ k, k < 11 → vp_in (b24 k) 11) → post (le, ck, va, dn, sn, ln, wc, iw, tr, tf, li, tk, tc, lv, ce, sc, gi, pc, a1, a2, a3, a4, a5, a6, a7, a8, a9, a10, a11, a12, a13, a14, a15, a16, a17, a18, a19, a20, a21, a22, a23, b24, a25, a26, a27, a28, a29, a30)) : wpX_orderValues post (le, ck, va, dn, sn, ln, wc, iw, tr, tf, li, tk, tc, lv, ce, sc, gi, pc, a1, a2, a3, a4, a5, a6, a7, a8, a9, a10, a11, a12, a13, a14, a15, a16, a17, a18, a19, a20, a21, a22, a23, a24, a25, a26, a27, a28, a29, a30) := by
  refine pk_loop (σ := Int32 × (Nat → Int32)) (fun m i s => wX_orderValues_6 post le ck va dn sn ln wc iw tr tf li tk tc lv ce sc gi pc m s.1 (nI i) a1 a2 a3 a4 a5 a6 a7 a8 a9 a10 a11 a12 a13 a14 a15 a16 a17 a18 a19 a20 a21 a22 a23 s.2 a25 a26 a27 a28 a29 a30) (fun i s => zr_cnt s.1 + i = 11 ∧ ∀ k, k < i → vp_in (s.2 k) 11) 11 0 ((2047 : Int32), a24) (by omega) ⟨(show zr_cnt 2047 + 0 = 11 from by decide +kernel), fun k hk => absurd hk (by omega)⟩ ?_ ?_
  · rintro m ⟨k, b24⟩ ⟨h1, h2⟩
    exact pk_le 11 11 (fun _ => h b24 h2) (fun g => absurd g (by omega))
  · rintro m i ⟨k, b24⟩ hi ⟨h1, h2⟩ hstep
    (try dsimp only at h1 h2 hstep ⊢)
    have vi := zb_in (n := i) (N := 11) hi
    have c := zb_cl (n := i) (N := 11) hi
    refine pk_le 11 i (fun g => absurd g (by omega)) (fun _ => ?_)
    refine pk_loop (σ := Int32 × Int32) (fun m' j s => wX_orderValues_21 post (wX_orderValues_6 post le ck va dn sn ln wc iw tr tf li tk tc lv ce sc gi pc m) k (nI i) le ck va dn sn ln wc iw tr tf li tk tc lv ce sc gi pc a1 a2 a3 a4 a5 a6 a7 a8 a9 a10 a11 a12 a13 a14 a15 a16 a17 a18 a19 a20 a21 a22 a23 b24 a25 a26 a27 a28 a29 a30 m' s.1 s.2 (nI j))
      (fun j s => (s.1 = -1 ∧ s.2 = 100 ∧ ∀ q, q < j → zb_t k q = false) ∨ (∃ q, q < 11 ∧ s.1 = nI q ∧ zb_t k q = true)) 11 0 ((-1 : Int32), (100 : Int32)) (by omega) (Or.inl ⟨rfl, rfl, fun q hq => absurd hq (by omega)⟩) ?_ ?_
    · rintro m' ⟨x3, x4⟩ hI
      (try dsimp only at hI ⊢)
      refine pk_le 11 11 (fun _ => ⟨vi, ?_⟩) (fun g => absurd g (by omega))
      rcases hI with ⟨_, _, z⟩ | ⟨q, q1, q2, q3⟩
      · exfalso
        have : zr_cnt k = 0 := by
          unfold zr_cnt
          have := zb_sm_congr (f := fun j => if zb_t k j then 1 else 0) (g := fun _ => 0) (n := 11) (fun j hj => by (try dsimp only); rw [z j hj]; rfl)
          rw [this]; decide
        omega
      · subst q2
        have vq := zb_in (n := q) (N := 11) q1
        refine nm_r (e' := upd b24 i (nI q)) (by (try rw [c]); rw [zb_b (zb_mono vq (by omega))]) ?_
        refine br_t (zb_ge vq) (nm_e (nm_r (nI_1 i) (hstep (_, upd b24 i (nI q)) ⟨?_, fun j hj => ?_⟩)))
        · (try dsimp only)
          have e1 : ∀ j, j < 11 → zb_t (k &&& (((1 : Int32) <<< (nI q &&& 31)) ^^^ (-1))) j = (zb_t k j && !decide (j = q)) := fun j hj => by
            rw [zb_tand, zb_txor, zb_tbit (by omega) (by omega), zb_tm1 j (by omega)]; simp
          have := zb_sm_set (f := fun j => if zb_t (k &&& (((1 : Int32) <<< (nI q &&& 31)) ^^^ (-1))) j then 1 else 0) (g := fun j => if zb_t k j then 1 else 0) (n := 11) (i := q) (fun j hj hne => by (try dsimp only); rw [e1 j hj]; simp [hne]) q1
          (try dsimp only at this)
          have e2 : (true && !decide (q = q)) = false := by simp
          rw [e1 q q1, q3, e2, if_pos rfl, if_neg (by decide)] at this
          unfold zr_cnt at h1 ⊢
          omega
        · (try dsimp only)
          by_cases t : j = i
          · rw [t, pk_us]; exact vq
          · rw [pk_un t]; exact h2 j (by omega)
    · rintro m' j ⟨x3, x4⟩ hj hI hm
      (try dsimp only at hI hm ⊢)
      have vj := zb_in (n := j) (N := 11) hj
      refine pk_le 11 j (fun g => absurd g (by omega)) (fun _ => br_c (fun z => nm_r (nI_1 j) (hm (x3, x4) ?_)) (fun z => ⟨vj, zr_ones (fun n hn => ?_)⟩))
      · refine hI.imp (fun g => ⟨g.1, g.2.1, fun q hq => ?_⟩) id
        by_cases t : q = j
        · rw [t]
          cases u : zb_t k j
          · rfl
          · exact absurd z ((zb_ij k (by omega)).mpr u)
        · exact g.2.2 q (by omega)
      · have bit : zb_t k j = true := (zb_ij k (by omega)).mp z
        refine br_c (fun g => nm_r (nI_1 j) (hm (nI j, nI n) (Or.inr ⟨j, hj, rfl, bit⟩))) (fun g => nm_r (nI_1 j) (hm (x3, x4) ?_))
        rcases hI with y | y
        · rw [y.2.1] at g
          exact absurd (nI_lt (a := n) (b := 100) (by omega) (by omega)) g
        · exact Or.inr y
theorem zr_paint {post : St1 → Prop} {v : Int32} (hv : vp_in v 11) (hco : zr_co a23) (hs : zr_sy a22) (hnc : zr_nc a22 a23) (h : ∀ b23, zr_co b23 → zr_nc a22 b23 → post (le, ck, va, dn, sn, ln, wc, iw, tr, tf, li, tk, tc, lv, ce, sc, gi, pc, a1, a2, a3, a4, a5, a6, a7, a8, a9, a10, a11, a12, a13, a14, a15, a16, a17, a18, a19, a20, a21, a22, b23, a24, a25, a26, a27, a28, a29, a30)) : wpX_paint post (le, ck, va, dn, sn, ln, wc, iw, tr, tf, li, tk, tc, lv, ce, sc, gi, pc, a1, a2, a3, a4, a5, a6, a7, a8, a9, a10, a11, a12, a13, a14, a15, a16, a17, a18, a19, a20, a21, a22, a23, a24, a25, a26, a27, a28, a29, a30) v := by
  refine pk_loop (fun m i s => wX_paint_4 post v le ck va dn sn ln wc iw tr tf li tk tc lv ce sc gi pc a1 a2 a3 a4 a5 a6 a7 a8 a9 a10 a11 a12 a13 a14 a15 a16 a17 a18 a19 a20 a21 a22 a23 a24 a25 a26 a27 a28 a29 a30 m s (nI i)) (fun i s => ∀ w, vp_in w 11 → w.toNatClampNeg < i → zr_ap a22 v w → vp_in (a23 w.toNatClampNeg) 5 → zb_i s (a23 w.toNatClampNeg)) 11 0 (0 : Int32) (by omega) (fun w _ hw => absurd hw (by omega)) ?_ ?_
  · intro m s hI
    refine pk_le 11 11 (fun _ => ?_) (fun g => absurd g (by omega))
    refine pk_loop (σ := Unit) (fun m i _ => wX_paint_51 post v s le ck va dn sn ln wc iw tr tf li tk tc lv ce sc gi pc a1 a2 a3 a4 a5 a6 a7 a8 a9 a10 a11 a12 a13 a14 a15 a16 a17 a18 a19 a20 a21 a22 a23 a24 a25 a26 a27 a28 a29 a30 m (nI i)) (fun _ _ => True) 5 0 () (by omega) trivial ?_ ?_
    · intro m _ _
      exact pk_le 5 5 (fun _ => h a23 hco hnc) (fun g => absurd g (by omega))
    · intro m i _ hi _ hm
      have vi := zb_in (n := i) (N := 5) hi
      refine pk_le 5 i (fun g => absurd g (by omega)) (fun _ => br_c (fun z => ⟨hv, nm_r (e' := upd a23 v.toNatClampNeg (nI i)) (by rw [zb_b (zb_mono vi (by omega))]) (h _ (fun w hw => ?_) (fun x y hx hy hxy hap hc => ?_))⟩) (fun _ => nm_r (nI_1 i) (hm () trivial)))
      · by_cases t : w.toNatClampNeg = v.toNatClampNeg
        · rw [t, pk_us]; exact Or.inr vi
        · rw [pk_un t]; exact hco w hw
      · have free : ∀ w, vp_in w 11 → zr_ap a22 v w → a23 w.toNatClampNeg ≠ nI i := fun w hw g t => by
          have := hI w hw (zb_lt hw) g (by rw [t]; exact vi)
          rw [t] at this
          exact this z
        by_cases tx : x.toNatClampNeg = v.toNatClampNeg
        · have ex : x = v := zb_inj hx hv tx
          have ty : y.toNatClampNeg ≠ v.toNatClampNeg := fun t => hxy (ex.trans (zb_inj hy hv t).symm)
          rw [tx, pk_us, pk_un ty]
          rw [ex] at hap
          exact free y hy hap
        · rw [pk_un tx] at hc ⊢
          by_cases ty : y.toNatClampNeg = v.toNatClampNeg
          · have ey : y = v := zb_inj hy hv ty
            rw [ty, pk_us]
            rw [ey] at hap
            exact fun t => free x hx (hs x v hx hv hap) t.symm
          · rw [pk_un ty]
            exact hnc x y hx hy hxy hap hc
  · intro m i s hi hI hm
    have vi := zb_in (n := i) (N := 11) hi
    have c := zb_cl (n := i) (N := 11) hi
    have step : ∀ s', (∀ w, vp_in w 32 → zb_i s w → zb_i s' w) → (zr_ap a22 v (nI i) → vp_in (a23 i) 5 → zb_i s' (a23 i)) → ∀ w, vp_in w 11 → w.toNatClampNeg < i + 1 → zr_ap a22 v w → vp_in (a23 w.toNatClampNeg) 5 → zb_i s' (a23 w.toNatClampNeg) := fun s' h1 h2 w hw hl hap hc => by
      by_cases t : w.toNatClampNeg = i
      · have ew : w = nI i := by rw [← t]; exact zb_nI hw
        rw [t] at hc ⊢
        rw [ew] at hap
        exact h2 hap hc
      · exact h1 _ (zb_mono hc (by omega)) (hI w hw (by omega) hap hc)
    refine pk_le 11 i (fun g => absurd g (by omega)) (fun _ => ⟨hv, br_c (fun z => nm_r (nI_1 i) (hm s (step s (fun _ _ g => g) (fun g => absurd z g)))) (fun z => ⟨vi, ?_⟩)⟩)
    (try rw [c])
    rcases hco (nI i) vi with y | y
    · (try rw [c] at y)
      refine br_t (by rw [y]; decide) (nm_r (nI_1 i) (hm s (step s (fun _ _ g => g) (fun _ g => absurd y (zb_ne1 g)))))
    · (try rw [c] at y)
      refine br_f (zb_nn y) ⟨vi, nm_e (nm_r (nI_1 i) (hm _ (step _ (fun w hw g => (zb_ior _ _ hw).mpr (Or.inl g)) (fun _ _ => ?_))))⟩
      exact (zb_ior _ _ (zb_mono y (by omega))).mpr (Or.inr ((zb_ibit (zb_mono y (by omega)) (zb_mono y (by omega))).mpr rfl))
theorem zr_choose {post : St1 → Prop} {e : Nat} (hL : zt_L e a7 a8 a9 a10 a11) (hN : zt_N e a7) (hLV : za_LV e a7 a8 a9 a10 a11 a12 a21)
    (hp : ∀ a22 b23 a24, zr_co b23 → zr_X e a7 a8 a9 a21 b23 → post (le, ck, va, dn, sn, ln, wc, iw, tr, tf, nI e, tk, tc, lv, ce, sc, gi, pc, a1, a2, a3, a4, a5, a6, a7, a8, a9, a10, a11, a12, a13, a14, a15, a16, a17, a18, a19, a20, a21, a22, b23, a24, a25, a26, a27, a28, a29, a30)) : wpX_chooseRegisters post (le, ck, va, dn, sn, ln, wc, iw, tr, tf, nI e, tk, tc, lv, ce, sc, gi, pc, a1, a2, a3, a4, a5, a6, a7, a8, a9, a10, a11, a12, a13, a14, a15, a16, a17, a18, a19, a20, a21, a22, a23, a24, a25, a26, a27, a28, a29, a30) := by
  have ht := za_tgL hL hLV.2.1
  obtain ⟨he, hsh, hld, htg, hws, hty⟩ := hL
  refine pk_loop (σ := (Nat → Int32) × (Nat → Int32)) (fun m i s => wX_chooseRegisters_2 post le ck va dn sn ln wc iw tr tf (nI e) tk tc lv ce sc gi pc m (nI i) a1 a2 a3 a4 a5 a6 a7 a8 a9 a10 a11 a12 a13 a14 a15 a16 a17 a18 a19 a20 a21 s.1 s.2 a24 a25 a26 a27 a28 a29 a30) (fun i s => ∀ j, j < i → s.1 j = 0 ∧ s.2 j = -1) 11 0 (a22, a23) (by omega) (fun j hj => absurd hj (by omega)) ?_ ?_
  · rintro m ⟨b22, b23⟩ hI
    (try dsimp only at hI ⊢)
    have hr : zr_rg b22 := fun v hv => by rw [(hI _ (zb_lt hv)).1]; exact zb_r0
    have nap : ∀ v w, vp_in v 11 → vp_in w 11 → ¬ zr_ap b22 v w := fun v w hv hw g => by
      unfold zr_ap at g
      rw [(hI _ (zb_lt hv)).1] at g
      exact zb_i0 (zb_mono hw (by omega)) g
    have hs : zr_sy b22 := fun v w hv hw g => absurd g (nap v w hv hw)
    have hco : zr_co b23 := fun v hv => Or.inl (hI _ (zb_lt hv)).2
    refine pk_le 11 11 (fun _ => br_c (fun _ => hp _ _ _ hco (fun i hi h15 hm w hw hb hne hn2 hc => ?_)) (fun _ => ?_)) (fun g => absurd g (by omega))
    · rw [(hI _ (zb_lt hm)).2] at hc; exact absurd hc (zb_m1 _)
    refine zr_args hLV.1 hr hs (fun c22 g1 g2 => ?_)
    refine pk_loop (fun m i s => wX_chooseRegisters_42 post m (nI i) le ck va dn sn ln wc iw tr tf (nI e) tk tc lv ce sc gi pc a1 a2 a3 a4 a5 a6 a7 a8 a9 a10 a11 a12 a13 a14 a15 a16 a17 a18 a19 a20 a21 s b23 a24 a25 a26 a27 a28 a29 a30) (fun i s => zr_rg s ∧ zr_sy s ∧ ∀ j, j < i → zr_iv e a7 a8 a9 a21 s j) e 0 c22 (by omega) ⟨g1, g2, fun j hj => absurd hj (by omega)⟩ ?_ ?_
    · intro m s ⟨k1, k2, k3⟩
      refine pk_le e e (fun _ => zr_order (fun b24 h24 => ?_)) (fun g => absurd g (by omega))
      have hnc0 : zr_nc s b23 := fun x y hx hy _ _ hc => by rw [(hI _ (zb_lt hx)).2] at hc; exact absurd hc (zb_m1 _)
      have main := pk_loopD (fun n i s' => wX_chooseRegisters_88 post n (nI i - 1) le ck va dn sn ln wc iw tr tf (nI e) tk tc lv ce sc gi pc a1 a2 a3 a4 a5 a6 a7 a8 a9 a10 a11 a12 a13 a14 a15 a16 a17 a18 a19 a20 a21 s s' b24 a25 a26 a27 a28 a29 a30) (fun i s' => i ≤ 11 ∧ zr_co s' ∧ zr_nc s s') ?_ ?_ 11 b23 ⟨by omega, hco, hnc0⟩
      · exact ⟨_, main⟩
      · intro n s' ⟨_, t1, t2⟩
        refine br_t (by decide) (hp _ _ _ t1 (fun i hi h15 hm w hw hb hne hn2 hc => t2 (a8 i) w hm hw (fun z => hne z.symm) (k3 i hi hi h15 hm w hw hb hne hn2) hc))
      · intro n i s' ⟨t0, t1, t2⟩ hstep
        (try dsimp only)
        rw [nI_pred]
        have vi := zb_in (n := i) (N := 11) (by omega)
        have m1 : nI i + (-1) = nI i - 1 := by grind
        refine br_f (nI_pos (by omega)) ⟨vi, ?_⟩
        rw [zb_cl (n := i) (N := 11) (by omega)]
        exact zr_paint (h24 i (by omega)) t1 k2 t2 (fun c23 u1 u2 => nm_r m1 (hstep c23 ⟨by omega, u1, u2⟩))
    · intro m i s hi ⟨k1, k2, k3⟩ hm
      have v := zb_in (n := i) (N := 240) (by omega)
      have c := zb_cl (n := i) (N := 240) (by omega)
      have skip : (a7 i = 15 ∨ a8 i < 0) → ∀ j, j < i + 1 → zr_iv e a7 a8 a9 a21 s j := fun z j hj => by
        by_cases t : j = i
        · rw [t]
          intro _ h15 hm8
          exact absurd z (fun z => z.elim h15 (zb_nn hm8))
        · exact k3 j (by omega)
      refine pk_le e i (fun g => absurd g (by omega)) (fun _ => ⟨v, ?_⟩)
      (try rw [c])
      refine br_c (fun z => nm_r (nI_1 i) (hm s ⟨k1, k2, skip (Or.inl z)⟩)) (fun z => ⟨v, ?_⟩)
      (try rw [c])
      refine br_c (fun z2 => nm_r (nI_1 i) (hm s ⟨k1, k2, skip (Or.inr z2)⟩)) (fun z2 => ?_)
      have hm8 : vp_in (a8 i) 11 := zb_op (zt_sh_v (hsh i hi) (hN i hi)).1 z2
      have hpl : (¬ a7 i < 1 ∧ ¬ 14 < a7 i) ∧ (a7 i = 2 → vp_in (a9 i) 11) := by
        have no : a8 i = -1 → False := fun y => by rw [y] at hm8; exact zb_m1 _ hm8
        rcases hsh i hi with t | t | t | t | t | t | t | t | t | t | t
        · exact absurd t (hN i hi)
        · rw [t.1]; exact ⟨by decide, fun y => absurd y (by decide)⟩
        · exact ⟨by rcases t.1 with y | y <;> rw [y] <;> decide, fun _ => t.2.2.1⟩
        · exact ⟨⟨fun y => t.1.1 (Int32.lt_trans y (by decide)), fun y => t.1.2 (Int32.lt_trans (by decide) y)⟩, fun _ => t.2.2.1⟩
        · exact ⟨by rw [t.1]; decide, fun _ => t.2.2.1⟩
        · exact absurd t.1 z
        · exact (no t.2.1).elim
        · exact (no t.2.1).elim
        · exact (no t.2.1).elim
        · exact (no t.2.1).elim
        · exact (no t.2.1).elim
      refine zr_keep he hi hm8 z hpl.1 hpl.2 hLV.1 ht k1 k2 (fun d22 u1 u2 u3 u4 => nm_r (nI_1 i) (hm d22 ⟨u1, u2, fun j hj => ?_⟩))
      by_cases t : j = i
      · rw [t]; exact u4
      · intro hje h15 hmj w hw hb hne hn2
        exact u3 _ _ hmj hw (k3 j (by omega) hje h15 hmj w hw hb hne hn2)
  · rintro m i ⟨b22, b23⟩ hi hI hm
    (try dsimp only at hI hm ⊢)
    have vi := zb_in (n := i) (N := 11) hi
    have c := zb_cl (n := i) (N := 11) hi
    refine pk_le 11 i (fun g => absurd g (by omega)) (fun _ => ⟨vi, nm_r (e' := upd b22 i 0) (by first | rw [c] | rfl) ⟨vi, nm_r (e' := upd b23 i (-1)) (by first | rw [c] | rfl) (nm_r (nI_1 i) (hm (upd b22 i 0, upd b23 i (-1)) (fun j hj => ?_)))⟩⟩)
    (try dsimp only)
    by_cases t : j = i
    · rw [t, pk_us, pk_us]; exact ⟨rfl, rfl⟩
    · rw [pk_un t, pk_un t]; exact hI j (by omega)
end
end
section
/-! words: what they hold, what they ask for -/
def ze_w (w : Int32) : Int32 := (w.toUInt32 >>> ((26 : Int32).toUInt32 &&& Int32.toUInt32 31)).toInt32
def ze_a (w : Int32) : Int32 := ((w.toUInt32 >>> ((22 : Int32).toUInt32 &&& Int32.toUInt32 31)).toInt32) &&& 7
def ze_b (w : Int32) : Int32 := ((w.toUInt32 >>> ((18 : Int32).toUInt32 &&& Int32.toUInt32 31)).toInt32) &&& 7
def ze_l (w : Int32) : Int32 := w &&& 262143
def ze_n (w : Int32) : Int32 := (w <<< ((14 : Int32) &&& 31)) >>> ((14 : Int32) &&& 31)
theorem ze_dw (w : Int32) : ze_w w = nI (w.toBitVec.toNat / 2 ^ 26) := by
  rw [zb_tn (ze_w w)]
  unfold ze_w
  rw [pk_ushr w 26 26 (by decide)]
theorem ze_da (w : Int32) : ze_a w = nI (w.toBitVec.toNat / 2 ^ 22 % 8) := by
  unfold ze_a
  rw [pk_and _ 3 (by decide), pk_ushr w 22 22 (by decide)]
theorem ze_db (w : Int32) : ze_b w = nI (w.toBitVec.toNat / 2 ^ 18 % 8) := by
  unfold ze_b
  rw [pk_and _ 3 (by decide), pk_ushr w 18 18 (by decide)]
theorem ze_dl (w : Int32) : ze_l w = nI (w.toBitVec.toNat % 2 ^ 18) := by
  unfold ze_l
  rw [pk_and _ 18 (by decide)]
theorem ze_or {a b k : Nat} (hb : b < 2 ^ k) : a * 2 ^ k ||| b = a * 2 ^ k + b := by
  rw [Nat.mul_comm a, Nat.two_pow_add_eq_or_of_lt hb]
theorem ze_nat {o x y : Nat} (ho : o < 64) (hx : x < 8) (hy : y < 8) (low : Int32) :
    ((((nI o <<< ((26 : Int32) &&& 31)) ||| (nI x <<< ((22 : Int32) &&& 31))) ||| (nI y <<< ((18 : Int32) &&& 31))) ||| (low &&& 262143)).toBitVec.toNat = o * 2 ^ 26 + x * 2 ^ 22 + y * 2 ^ 18 + low.toBitVec.toNat % 2 ^ 18 := by
  have e1 : (nI o <<< ((26 : Int32) &&& 31)).toBitVec.toNat = o * 2 ^ 26 := by rw [pk_shl _ _ 26 (by decide), pk_tn (by omega), Nat.mod_eq_of_lt (by omega)]
  have e2 : (nI x <<< ((22 : Int32) &&& 31)).toBitVec.toNat = x * 2 ^ 22 := by rw [pk_shl _ _ 22 (by decide), pk_tn (by omega), Nat.mod_eq_of_lt (by omega)]
  have e3 : (nI y <<< ((18 : Int32) &&& 31)).toBitVec.toNat = y * 2 ^ 18 := by rw [pk_shl _ _ 18 (by decide), pk_tn (by omega), Nat.mod_eq_of_lt (by omega)]
  have l : low.toBitVec.toNat % 2 ^ 18 < 2 ^ 18 := Nat.mod_lt _ (by decide)
  have e4 : (low &&& 262143).toBitVec.toNat = low.toBitVec.toNat % 2 ^ 18 := by rw [pk_and _ 18 (by decide), pk_tn (by omega)]
  rw [Int32.toBitVec_or, BitVec.toNat_or, Int32.toBitVec_or, BitVec.toNat_or, Int32.toBitVec_or, BitVec.toNat_or, e1, e2, e3, e4]
  rw [ze_or (a := o) (b := x * 2 ^ 22) (k := 26) (by omega)]
  have f1 : o * 2 ^ 26 + x * 2 ^ 22 = (o * 16 + x) * 2 ^ 22 := by omega
  rw [f1, ze_or (b := y * 2 ^ 18) (k := 22) (by omega)]
  have f2 : (o * 16 + x) * 2 ^ 22 + y * 2 ^ 18 = ((o * 16 + x) * 16 + y) * 2 ^ 18 := by
    have : (2 : Nat) ^ 22 = 16 * 2 ^ 18 := by decide
    rw [this, ← Nat.mul_assoc, ← Nat.add_mul]
  rw [f2, ze_or l]
theorem ze_dec {o x y : Nat} (ho : o < 64) (hx : x < 8) (hy : y < 8) (low : Int32) {w : Int32} (hw : w = (((nI o <<< ((26 : Int32) &&& 31)) ||| (nI x <<< ((22 : Int32) &&& 31))) ||| (nI y <<< ((18 : Int32) &&& 31))) ||| (low &&& 262143)) :
    ze_w w = nI o ∧ ze_a w = nI x ∧ ze_b w = nI y ∧ ze_l w = low &&& 262143 ∧ (vp_in low 3 → ze_n w = low) := by
  have hn := ze_nat ho hx hy low
  rw [← hw] at hn
  have l : low.toBitVec.toNat % 2 ^ 18 < 2 ^ 18 := Nat.mod_lt _ (by decide)
  refine ⟨?_, ?_, ?_, ?_, fun h3 => ?_⟩
  · rw [ze_dw, hn]; congr 1; omega
  · rw [ze_da, hn]; congr 1; omega
  · rw [ze_db, hn]; congr 1; omega
  · rw [ze_dl, hn, pk_and _ 18 (by decide)]; congr 1; omega
  · have hl := zb_lt h3
    have el := zb_clN h3
    have e1 : w <<< ((14 : Int32) &&& 31) = nI (low.toNatClampNeg * 2 ^ 14) := by
      rw [zb_tn (w <<< ((14 : Int32) &&& 31)), pk_shl _ _ 14 (by decide), hn, el]
      congr 1; omega
    unfold ze_n
    rw [e1, pk_shrN (by omega) _ 14 (by decide), Nat.mul_div_cancel _ (by decide)]
    exact (zb_nI h3).symm
theorem ze_hi (w : Int32) : (w &&& (-262144)).toBitVec.toNat = w.toBitVec.toNat / 2 ^ 18 * 2 ^ 18 := by
  have e : w &&& (-262144) = nI (w.toBitVec.toNat / 2 ^ 18 * 2 ^ 18) := by
    apply zb_ext
    intro i hi
    rw [zb_tand]
    have h1 : ∀ i, i < 32 → zb_t (-262144) i = decide (18 ≤ i) := by decide +kernel
    rw [h1 i hi]
    show _ = (BitVec.ofNat 32 (w.toBitVec.toNat / 2 ^ 18 * 2 ^ 18)).getLsbD i
    rw [BitVec.getLsbD_ofNat, Nat.testBit_mul_two_pow]
    by_cases g : 18 ≤ i
    · rw [Nat.testBit_div_two_pow, show i - 18 + 18 = i by omega]
      simp [hi, g]
      rfl
    · simp [g]
  have hlt := w.toBitVec.isLt
  rw [e, pk_tn (by omega)]
theorem ze_fix {w : Int32} {t : Nat} (ht : t ≤ 700) {w' : Int32} (hw : w' = (w &&& (-262144)) ||| nI t) : ze_w w' = ze_w w ∧ ze_a w' = ze_a w ∧ ze_b w' = ze_b w ∧ ze_l w' = nI t := by
  have hn : w'.toBitVec.toNat = w.toBitVec.toNat / 2 ^ 18 * 2 ^ 18 + t := by
    rw [hw, Int32.toBitVec_or, BitVec.toNat_or, ze_hi, pk_tn (by omega), ze_or (by omega)]
  refine ⟨?_, ?_, ?_, ?_⟩
  · rw [ze_dw, ze_dw, hn]; congr 1; omega
  · rw [ze_da, ze_da, hn]; congr 1; omega
  · rw [ze_db, ze_db, hn]; congr 1; omega
  · rw [ze_dl, hn]; congr 1; omega
/-- a word ahead of which the places X hold numbers 0 to 2, behind it the places Y (0 to 7 registers, 8 to 18 homes, 19: a step was counted); P: where a jump may go -/
def ze_ok (w : Int32) (X Y : Nat → Prop) (P : Int32 → (Nat → Prop) → Prop) : Prop :=
  (((¬ ze_w w < 3 ∧ ¬ 12 < ze_w w) ∨ 32 < ze_w w ∨ ze_w w = 17 ∨ ze_w w = 18 ∨ ze_w w = 20) ∧ ∀ l, Y l → l ≠ (ze_a w).toNatClampNeg ∧ X l) ∨
  (ze_w w = 16 ∧ ∀ l, Y l → (l = (ze_a w).toNatClampNeg ∧ vp_in (ze_n w) 3) ∨ (l ≠ (ze_a w).toNatClampNeg ∧ X l)) ∨
  (ze_w w = 19 ∧ ∀ l, Y l → (l = (ze_a w).toNatClampNeg ∧ X (ze_b w).toNatClampNeg) ∨ (l ≠ (ze_a w).toNatClampNeg ∧ X l)) ∨
  (ze_w w = 21 ∧ X (ze_b w).toNatClampNeg ∧ ∀ l, Y l → l ≠ (ze_a w).toNatClampNeg ∧ X l) ∨
  (ze_w w = 22 ∧ X (ze_a w).toNatClampNeg ∧ ∀ l, Y l → X l) ∨
  (ze_w w = 23 ∧ vp_in (ze_l w) 11 ∧ ∀ l, Y l → (l = (ze_a w).toNatClampNeg ∧ X (8 + (ze_l w).toNatClampNeg)) ∨ (l ≠ (ze_a w).toNatClampNeg ∧ X l)) ∨
  (ze_w w = 24 ∧ vp_in (ze_l w) 11 ∧ ∀ l, Y l → (l = 8 + (ze_l w).toNatClampNeg ∧ X (ze_a w).toNatClampNeg) ∨ (l ≠ 8 + (ze_l w).toNatClampNeg ∧ X l)) ∨
  ((ze_w w = 25 ∨ ze_w w = 26 ∨ ze_w w = 27) ∧ X 19 ∧ (ze_w w ≠ 27 → ∀ l, Y l → l ≠ 19 ∧ X l) ∧ P (ze_l w) X) ∨
  (ze_w w = 28 ∧ vp_in (ze_l w) 701 ∧ 0 < (ze_l w).toNatClampNeg ∧ ∀ l, Y l → l = 19 ∨ X l) ∨
  (ze_w w = 29 ∧ X 19 ∧ ∀ l, Y l → l ≠ 19 ∧ X l) ∨
  (ze_w w = 30 ∧ X 19)
/-- less may be known behind it -/
theorem ze_ok_s {w : Int32} {X Y Y' : Nat → Prop} {P : Int32 → (Nat → Prop) → Prop} (h : ze_ok w X Y P) (g : ∀ l, Y' l → Y l) : ze_ok w X Y' P := by
  rcases h with h | h | h | h | h | h | h | h | h | h | h
  · exact Or.inl ⟨h.1, fun l y => h.2 l (g l y)⟩
  · exact Or.inr (Or.inl ⟨h.1, fun l y => h.2 l (g l y)⟩)
  · exact Or.inr (Or.inr (Or.inl ⟨h.1, fun l y => h.2 l (g l y)⟩))
  · exact Or.inr (Or.inr (Or.inr (Or.inl ⟨h.1, h.2.1, fun l y => h.2.2 l (g l y)⟩)))
  · exact Or.inr (Or.inr (Or.inr (Or.inr (Or.inl ⟨h.1, h.2.1, fun l y => h.2.2 l (g l y)⟩))))
  · exact Or.inr (Or.inr (Or.inr (Or.inr (Or.inr (Or.inl ⟨h.1, h.2.1, fun l y => h.2.2 l (g l y)⟩)))))
  · exact Or.inr (Or.inr (Or.inr (Or.inr (Or.inr (Or.inr (Or.inl ⟨h.1, h.2.1, fun l y => h.2.2 l (g l y)⟩))))))
  · exact Or.inr (Or.inr (Or.inr (Or.inr (Or.inr (Or.inr (Or.inr (Or.inl ⟨h.1, h.2.1, fun z l y => h.2.2.1 z l (g l y), h.2.2.2⟩)))))))
  · exact Or.inr (Or.inr (Or.inr (Or.inr (Or.inr (Or.inr (Or.inr (Or.inr (Or.inl ⟨h.1, h.2.1, h.2.2.1, fun l y => h.2.2.2 l (g l y)⟩))))))))
  · exact Or.inr (Or.inr (Or.inr (Or.inr (Or.inr (Or.inr (Or.inr (Or.inr (Or.inr (Or.inl ⟨h.1, h.2.1, fun l y => h.2.2 l (g l y)⟩)))))))))
  · exact Or.inr (Or.inr (Or.inr (Or.inr (Or.inr (Or.inr (Or.inr (Or.inr (Or.inr (Or.inr h)))))))))
/-- the code may be run -/
def ze_cg (cd : Nat → Int32) (ce : Nat) (co : Nat → Int32) : Prop :=
  ce ≤ 700 ∧ zr_co co ∧ ∃ C : Nat → Nat → Prop, (∀ l, ¬ C 0 l) ∧ (∀ p, p < ce → ze_ok (cd p) (C p) (C (p + 1)) (fun lo X => ∃ t, t ≤ ce ∧ lo = nI t ∧ ∀ l, C t l → l ≠ 19 ∧ X l)) ∧ C ce 19
end
section
/-! from operations to words: one entry -/
/-- where a value lies -/
def ze_loc (co : Nat → Int32) (v : Int32) : Nat := if co v.toNatClampNeg < 0 then 8 + v.toNatClampNeg else (co v.toNatClampNeg).toNatClampNeg
theorem ze_loc_h {co : Nat → Int32} {v : Int32} (h : co v.toNatClampNeg = -1) : ze_loc co v = 8 + v.toNatClampNeg := if_pos (by rw [h]; decide)
theorem ze_loc_c {co : Nat → Int32} {v : Int32} (h : vp_in (co v.toNatClampNeg) 5) : ze_loc co v = (co v.toNatClampNeg).toNatClampNeg := if_neg (zb_nn h)
/-- no place of the machine's own use -/
def ze_ns (l : Nat) : Prop := l ≠ 5 ∧ l ≠ 6 ∧ l ≠ 7
theorem ze_loc_ns {co : Nat → Int32} {v : Int32} (hco : zr_co co) (hv : vp_in v 11) : ze_ns (ze_loc co v) ∧ ze_loc co v < 19 := by
  have l := zb_lt hv
  unfold ze_ns
  rcases hco v hv with h | h
  · rw [ze_loc_h h]; omega
  · have := zb_lt h
    rw [ze_loc_c h]; omega
theorem ze_loc_ne {co : Nat → Int32} {v w : Int32} (hco : zr_co co) (hv : vp_in v 11) (hw : vp_in w 11) (hne : w ≠ v) (h : vp_in (co v.toNatClampNeg) 5 → co w.toNatClampNeg ≠ co v.toNatClampNeg) : ze_loc co w ≠ ze_loc co v := by
  have lv := zb_lt hv
  have lw := zb_lt hw
  rcases hco v hv with a | a <;> rcases hco w hw with b | b
  · rw [ze_loc_h a, ze_loc_h b]
    exact fun z => hne (zb_inj hw hv (by omega))
  · have := zb_lt b
    rw [ze_loc_h a, ze_loc_c b]; omega
  · have := zb_lt a
    rw [ze_loc_c a, ze_loc_h b]; omega
  · rw [ze_loc_c a, ze_loc_c b]
    exact fun z => h a (zb_inj b a z)
def ze_W (cd : Nat → Int32) (p : Nat) (P : Int32 → (Nat → Prop) → Prop) (C : Nat → Nat → Prop) : Prop := ∀ q, q < p → ze_ok (cd q) (C q) (C (q + 1)) P
def ze_le (p : Nat) (C C' : Nat → Nat → Prop) : Prop := ∀ q, q ≤ p → ∀ l, C' q l → C q l
theorem ze_le_r (p : Nat) (C : Nat → Nat → Prop) : ze_le p C C := fun _ _ _ h => h
theorem ze_le_t {p p' : Nat} {C C' C'' : Nat → Nat → Prop} (h : ze_le p C C') (hp : p ≤ p') (g : ze_le p' C' C'') : ze_le p C C'' := fun q hq l y => h q hq l (g q (by omega) l y)
/-- less may be known at the end -/
theorem ze_shr {cd : Nat → Int32} {p : Nat} {P : Int32 → (Nat → Prop) → Prop} {C : Nat → Nat → Prop} {Z : Nat → Prop} (hW : ze_W cd p P C) (hZ : ∀ l, Z l → C p l) : ze_W cd p P (fun q => if q = p then Z else C q) ∧ ze_le p C (fun q => if q = p then Z else C q) := by
  refine ⟨fun q hq => ?_, fun q hq l y => ?_⟩
  · (try dsimp only)
    rw [if_neg (show q ≠ p by omega)]
    by_cases z : q + 1 = p
    · rw [if_pos z]
      have := hW q hq
      rw [z] at this
      exact ze_ok_s this hZ
    · rw [if_neg z]; exact hW q hq
  · (try dsimp only at y)
    by_cases z : q = p
    · rw [if_pos z] at y; rw [z]; exact hZ l y
    · rw [if_neg z] at y; exact y
section
variable {le ck va dn sn ln wc tr tf li tk tc lv ce sc gi pc : Int32} {iw : Int64} {a1 a2 a3 a4 a5 a6 a7 a8 a9 a10 a11 a12 a13 a14 a15 a16 a17 a18 a19 a20 a21 a22 a23 a24 a25 a26 a27 a28 a29 a30 : Nat → Int32}
theorem ze_word {post : St1 → Prop} {p o x y : Nat} {low : Int32} {P : Int32 → (Nat → Prop) → Prop} {C : Nat → Nat → Prop} (Y : Nat → Prop) (hp : p < 700) (ho : o < 64) (hx : x < 8) (hy : y < 8) (hW : ze_W a25 p P C)
    (hok : ∀ w, ze_w w = nI o → ze_a w = nI x → ze_b w = nI y → ze_l w = low &&& 262143 → (vp_in low 3 → ze_n w = low) → ze_ok w (C p) Y P)
    (h : ∀ a25 C', ze_le p C C' → ze_W a25 (p + 1) P C' → (∀ l, C' (p + 1) l ↔ Y l) → post (le, ck, va, dn, sn, ln, wc, iw, tr, tf, li, tk, tc, lv, nI (p + 1), sc, gi, pc, a1, a2, a3, a4, a5, a6, a7, a8, a9, a10, a11, a12, a13, a14, a15, a16, a17, a18, a19, a20, a21, a22, a23, a24, a25, a26, a27, a28, a29, a30)) : wpX_word post (le, ck, va, dn, sn, ln, wc, iw, tr, tf, li, tk, tc, lv, nI p, sc, gi, pc, a1, a2, a3, a4, a5, a6, a7, a8, a9, a10, a11, a12, a13, a14, a15, a16, a17, a18, a19, a20, a21, a22, a23, a24, a25, a26, a27, a28, a29, a30) (nI o) (nI x) (nI y) low := by
  refine ⟨zb_in hp, nm_r (e' := upd a25 p ((((nI o <<< ((26 : Int32) &&& 31)) ||| (nI x <<< ((22 : Int32) &&& 31))) ||| (nI y <<< ((18 : Int32) &&& 31))) ||| (low &&& 262143))) (by rw [zb_cl hp]) (nm_r (nI_1 p) ?_)⟩
  obtain ⟨d1, d2, d3, d4, d5⟩ := ze_dec ho hx hy low rfl
  refine h _ (fun q => if q = p + 1 then Y else C q) (fun q hq l z => ?_) (fun q hq => ?_) (fun l => ?_)
  · (try dsimp only at z)
    rw [if_neg (by omega)] at z; exact z
  · (try dsimp only)
    rw [if_neg (show q ≠ p + 1 by omega)]
    by_cases z : q = p
    · rw [z, pk_us, if_pos rfl]
      exact hok _ d1 d2 d3 d4 d5
    · rw [pk_un z, if_neg (by omega)]
      exact hW q (by omega)
  · rw [if_pos rfl]
theorem ze_low {k : Int32} {n : Nat} (h : vp_in k n) (hn : n ≤ 262144) : k &&& 262143 = k := by
  have e := zb_nI h (by omega)
  have l := zb_lt h
  rw [e, pk_andN (by omega) 18 (by decide), Nat.mod_eq_of_lt (by omega)]
theorem ze_bring {post : Int32 → St1 → Prop} {p sq : Nat} {v : Int32} {P : Int32 → (Nat → Prop) → Prop} {C : Nat → Nat → Prop} (hp : p < 700) (hsq : sq = 5 ∨ sq = 6 ∨ sq = 7) (hv : vp_in v 11) (hco : zr_co a23) (hW : ze_W a25 p P C)
    (h : ∀ r p' a25 C', r < 8 → p ≤ p' → p' ≤ p + 1 → ze_le p C C' → ze_W a25 p' P C' → (C p (ze_loc a23 v) → C' p' r) → (∀ l, l ≠ sq → (C' p' l ↔ C p l)) → ((r = sq ∧ a23 v.toNatClampNeg = -1) ∨ (r = ze_loc a23 v ∧ vp_in (a23 v.toNatClampNeg) 5)) → post (nI r) (le, ck, va, dn, sn, ln, wc, iw, tr, tf, li, tk, tc, lv, nI p', sc, gi, pc, a1, a2, a3, a4, a5, a6, a7, a8, a9, a10, a11, a12, a13, a14, a15, a16, a17, a18, a19, a20, a21, a22, a23, a24, a25, a26, a27, a28, a29, a30)) :
    wpX_bring post (le, ck, va, dn, sn, ln, wc, iw, tr, tf, li, tk, tc, lv, nI p, sc, gi, pc, a1, a2, a3, a4, a5, a6, a7, a8, a9, a10, a11, a12, a13, a14, a15, a16, a17, a18, a19, a20, a21, a22, a23, a24, a25, a26, a27, a28, a29, a30) v (nI sq) := by
  refine ⟨hv, ?_⟩
  rcases hco v hv with z | z
  · refine br_t (by rw [z]; decide) ?_
    have hl := ze_low (zb_mono hv (by omega : 11 ≤ 262144)) (Nat.le_refl _)
    refine ze_word (o := 23) (y := 0) (fun l => (l = sq ∧ C p (8 + v.toNatClampNeg)) ∨ (l ≠ sq ∧ C p l)) hp (by omega) (by omega) (by omega) hW (fun w d1 d2 d3 d4 d5 => ?_) (fun a25 C' g1 g2 g3 => h sq (p + 1) a25 C' (by omega) (by omega) (by omega) g1 g2 (fun y => ?_) (fun l hl => ?_) (Or.inl ⟨rfl, z⟩))
    · rw [hl] at d4
      refine Or.inr (Or.inr (Or.inr (Or.inr (Or.inr (Or.inl ⟨d1, by rw [d4]; exact hv, fun l y => ?_⟩)))))
      rw [d2, zb_cl (n := sq) (N := 8) (by omega), d4]
      exact y
    · rw [ze_loc_h z] at y
      exact (g3 _).mpr (Or.inl ⟨rfl, y⟩)
    · rw [g3 l]
      exact ⟨fun y => y.elim (fun y => absurd y.1 hl) (fun y => y.2), fun y => Or.inr ⟨hl, y⟩⟩
  · refine br_f (zb_nn z) ⟨hv, ?_⟩
    have l5 := zb_lt z
    have e : a23 v.toNatClampNeg = nI (ze_loc a23 v) := by rw [ze_loc_c z]; exact zb_nI z
    have e5 : ze_loc a23 v < 5 := by rw [ze_loc_c z]; exact l5
    have := h (ze_loc a23 v) p a25 C (by omega) (Nat.le_refl _) (by omega) (ze_le_r _ _) hW id (fun l _ => Iff.rfl) (Or.inr ⟨rfl, z⟩)
    rw [← e] at this
    exact this
theorem ze_home {post : St1 → Prop} {p : Nat} {v : Int32} {P : Int32 → (Nat → Prop) → Prop} {C : Nat → Nat → Prop} (hp : p < 700) (hv : vp_in v 11) (hco : zr_co a23) (hW : ze_W a25 p P C)
    (h : ∀ p' a25 C', p ≤ p' → p' ≤ p + 1 → ze_le p C C' → ze_W a25 p' P C' → (∀ l, l ≠ ze_loc a23 v ∨ vp_in (a23 v.toNatClampNeg) 5 → (C' p' l ↔ C p l)) → (a23 v.toNatClampNeg = -1 → C p 5 → C' p' (ze_loc a23 v)) → post (le, ck, va, dn, sn, ln, wc, iw, tr, tf, li, tk, tc, lv, nI p', sc, gi, pc, a1, a2, a3, a4, a5, a6, a7, a8, a9, a10, a11, a12, a13, a14, a15, a16, a17, a18, a19, a20, a21, a22, a23, a24, a25, a26, a27, a28, a29, a30)) :
    wpX_takeHome post (le, ck, va, dn, sn, ln, wc, iw, tr, tf, li, tk, tc, lv, nI p, sc, gi, pc, a1, a2, a3, a4, a5, a6, a7, a8, a9, a10, a11, a12, a13, a14, a15, a16, a17, a18, a19, a20, a21, a22, a23, a24, a25, a26, a27, a28, a29, a30) v := by
  refine ⟨hv, ?_⟩
  rcases hco v hv with z | z
  · refine br_f (by rw [z]; decide) ?_
    have hl := ze_low (zb_mono hv (by omega : 11 ≤ 262144)) (Nat.le_refl _)
    refine ze_word (o := 24) (x := 5) (y := 0) (fun l => (l = 8 + v.toNatClampNeg ∧ C p 5) ∨ (l ≠ 8 + v.toNatClampNeg ∧ C p l)) hp (by omega) (by omega) (by omega) hW (fun w d1 d2 d3 d4 d5 => ?_) (fun a25 C' g1 g2 g3 => h (p + 1) a25 C' (by omega) (by omega) g1 g2 (fun l hl => ?_) (fun _ y => ?_))
    · rw [hl] at d4
      refine Or.inr (Or.inr (Or.inr (Or.inr (Or.inr (Or.inr (Or.inl ⟨d1, by rw [d4]; exact hv, fun l y => ?_⟩))))))
      rw [d2, d4]
      exact y
    · rw [g3 l]
      have hl' : l ≠ 8 + v.toNatClampNeg := by
        rcases hl with y | y
        · rw [ze_loc_h z] at y; exact y
        · rw [z] at y; exact absurd y (zb_m1 _)
      exact ⟨fun y => y.elim (fun y => absurd y.1 hl') (fun y => y.2), fun y => Or.inr ⟨hl', y⟩⟩
    · rw [ze_loc_h z]
      exact (g3 _).mpr (Or.inl ⟨rfl, y⟩)
  · refine br_t (zb_ge z) (h p a25 C (Nat.le_refl _) (by omega) (ze_le_r _ _) hW (fun l _ => Iff.rfl) (fun y => ?_))
    rw [y] at z; exact absurd z (zb_m1 _)
theorem ze_target {post : Int32 → Prop} {v : Int32} (hv : vp_in v 11) (hco : zr_co a23) (h : ∀ r, r < 6 → ((r = 5 ∧ a23 v.toNatClampNeg = -1) ∨ (r = ze_loc a23 v ∧ vp_in (a23 v.toNatClampNeg) 5)) → post (nI r)) : wpX_target post (le, ck, va, dn, sn, ln, wc, iw, tr, tf, li, tk, tc, lv, ce, sc, gi, pc, a1, a2, a3, a4, a5, a6, a7, a8, a9, a10, a11, a12, a13, a14, a15, a16, a17, a18, a19, a20, a21, a22, a23, a24, a25, a26, a27, a28, a29, a30) v := by
  refine ⟨hv, ?_⟩
  rcases hco v hv with z | z
  · exact br_t (by rw [z]; decide) (h 5 (by omega) (Or.inl ⟨rfl, z⟩))
  · refine br_f (zb_nn z) ⟨hv, ?_⟩
    have l5 := zb_lt z
    have e : a23 v.toNatClampNeg = nI (ze_loc a23 v) := by rw [ze_loc_c z]; exact zb_nI z
    have := h (ze_loc a23 v) (by rw [ze_loc_c z]; omega) (Or.inr ⟨rfl, z⟩)
    rw [← e] at this
    exact this
/-- ADD .. SAME, FETCH -/
theorem ze_two {post : St1 → Prop} {p i : Nat} {P : Int32 → (Nat → Prop) → Prop} {C : Nat → Nat → Prop} {Z : Nat → Prop} (hp : p + 4 ≤ 700) (hi : i < 240) (ho : (¬ a7 i < 3 ∧ ¬ 12 < a7 i) ∨ (a7 i = 14 ∧ vp_in (a10 i) 11 ∧ C p (ze_loc a23 (a9 i)))) (hm : vp_in (a8 i) 11) (hf : vp_in (a9 i) 11) (hs : zb_o (a10 i)) (hco : zr_co a23) (hW : ze_W a25 p P C)
    (hZ : ∀ l, Z l → C p l ∧ ze_ns l ∧ l ≠ ze_loc a23 (a8 i))
    (h : ∀ p' a25 C', p' ≤ p + 4 → ze_le p C C' → p ≤ p' → ze_W a25 p' P C' → (∀ l, Z l → C' p' l) → post (le, ck, va, dn, sn, ln, wc, iw, tr, tf, li, tk, tc, lv, nI p', sc, gi, pc, a1, a2, a3, a4, a5, a6, a7, a8, a9, a10, a11, a12, a13, a14, a15, a16, a17, a18, a19, a20, a21, a22, a23, a24, a25, a26, a27, a28, a29, a30)) : wpX_encodeTwo post (le, ck, va, dn, sn, ln, wc, iw, tr, tf, li, tk, tc, lv, nI p, sc, gi, pc, a1, a2, a3, a4, a5, a6, a7, a8, a9, a10, a11, a12, a13, a14, a15, a16, a17, a18, a19, a20, a21, a22, a23, a24, a25, a26, a27, a28, a29, a30) (nI i) (a7 i) := by
  have v := zb_in hi
  have c := zb_cl hi
  have h23 : vp_in (a7 i) 23 := by
    rcases ho with z | z
    · exact zt_c23 z
    · rw [z.1]; exact zb_in (n := 14) (by omega)
  refine ⟨v, ?_⟩
  (try rw [c])
  refine ze_bring (sq := 5) (by omega) (Or.inl rfl) hf hco hW (fun ra p1 b25 C1 r8 q0 q1 l1 W1 x1 x2 x3 => ⟨v, ?_⟩)
  (try rw [c])
  refine ze_target hm hco (fun mu m6 hmu => ⟨v, ?_⟩)
  (try rw [c])
  have ra6 : ra ≠ 6 := by
    rcases x3 with z | z
    · omega
    · rw [z.1]; exact (ze_loc_ns hco hf).1.2.1
  -- behind the word
  have fin : ∀ p2 b25 C2, p2 ≤ p + 3 → p ≤ p2 → ze_le p C C2 → ze_W b25 p2 P C2 → (∀ l, l ≠ 5 → l ≠ 6 → l ≠ mu → C p l → C2 p2 l) → wX_encodeTwo_88 post (nI i) le ck va dn sn ln wc iw tr tf li tk tc lv (nI p2) sc gi pc a1 a2 a3 a4 a5 a6 a7 a8 a9 a10 a11 a12 a13 a14 a15 a16 a17 a18 a19 a20 a21 a22 a23 a24 b25 a26 a27 a28 a29 a30 := by
    intro p2 b25 C2 q2 q3 l2 W2 hk
    refine ⟨v, ?_⟩
    (try rw [c])
    refine ze_home (by omega) hm hco W2 (fun p3 d25 C3 q4 q5 l3 W3 y1 y2 => h p3 d25 C3 (by omega) (ze_le_t l2 q3 l3) (by omega) W3 (fun l zl => ?_))
    obtain ⟨z1, z2, z3⟩ := hZ l zl
    refine (y1 l (Or.inl z3)).mpr (hk l z2.1 z2.2.1 ?_ z1)
    rcases hmu with t | t
    · rw [t.1]; exact z2.1
    · rw [t.1]; exact z3
  refine br_c (fun g => ⟨v, ?_⟩) (fun g => ⟨v, ?_⟩)
  · (try rw [c])
    have hs11 := zb_op hs (Int32.not_lt.mpr g)
    refine ze_bring (sq := 6) (by omega) (Or.inr (Or.inl rfl)) hs11 hco W1 (fun rb p2 b25 C2 r82 q2 q3 l2 W2 y1 y2 y3 => ?_)
    rcases ho with z | ⟨z, z10, zf⟩
    · refine br_f (zt_cne z (by decide)) ?_
      have eo : a7 i = nI (a7 i).toNatClampNeg := zb_nI h23
      have lo := zb_lt h23
      unfold wX_encodeTwo_80
      rw [eo]
      refine ze_word (fun l => l ≠ mu ∧ C2 p2 l) (by omega) (by omega) (by omega) (by omega) W2 (fun w d1 d2 d3 d4 d5 => ?_) (fun e25 C3 l3 W3 y4 => ?_)
      · rw [← eo] at d1
        refine Or.inl ⟨Or.inl (by rw [d1]; exact z), fun l y => ?_⟩
        rw [d2, zb_cl (n := mu) (N := 8) (by omega)]; exact y
      · refine fin (p2 + 1) e25 C3 (by omega) (by omega) (ze_le_t (ze_le_t l1 q0 l2) (by omega) l3) W3 (fun l n5 n6 nm cl => (y4 l).mpr ⟨nm, (y2 l n6).mpr ((x2 l n5).mpr cl)⟩)
    · refine br_t z ?_
      unfold wX_encodeTwo_80
      refine ze_word (o := 21) (fun l => l ≠ mu ∧ C2 p2 l) (by omega) (by omega) (by omega) (by omega) W2 (fun w d1 d2 d3 d4 d5 => ?_) (fun e25 C3 l3 W3 y4 => ?_)
      · refine Or.inr (Or.inr (Or.inr (Or.inl ⟨d1, ?_, fun l y => ?_⟩)))
        · rw [d3, zb_cl (n := ra) (N := 8) r8]
          exact (y2 ra ra6).mpr (x1 zf)
        · rw [d2, zb_cl (n := mu) (N := 8) (by omega)]; exact y
      · refine fin (p2 + 1) e25 C3 (by omega) (by omega) (ze_le_t (ze_le_t l1 q0 l2) (by omega) l3) W3 (fun l n5 n6 nm cl => (y4 l).mpr ⟨nm, (y2 l n6).mpr ((x2 l n5).mpr cl)⟩)
  · (try rw [c])
    rcases ho with z | ⟨z, z10, zf⟩
    · have eo : a7 i = nI (a7 i).toNatClampNeg := zb_nI h23
      have lo := zb_lt h23
      have e32 : 32 + a7 i = nI (32 + (a7 i).toNatClampNeg) := by
        rw [← nI_add, ← eo]; rfl
      rw [e32]
      refine ze_word (fun l => l ≠ mu ∧ C1 p1 l) (by omega) (by omega) (by omega) (by omega) W1 (fun w d1 d2 d3 d4 d5 => ?_) (fun e25 C3 l3 W3 y4 => ?_)
      · refine Or.inl ⟨Or.inr (Or.inl ?_), fun l y => ?_⟩
        · rw [d1]
          refine nI_lt (a := 32) ?_ (by omega)
          have : (a7 i).toNatClampNeg ≠ 0 := fun y => zt_cne z (c := 0) (by decide) (by rw [eo, y]; rfl)
          omega
        · rw [d2, zb_cl (n := mu) (N := 8) (by omega)]; exact y
      · refine fin (p1 + 1) e25 C3 (by omega) (by omega) (ze_le_t l1 q0 l3) W3 (fun l n5 n6 nm cl => (y4 l).mpr ⟨nm, (x2 l n5).mpr cl⟩)
    · exact absurd (zb_ge z10) g
/-- KEEP -/
theorem ze_keep {post : St1 → Prop} {p i : Nat} {P : Int32 → (Nat → Prop) → Prop} {C : Nat → Nat → Prop} {Z : Nat → Prop} (hp : p + 4 ≤ 700) (hi : i < 240) (hm : vp_in (a8 i) 11) (hf : vp_in (a9 i) 11) (hs : vp_in (a10 i) 11) (hco : zr_co a23) (hW : ze_W a25 p P C)
    (hX : C p (ze_loc a23 (a9 i))) (hZ : ∀ l, Z l → C p l ∧ ze_ns l)
    (h : ∀ p' a25 C', p' ≤ p + 4 → ze_le p C C' → p ≤ p' → ze_W a25 p' P C' → (∀ l, Z l → C' p' l) → post (le, ck, va, dn, sn, ln, wc, iw, tr, tf, li, tk, tc, lv, nI p', sc, gi, pc, a1, a2, a3, a4, a5, a6, a7, a8, a9, a10, a11, a12, a13, a14, a15, a16, a17, a18, a19, a20, a21, a22, a23, a24, a25, a26, a27, a28, a29, a30)) : wpX_encodeKeep post (le, ck, va, dn, sn, ln, wc, iw, tr, tf, li, tk, tc, lv, nI p, sc, gi, pc, a1, a2, a3, a4, a5, a6, a7, a8, a9, a10, a11, a12, a13, a14, a15, a16, a17, a18, a19, a20, a21, a22, a23, a24, a25, a26, a27, a28, a29, a30) (nI i) := by
  have v := zb_in hi
  have c := zb_cl hi
  refine ⟨v, ?_⟩
  (try rw [c])
  refine ze_bring (sq := 5) (by omega) (Or.inl rfl) hf hco hW (fun ra p1 b25 C1 r8 q0 q1 l1 W1 x1 x2 x3 => ⟨v, ?_⟩)
  (try rw [c])
  refine ze_bring (sq := 6) (by omega) (Or.inr (Or.inl rfl)) hs hco W1 (fun rb p2 c25 C2 r82 q2 q3 l2 W2 y1 y2 y3 => ⟨v, ?_⟩)
  (try rw [c])
  refine ze_bring (sq := 7) (by omega) (Or.inr (Or.inr rfl)) hm hco W2 (fun rc p3 d25 C3 r83 q4 q5 l3 W3 z1 z2 z3 => ?_)
  have ra67 : ra ≠ 6 ∧ ra ≠ 7 := by
    rcases x3 with z | z
    · omega
    · rw [z.1]; exact (ze_loc_ns hco hf).1.2
  refine ze_word (o := 22) (fun l => C3 p3 l) (by omega) (by omega) (by omega) (by omega) W3 (fun w d1 d2 d3 d4 d5 => ?_) (fun e25 C4 l4 W4 y4 => ?_)
  · refine Or.inr (Or.inr (Or.inr (Or.inr (Or.inl ⟨d1, ?_, fun l y => y⟩))))
    rw [d2, zb_cl (n := ra) (N := 8) r8]
    exact (z2 ra ra67.2).mpr ((y2 ra ra67.1).mpr (x1 hX))
  · refine h (p3 + 1) e25 C4 (by omega) (ze_le_t (ze_le_t (ze_le_t l1 q0 l2) (by omega) l3) (by omega) l4) (by omega) W4 (fun l zl => ?_)
    obtain ⟨t1, t2⟩ := hZ l zl
    exact (y4 l).mpr ((z2 l t2.2.2).mpr ((y2 l t2.2.1).mpr ((x2 l t2.1).mpr t1)))
theorem ze_small {post : Int32 → Prop} {k : Int32} (h0 : ¬ vp_in k 3 → post 0) (h1 : post 1) : wpX_isSmall post (le, ck, va, dn, sn, ln, wc, iw, tr, tf, li, tk, tc, lv, ce, sc, gi, pc, a1, a2, a3, a4, a5, a6, a7, a8, a9, a10, a11, a12, a13, a14, a15, a16, a17, a18, a19, a20, a21, a22, a23, a24, a25, a26, a27, a28, a29, a30) k := by
  refine br_c (fun z => h0 (fun g => zb_nn g (Int32.lt_trans z (by decide)))) (fun _ => br_c (fun z => h0 (fun g => ?_)) (fun _ => h1))
  have e := zb_nI g
  have l := zb_lt g
  rw [e] at z
  exact nI_nlt (a := 100000) (b := k.toNatClampNeg) (by omega) (by omega) z
/-- NUMBER, MOVE, NOT -/
theorem ze_making {post : St1 → Prop} {p i : Nat} {P : Int32 → (Nat → Prop) → Prop} {C : Nat → Nat → Prop} {Z : Nat → Prop} (hp : p + 3 ≤ 700) (hi : i < 240) (ho : a7 i = 1 ∨ ((a7 i = 2 ∨ a7 i = 13) ∧ vp_in (a9 i) 11)) (hm : vp_in (a8 i) 11) (hco : zr_co a23) (hW : ze_W a25 p P C)
    (hZ : ∀ l, Z l → (l = ze_loc a23 (a8 i) ∧ ((a7 i = 1 ∧ vp_in (a11 i) 3) ∨ (a7 i = 2 ∧ C p (ze_loc a23 (a9 i))))) ∨ (C p l ∧ ze_ns l ∧ l ≠ ze_loc a23 (a8 i)))
    (h : ∀ p' a25 C', p' ≤ p + 3 → ze_le p C C' → p ≤ p' → ze_W a25 p' P C' → (∀ l, Z l → C' p' l) → post (le, ck, va, dn, sn, ln, wc, iw, tr, tf, li, tk, tc, lv, nI p', sc, gi, pc, a1, a2, a3, a4, a5, a6, a7, a8, a9, a10, a11, a12, a13, a14, a15, a16, a17, a18, a19, a20, a21, a22, a23, a24, a25, a26, a27, a28, a29, a30)) : wpX_encodeMaking post (le, ck, va, dn, sn, ln, wc, iw, tr, tf, li, tk, tc, lv, nI p, sc, gi, pc, a1, a2, a3, a4, a5, a6, a7, a8, a9, a10, a11, a12, a13, a14, a15, a16, a17, a18, a19, a20, a21, a22, a23, a24, a25, a26, a27, a28, a29, a30) (nI i) (a7 i) := by
  have v := zb_in hi
  have c := zb_cl hi
  have lm := (ze_loc_ns hco hm).1
  refine ⟨v, ?_⟩
  (try rw [c])
  refine ze_target hm hco (fun mu m6 hmu => ?_)
  -- behind the words
  have fin : ∀ p2 b25 C2, p2 ≤ p + 2 → p ≤ p2 → ze_le p C C2 → ze_W b25 p2 P C2 → (∀ l, ze_ns l → l ≠ mu → C p l → C2 p2 l) → (((a7 i = 1 ∧ vp_in (a11 i) 3) ∨ (a7 i = 2 ∧ C p (ze_loc a23 (a9 i)))) → C2 p2 mu) → wX_encodeMaking_77 post (nI i) le ck va dn sn ln wc iw tr tf li tk tc lv (nI p2) sc gi pc a1 a2 a3 a4 a5 a6 a7 a8 a9 a10 a11 a12 a13 a14 a15 a16 a17 a18 a19 a20 a21 a22 a23 a24 b25 a26 a27 a28 a29 a30 := by
    intro p2 b25 C2 q2 q3 l2 W2 hk hmk
    refine ⟨v, ?_⟩
    (try rw [c])
    refine ze_home (by omega) hm hco W2 (fun p3 d25 C3 q4 q5 l3 W3 y1 y2 => h p3 d25 C3 (by omega) (ze_le_t l2 q3 l3) (by omega) W3 (fun l zl => ?_))
    rcases hZ l zl with ⟨z1, z2⟩ | ⟨z1, z2, z3⟩
    · have := hmk z2
      rcases hmu with t | t
      · rw [z1]; rw [t.1] at this; exact y2 t.2 this
      · rw [z1]; rw [t.1] at this; exact (y1 _ (Or.inr t.2)).mpr this
    · refine (y1 l (Or.inl z3)).mpr (hk l z2 ?_ z1)
      rcases hmu with t | t
      · rw [t.1]; exact z2.1
      · rw [t.1]; exact z3
  rcases ho with ho | ⟨ho, hf⟩
  · refine br_t ho ⟨v, ?_⟩
    (try rw [c])
    unfold wpX_encodeNumber
    refine ze_small (fun hn => br_t rfl ?_) (br_f (by decide) ?_)
    · refine ze_word (o := 17) (y := 0) (fun l => l ≠ mu ∧ C p l) (by omega) (by omega) (by omega) (by omega) hW (fun w d1 d2 d3 d4 d5 => ?_) (fun b25 C2 l2 W2 y2 => ?_)
      · refine Or.inl ⟨Or.inr (Or.inr (Or.inl d1)), fun l y => ?_⟩
        rw [d2, zb_cl (n := mu) (N := 8) (by omega)]; exact y
      · refine ze_word (o := 18) (fun l => l ≠ mu ∧ C2 (p + 1) l) (by omega) (by omega) (by omega) (by omega) W2 (fun w d1 d2 d3 d4 d5 => ?_) (fun d25 C3 l3 W3 y3 => ?_)
        · refine Or.inl ⟨Or.inr (Or.inr (Or.inr (Or.inl d1))), fun l y => ?_⟩
          rw [d2, zb_cl (n := mu) (N := 8) (by omega)]; exact y
        · refine fin (p + 1 + 1) d25 C3 (by omega) (by omega) (ze_le_t l2 (by omega) l3) W3 (fun l n1 n2 cl => (y3 l).mpr ⟨n2, (y2 l).mpr ⟨n2, cl⟩⟩) (fun y => ?_)
          rcases y with y | y
          · exact absurd y.2 hn
          · rw [ho] at y; exact absurd y.1 (by decide)
    · refine ze_word (o := 16) (y := 0) (fun l => (l = mu ∧ vp_in (a11 i) 3) ∨ (l ≠ mu ∧ C p l)) (by omega) (by omega) (by omega) (by omega) hW (fun w d1 d2 d3 d4 d5 => ?_) (fun b25 C2 l2 W2 y2 => ?_)
      · refine Or.inr (Or.inl ⟨d1, fun l y => ?_⟩)
        rw [d2, zb_cl (n := mu) (N := 8) (by omega)]
        exact y.imp (fun y => ⟨y.1, by rw [d5 y.2]; exact y.2⟩) id
      · refine fin (p + 1) b25 C2 (by omega) (by omega) l2 W2 (fun l n1 n2 cl => (y2 l).mpr (Or.inr ⟨n2, cl⟩)) (fun y => (y2 mu).mpr (Or.inl ⟨rfl, ?_⟩))
        rcases y with y | y
        · exact y.2
        · rw [ho] at y; exact absurd y.1 (by decide)
  · have n1 : a7 i ≠ 1 := by rcases ho with z | z <;> rw [z] <;> decide
    refine br_f n1 ⟨v, ?_⟩
    (try rw [c])
    refine ze_bring (sq := 6) (by omega) (Or.inr (Or.inl rfl)) hf hco hW (fun ra p1 b25 C1 r8 q0 q1 l1 W1 x1 x2 x3 => ?_)
    have mu6 : mu ≠ 6 := by omega
    have k70 : ∀ o : Nat, (o = 20 ∨ o = 19) → (o = 20 → a7 i = 13) → wX_encodeMaking_70 post (nI i) (nI mu) (nI ra) (nI o) le ck va dn sn ln wc iw tr tf li tk tc lv (nI p1) sc gi pc a1 a2 a3 a4 a5 a6 a7 a8 a9 a10 a11 a12 a13 a14 a15 a16 a17 a18 a19 a20 a21 a22 a23 a24 b25 a26 a27 a28 a29 a30 := by
      intro o ho2 ho3
      unfold wX_encodeMaking_70
      refine ze_word (y := ra) (fun l => (l = mu ∧ o = 19 ∧ C1 p1 ra) ∨ (l ≠ mu ∧ C1 p1 l)) (by omega) (by omega) (by omega) (by omega) W1 (fun w d1 d2 d3 d4 d5 => ?_) (fun d25 C2 l2 W2 y2 => ?_)
      · rcases ho2 with z | z
        · subst z
          refine Or.inl ⟨Or.inr (Or.inr (Or.inr (Or.inr d1))), fun l y => ?_⟩
          rw [d2, zb_cl (n := mu) (N := 8) (by omega)]
          rcases y with y | y
          · exact absurd y.2.1 (by omega)
          · exact y
        · subst z
          refine Or.inr (Or.inr (Or.inl ⟨d1, fun l y => ?_⟩))
          rw [d2, d3, zb_cl (n := mu) (N := 8) (by omega), zb_cl (n := ra) (N := 8) r8]
          exact y.imp (fun y => ⟨y.1, y.2.2⟩) id
      · refine fin (p1 + 1) d25 C2 (by omega) (by omega) (ze_le_t l1 q0 l2) W2 (fun l t1 t2 cl => (y2 l).mpr (Or.inr ⟨t2, (x2 l t1.2.1).mpr cl⟩)) (fun y => (y2 mu).mpr (Or.inl ⟨rfl, ?_, ?_⟩))
        · rcases y with y | y
          · exact absurd y.1 n1
          · rcases ho2 with z | z
            · rw [ho3 z] at y; exact absurd y.1 (by decide)
            · exact z
        · rcases y with y | y
          · exact absurd y.1 n1
          · exact x1 y.2
    have k56 : wX_encodeMaking_56 post (nI i) (a7 i) (nI mu) (nI ra) le ck va dn sn ln wc iw tr tf li tk tc lv (nI p1) sc gi pc a1 a2 a3 a4 a5 a6 a7 a8 a9 a10 a11 a12 a13 a14 a15 a16 a17 a18 a19 a20 a21 a22 a23 a24 b25 a26 a27 a28 a29 a30 := br_c (fun z => k70 20 (Or.inl rfl) (fun _ => z)) (fun z => k70 19 (Or.inr rfl) (fun y => absurd y (by decide)))
    refine br_c (fun _ => k56) (fun n13 => br_c (fun z => ?_) (fun _ => k56))
    have em : ra = mu := (nI_eq (by omega) (by omega)).mp z
    refine fin p1 b25 C1 (by omega) q0 l1 W1 (fun l t1 t2 cl => (x2 l t1.2.1).mpr cl) (fun y => ?_)
    rcases y with y | y
    · exact absurd y.1 n1
    · rw [← em]; exact x1 y.2
/-- BRANCH, BRANCH_ABOVE, OUTPUT, GIVE -/
theorem ze_using {post : St1 → Prop} {p i : Nat} {P : Int32 → (Nat → Prop) → Prop} {C : Nat → Nat → Prop} {Z : Nat → Prop} (hp : p + 2 ≤ 700) (hi : i < 240) (ho : a7 i = 16 ∨ a7 i = 17 ∨ a7 i = 21 ∨ a7 i = 22) (hf : vp_in (a9 i) 11) (hco : zr_co a23) (hW : ze_W a25 p P C)
    (hA : C p 19) (hZ : a7 i ≠ 22 → ∀ l, Z l → C p l ∧ ze_ns l ∧ l ≠ 19)
    (hP : (a7 i = 16 ∨ a7 i = 17) → vp_in (a11 i) 40 ∧ ∀ X : Nat → Prop, (∀ l, ze_ns l → C p l → X l) → P (a11 i) X)
    (h : ∀ p' a25 C', p' ≤ p + 2 → ze_le p C C' → p ≤ p' → ze_W a25 p' P C' → (∀ l, Z l → C' p' l) → post (le, ck, va, dn, sn, ln, wc, iw, tr, tf, li, tk, tc, lv, nI p', sc, gi, pc, a1, a2, a3, a4, a5, a6, a7, a8, a9, a10, a11, a12, a13, a14, a15, a16, a17, a18, a19, a20, a21, a22, a23, a24, a25, a26, a27, a28, a29, a30)) : wpX_encodeUsing post (le, ck, va, dn, sn, ln, wc, iw, tr, tf, li, tk, tc, lv, nI p, sc, gi, pc, a1, a2, a3, a4, a5, a6, a7, a8, a9, a10, a11, a12, a13, a14, a15, a16, a17, a18, a19, a20, a21, a22, a23, a24, a25, a26, a27, a28, a29, a30) (nI i) (a7 i) := by
  have v := zb_in hi
  have c := zb_cl hi
  refine ⟨v, ?_⟩
  (try rw [c])
  refine ze_bring (sq := 5) (by omega) (Or.inl rfl) hf hco hW (fun ra p1 b25 C1 r8 q0 q1 l1 W1 x1 x2 x3 => ?_)
  have A1 : C1 p1 19 := (x2 19 (by omega)).mpr hA
  have jmp : ∀ o : Nat, (o = 25 ∨ o = 26) → (a7 i = 16 ∨ a7 i = 17) → wpX_word post (le, ck, va, dn, sn, ln, wc, iw, tr, tf, li, tk, tc, lv, nI p1, sc, gi, pc, a1, a2, a3, a4, a5, a6, a7, a8, a9, a10, a11, a12, a13, a14, a15, a16, a17, a18, a19, a20, a21, a22, a23, a24, b25, a26, a27, a28, a29, a30) (nI o) (nI ra) (nI 0) (a11 i) := by
    intro o ho2 ho3
    obtain ⟨k40, kP⟩ := hP ho3
    have hl := ze_low (zb_mono k40 (by omega : 40 ≤ 262144)) (Nat.le_refl _)
    refine ze_word Z (by omega) (by omega) (by omega) (by omega) W1 (fun w d1 d2 d3 d4 d5 => ?_) (fun d25 C2 l2 W2 y2 => h (p1 + 1) d25 C2 (by omega) (ze_le_t l1 q0 l2) (by omega) W2 (fun l zl => (y2 l).mpr zl))
    rw [hl] at d4
    refine Or.inr (Or.inr (Or.inr (Or.inr (Or.inr (Or.inr (Or.inr (Or.inl ⟨?_, A1, fun _ l y => ?_, ?_⟩)))))))
    · rw [d1]
      rcases ho2 with z | z <;> rw [z]
      · exact Or.inl rfl
      · exact Or.inr (Or.inl rfl)
    · obtain ⟨z1, z2, z3⟩ := hZ (by rcases ho3 with z | z <;> rw [z] <;> decide) l y
      exact ⟨z3, (x2 l z2.1).mpr z1⟩
    · rw [d4]; exact kP _ (fun l n1 cl => (x2 l n1.1).mpr cl)
  refine br_c (fun z => ⟨v, ?_⟩) (fun n16 => br_c (fun z => ⟨v, ?_⟩) (fun n17 => br_c (fun z => ?_) (fun n21 => ?_)))
  · (try rw [c]); exact jmp 25 (Or.inl rfl) (Or.inl z)
  · (try rw [c]); exact jmp 26 (Or.inr rfl) (Or.inr z)
  · unfold wX_encodeUsing_72
    refine ze_word (o := 29) (y := 0) Z (by omega) (by omega) (by omega) (by omega) W1 (fun w d1 d2 d3 d4 d5 => ?_) (fun d25 C2 l2 W2 y2 => h (p1 + 1) d25 C2 (by omega) (ze_le_t l1 q0 l2) (by omega) W2 (fun l zl => (y2 l).mpr zl))
    refine Or.inr (Or.inr (Or.inr (Or.inr (Or.inr (Or.inr (Or.inr (Or.inr (Or.inr (Or.inl ⟨d1, A1, fun l y => ?_⟩)))))))))
    obtain ⟨z1, z2, z3⟩ := hZ (by rw [z]; decide) l y
    exact ⟨z3, (x2 l z2.1).mpr z1⟩
  · unfold wX_encodeUsing_72
    refine ze_word (o := 30) (y := 0) Z (by omega) (by omega) (by omega) (by omega) W1 (fun w d1 d2 d3 d4 d5 => ?_) (fun d25 C2 l2 W2 y2 => h (p1 + 1) d25 C2 (by omega) (ze_le_t l1 q0 l2) (by omega) W2 (fun l zl => (y2 l).mpr zl))
    exact Or.inr (Or.inr (Or.inr (Or.inr (Or.inr (Or.inr (Or.inr (Or.inr (Or.inr (Or.inr ⟨d1, A1⟩)))))))))
end
end
section
/-! from operations to words: the loops -/
theorem ze_ok_n {w : Int32} {X Y : Nat → Prop} {P P' : Int32 → (Nat → Prop) → Prop} (h : ze_ok w X Y P) (n : ¬ (ze_w w = 25 ∨ ze_w w = 26 ∨ ze_w w = 27)) : ze_ok w X Y P' := by
  rcases h with h | h | h | h | h | h | h | h | h | h | h
  · exact Or.inl h
  · exact Or.inr (Or.inl h)
  · exact Or.inr (Or.inr (Or.inl h))
  · exact Or.inr (Or.inr (Or.inr (Or.inl h)))
  · exact Or.inr (Or.inr (Or.inr (Or.inr (Or.inl h))))
  · exact Or.inr (Or.inr (Or.inr (Or.inr (Or.inr (Or.inl h)))))
  · exact Or.inr (Or.inr (Or.inr (Or.inr (Or.inr (Or.inr (Or.inl h))))))
  · exact absurd h.1 n
  · exact Or.inr (Or.inr (Or.inr (Or.inr (Or.inr (Or.inr (Or.inr (Or.inr (Or.inl h))))))))
  · exact Or.inr (Or.inr (Or.inr (Or.inr (Or.inr (Or.inr (Or.inr (Or.inr (Or.inr (Or.inl h)))))))))
  · exact Or.inr (Or.inr (Or.inr (Or.inr (Or.inr (Or.inr (Or.inr (Or.inr (Or.inr (Or.inr h)))))))))
theorem ze_ok_j {w : Int32} {X Y : Nat → Prop} {P : Int32 → (Nat → Prop) → Prop} (h : ze_ok w X Y P) (n : ze_w w = 25 ∨ ze_w w = 26 ∨ ze_w w = 27) : X 19 ∧ (ze_w w ≠ 27 → ∀ l, Y l → l ≠ 19 ∧ X l) ∧ P (ze_l w) X := by
  have no : ∀ c : Int32, (c ≠ 25 ∧ c ≠ 26 ∧ c ≠ 27) → ze_w w ≠ c := fun c hc z => by
    rw [z] at n
    exact n.elim hc.1 (fun n => n.elim hc.2.1 hc.2.2)
  rcases h with h | h | h | h | h | h | h | h | h | h | h
  · exfalso
    rcases h.1 with z | z | z | z | z
    · rcases n with n | n | n <;> rw [n] at z <;> exact absurd z (by decide)
    · rcases n with n | n | n <;> rw [n] at z <;> exact absurd z (by decide)
    · exact no _ (by decide) z
    · exact no _ (by decide) z
    · exact no _ (by decide) z
  · exact absurd h.1 (no _ (by decide))
  · exact absurd h.1 (no _ (by decide))
  · exact absurd h.1 (no _ (by decide))
  · exact absurd h.1 (no _ (by decide))
  · exact absurd h.1 (no _ (by decide))
  · exact absurd h.1 (no _ (by decide))
  · exact h.2
  · exact absurd h.1 (no _ (by decide))
  · exact absurd h.1 (no _ (by decide))
  · exact absurd h.1 (no _ (by decide))
/-- the places that hold references ahead of entry i -/
def ze_LC (co al : Nat → Int32) (T : Int32 → Prop) (i l : Nat) : Prop := (l = 19 ∧ T (-1)) ∨ ∃ v, vp_in v 11 ∧ zb_i (al i) v ∧ T v ∧ l = ze_loc co v
/-- .. behind a label -/
def ze_LG (co la al : Nat → Int32) (G : Int32 → Int32 → Prop) (k : Int32) (l : Nat) : Prop := ∃ v, vp_in v 11 ∧ G k v ∧ zb_i (al (la k.toNatClampNeg).toNatClampNeg) v ∧ l = ze_loc co v
def ze_P (e : Nat) (o k co la al : Nat → Int32) (G : Int32 → Int32 → Prop) (lo : Int32) (X : Nat → Prop) : Prop := vp_in lo 40 ∧ (∃ j, j < e ∧ o j = 19 ∧ k j = lo) ∧ ∀ l, ze_LG co la al G lo l → l ≠ 19 ∧ X l
/-- a plain entry: what survives it -/
theorem ze_pl {e : Nat} {G : Int32 → Int32 → Prop} {o m f s k la al co : Nat → Int32} {T : Int32 → Prop} (hLV : za_LV e o m f s k la al) (hco : zr_co co) (hX : zr_X e o m f al co) {i : Nat} (hi : i < e) (hp : ¬ o i < 1 ∧ ¬ 14 < o i) (hm : vp_in (m i) 11) (hf : o i = 2 → vp_in (f i) 11) {l : Nat}
    (h : ze_LC co al (zt_tr G (o i) (m i) (f i) (k i) T) (i + 1) l) :
    (l = ze_loc co (m i) ∧ ((o i = 1 ∧ vp_in (k i) 3) ∨ (o i = 2 ∧ ze_LC co al T i (ze_loc co (f i))))) ∨ (ze_LC co al T i l ∧ ze_ns l ∧ l ≠ ze_loc co (m i)) := by
  have lm := ze_loc_ns hco hm
  rcases h with ⟨h1, h2⟩ | ⟨v, h1, h2, h3, h4⟩
  · rw [zt_tr_p _ _ _ _ _ _ hp] at h2
    rcases h2 with h2 | h2
    · exact absurd h2.1.symm (zb_ne1 hm)
    · refine Or.inr ⟨Or.inl ⟨h1, h2.2⟩, ?_, ?_⟩
      · rw [h1]; unfold ze_ns; omega
      · have := lm.2; omega
  · rw [zt_tr_p _ _ _ _ _ _ hp] at h3
    rcases h3 with ⟨h5, h6⟩ | ⟨h5, h6⟩
    · refine Or.inl ⟨by rw [h4, h5], h6.imp id (fun z => ⟨z.1, Or.inr ⟨f i, hf z.1, za_use hLV hi (hf z.1), z.2, rfl⟩⟩)⟩
    · have al1 : zb_i (al i) v := by
        rcases za_flow hLV hi (zt_pne hp (by decide)) (zt_pne hp (by decide)) h1 h2 with y | y
        · exact y
        · exact absurd y.1 h5
      have hl : ze_LC co al T i l := Or.inr ⟨v, h1, al1, h6, h4⟩
      by_cases z : o i = 2 ∧ v = f i
      · by_cases y : l = ze_loc co (m i)
        · exact Or.inl ⟨y, Or.inr ⟨z.1, by rw [← z.2, ← h4]; exact hl⟩⟩
        · exact Or.inr ⟨hl, by rw [h4]; exact (ze_loc_ns hco h1).1, y⟩
      · refine Or.inr ⟨hl, by rw [h4]; exact (ze_loc_ns hco h1).1, ?_⟩
        rw [h4]
        exact ze_loc_ne hco hm h1 h5 (fun y => hX i hi (zt_pne hp (by decide)) hm v h1 h2 h5 z y)
/-- an entry that makes nothing: what survives it -/
theorem ze_np {e : Nat} {o m f s k la al co : Nat → Int32} {T T1 : Int32 → Prop} (hLV : za_LV e o m f s k la al) (hco : zr_co co) {i : Nat} (hi : i < e) (h18 : o i ≠ 18) (h22 : o i ≠ 22) (hm : m i = -1 ∨ o i = 15) (hT : ∀ v, vp_in v 11 → T1 v → T v) {l : Nat} (h19 : l ≠ 19)
    (h : ze_LC co al T1 (i + 1) l) : ze_LC co al T i l ∧ ze_ns l := by
  rcases h with ⟨h1, h2⟩ | ⟨v, h1, h2, h3, h4⟩
  · exact absurd h1 h19
  · refine ⟨Or.inr ⟨v, h1, ?_, hT v h1 h3, h4⟩, by rw [h4]; exact (ze_loc_ns hco h1).1⟩
    rcases za_flow hLV hi h18 h22 h1 h2 with y | y
    · exact y
    · rcases hm with z | z
      · exact absurd (y.1.trans z) (zb_ne1 h1)
      · exact absurd z y.2
section
variable {le ck va dn sn ln wc tr tf li tk tc lv ce sc gi pc : Int32} {iw : Int64} {a1 a2 a3 a4 a5 a6 a7 a8 a9 a10 a11 a12 a13 a14 a15 a16 a17 a18 a19 a20 a21 a22 a23 a24 a25 a26 a27 a28 a29 a30 : Nat → Int32}
theorem ze_fixup {post : St1 → Prop} {e p : Nat} {G : Int32 → Int32 → Prop} {C : Nat → Nat → Prop} (hp7 : p ≤ 700) (hco : zr_co a23) (hW : ze_W a25 p (ze_P e a7 a11 a23 a12 a21 G) C) (h0 : ∀ l, ¬ C 0 l) (hend : C p 19)
    (hlab : ∀ j, j < e → a7 j = 19 → ∃ t, t ≤ p ∧ a26 (a11 j).toNatClampNeg = nI t ∧ ∀ l, C t l → ze_LG a23 a12 a21 G (a11 j) l)
    (h : ∀ b25, ze_cg b25 p a23 → post (le, ck, va, dn, sn, ln, wc, iw, tr, tf, li, tk, tc, lv, nI p, sc, gi, pc, a1, a2, a3, a4, a5, a6, a7, a8, a9, a10, a11, a12, a13, a14, a15, a16, a17, a18, a19, a20, a21, a22, a23, a24, b25, a26, a27, a28, a29, a30)) : ∃ fu, wX_encode_162 post le ck va dn sn ln wc iw tr tf li tk tc lv (nI p) sc gi pc fu 0 a1 a2 a3 a4 a5 a6 a7 a8 a9 a10 a11 a12 a13 a14 a15 a16 a17 a18 a19 a20 a21 a22 a23 a24 a25 a26 a27 a28 a29 a30 := by
  refine pk_loop (fun m i s => wX_encode_162 post le ck va dn sn ln wc iw tr tf li tk tc lv (nI p) sc gi pc m (nI i) a1 a2 a3 a4 a5 a6 a7 a8 a9 a10 a11 a12 a13 a14 a15 a16 a17 a18 a19 a20 a21 a22 a23 a24 s a26 a27 a28 a29 a30)
    (fun i s => (∀ q, i ≤ q → s q = a25 q) ∧ ∀ q, q < i → ze_ok (s q) (C q) (C (q + 1)) (fun lo X => ∃ t, t ≤ p ∧ lo = nI t ∧ ∀ l, C t l → l ≠ 19 ∧ X l)) p 0 a25 (by omega) ⟨fun _ _ => rfl, fun q hq => absurd hq (by omega)⟩ ?_ ?_
  · intro m s ⟨h1, h2⟩
    exact pk_le p p (fun _ => h s ⟨hp7, hco, C, h0, h2, hend⟩) (fun g => absurd g (by omega))
  · intro m i s hi ⟨h1, h2⟩ hm
    have v := zb_in (n := i) (N := 700) (by omega)
    have c := zb_cl (n := i) (N := 700) (by omega)
    have hsi := h1 i (Nat.le_refl _)
    have hok := hW i hi
    have keep : ¬ (ze_w (a25 i) = 25 ∨ ze_w (a25 i) = 26 ∨ ze_w (a25 i) = 27) → ∀ x, x = nI i + 1 → wX_encode_162 post le ck va dn sn ln wc iw tr tf li tk tc lv (nI p) sc gi pc m x a1 a2 a3 a4 a5 a6 a7 a8 a9 a10 a11 a12 a13 a14 a15 a16 a17 a18 a19 a20 a21 a22 a23 a24 s a26 a27 a28 a29 a30 := fun n => nm_r (nI_1 i) (hm s ⟨fun q hq => h1 q (by omega), fun q hq => by
      by_cases z : q = i
      · rw [z, hsi]; exact ze_ok_n hok n
      · exact h2 q (by omega)⟩)
    refine pk_le p i (fun g => absurd g (by omega)) (fun _ => ⟨v, nm_r (e' := ze_w (a25 i)) (by (try rw [c]); rw [hsi]; rfl) ?_⟩)
    refine br_c (fun z => keep (fun y => ?_)) (fun z1 => br_c (fun z => keep (fun y => ?_)) (fun z2 => ⟨v, v, ?_⟩))
    · rcases y with y | y | y <;> rw [y] at z <;> exact absurd z (by decide)
    · rcases y with y | y | y <;> rw [y] at z <;> exact absurd z (by decide)
    have hj : ze_w (a25 i) = 25 ∨ ze_w (a25 i) = 26 ∨ ze_w (a25 i) = 27 := by
      have y1 : ¬ (ze_w (a25 i)).toInt < 25 := fun y => z1 (Int32.lt_iff_toInt_lt.mpr y)
      have y2 : ¬ (27 : Int) < (ze_w (a25 i)).toInt := fun y => z2 (Int32.lt_iff_toInt_lt.mpr y)
      have y3 : (ze_w (a25 i)).toInt = 25 ∨ (ze_w (a25 i)).toInt = 26 ∨ (ze_w (a25 i)).toInt = 27 := by omega
      exact y3.imp (fun y => Int32.toInt_inj.mp y) (fun y => y.imp (fun y => Int32.toInt_inj.mp y) (fun y => Int32.toInt_inj.mp y))
    obtain ⟨k1, k2, k3, ⟨j, j1, j2, j3⟩, k5⟩ := ze_ok_j hok hj
    obtain ⟨t, t1, t2, t3⟩ := hlab j j1 j2
    rw [j3] at t2 t3
    have ee : (a25 i) &&& 262143 = ze_l (a25 i) := rfl
    refine ⟨by (try rw [c]); rw [hsi, ee]; exact k3, v, nm_r (e' := upd s i ((a25 i &&& (-262144)) ||| nI t)) (by (try rw [c]); rw [hsi, ee, t2]) (nm_r (nI_1 i) (hm _ ⟨fun q hq => ?_, fun q hq => ?_⟩))⟩
    · rw [pk_un (by omega)]; exact h1 q (by omega)
    · by_cases z : q = i
      · rw [z, pk_us]
        obtain ⟨f1, f2, f3, f4⟩ := ze_fix (w := a25 i) (t := t) (by omega) rfl
        refine Or.inr (Or.inr (Or.inr (Or.inr (Or.inr (Or.inr (Or.inr (Or.inl ⟨by rw [f1]; exact hj, k1, by rw [f1]; exact k2, t, t1, f4, fun l cl => k5 l (t3 l cl)⟩)))))))
      · rw [pk_un z]; exact h2 q (by omega)
theorem ze_encode {post : St1 → Prop} {e : Nat} (hL : zt_L e a7 a8 a9 a10 a11) (hN : zt_N e a7) (hLV : za_LV e a7 a8 a9 a10 a11 a12 a21) (hco : zr_co a23) (hX : zr_X e a7 a8 a9 a21 a23)
    (hp : ∀ ce a25 a26, ze_cg a25 ce a23 → post (le, ck, va, dn, sn, ln, wc, iw, tr, tf, nI e, tk, tc, lv, nI ce, sc, gi, pc, a1, a2, a3, a4, a5, a6, a7, a8, a9, a10, a11, a12, a13, a14, a15, a16, a17, a18, a19, a20, a21, a22, a23, a24, a25, a26, a27, a28, a29, a30)) : wpX_encode post (le, ck, va, dn, sn, ln, wc, iw, tr, tf, nI e, tk, tc, lv, ce, sc, gi, pc, a1, a2, a3, a4, a5, a6, a7, a8, a9, a10, a11, a12, a13, a14, a15, a16, a17, a18, a19, a20, a21, a22, a23, a24, a25, a26, a27, a28, a29, a30) := by
  have htg := za_tgL hL hLV.2.1
  obtain ⟨he, hsh, hld, htg0, hws, G, hG, hck, hend⟩ := hL
  have wsm : ∀ i, i < e → zt_ws a7 a11 i + zt_wt (a7 i) (a11 i) ≤ 700 := fun i hi => by
    have : zt_ws a7 a11 (i + 1) ≤ zt_ws a7 a11 e := zb_sm_mono hi
    have e1 : zt_ws a7 a11 (i + 1) = zt_ws a7 a11 i + zt_wt (a7 i) (a11 i) := rfl
    omega
  refine pk_loop (σ := Nat × (Nat → Int32) × (Nat → Int32)) (fun m i s => wX_encode_7 post m (nI i) le ck va dn sn ln wc iw tr tf (nI e) tk tc lv (nI s.1) sc gi pc a1 a2 a3 a4 a5 a6 a7 a8 a9 a10 a11 a12 a13 a14 a15 a16 a17 a18 a19 a20 a21 a22 a23 a24 s.2.1 s.2.2 a27 a28 a29 a30)
    (fun i s => ∃ C, s.1 ≤ zt_ws a7 a11 i ∧ ze_W s.2.1 s.1 (ze_P e a7 a11 a23 a12 a21 G) C ∧ (∀ l, C s.1 l ↔ ze_LC a23 a21 (zt_T G a7 a8 a9 a11 i) i l) ∧ (∀ l, ¬ C 0 l) ∧
      ∀ j, j < i → a7 j = 19 → ∃ t, t ≤ s.1 ∧ s.2.2 (a11 j).toNatClampNeg = nI t ∧ ∀ l, C t l → ze_LG a23 a12 a21 G (a11 j) l) e 0 (0, a25, a26) (by omega) ?_ ?_ ?_
  · refine ⟨fun _ _ => False, Nat.zero_le _, fun q hq => absurd hq (by (try dsimp only); omega), fun l => ⟨fun g => g.elim, fun g => ?_⟩, fun l g => g, fun j hj => absurd hj (by omega)⟩
    rcases g with ⟨_, g⟩ | ⟨v, _, _, g, _⟩
    · exact g
    · exact g
  · rintro m ⟨p, b25, b26⟩ ⟨C, h1, h2, h3, h4, h5⟩
    (try dsimp only at h1 h2 h3 h4 h5 ⊢)
    refine pk_le e e (fun _ => ?_) (fun g => absurd g (by omega))
    exact ze_fixup (by omega) hco h2 h4 ((h3 19).mpr (Or.inl ⟨rfl, hend⟩)) h5 (fun c25 g => hp p c25 _ g)
  · rintro m i ⟨p, b25, b26⟩ hi ⟨C, h1, h2, h3, h4, h5⟩ hstep
    (try dsimp only at h1 h2 h3 h4 h5 hstep ⊢)
    have v := zb_in (n := i) (N := 240) (by omega)
    have c := zb_cl (n := i) (N := 240) (by omega)
    have hw := wsm i hi
    have w1 : zt_ws a7 a11 (i + 1) = zt_ws a7 a11 i + zt_wt (a7 i) (a11 i) := rfl
    have hT1 : zt_T G a7 a8 a9 a11 (i + 1) = zt_tr G (a7 i) (a8 i) (a9 i) (a11 i) (zt_T G a7 a8 a9 a11 i) := rfl
    have hcki := hck i hi
    have hs0 := hsh i hi
    have hne0 := hN i hi
    have fin : ∀ (p' : Nat) (c25 : Nat → Int32) (C' : Nat → Nat → Prop), p' ≤ p + zt_wt (a7 i) (a11 i) → ze_le p C C' → p ≤ p' → ze_W c25 p' (ze_P e a7 a11 a23 a12 a21 G) C' → (∀ l, ze_LC a23 a21 (zt_T G a7 a8 a9 a11 (i + 1)) (i + 1) l → C' p' l) → a7 i ≠ 19 →
        ∀ x, x = nI i + 1 → wX_encode_7 post m x le ck va dn sn ln wc iw tr tf (nI e) tk tc lv (nI p') sc gi pc a1 a2 a3 a4 a5 a6 a7 a8 a9 a10 a11 a12 a13 a14 a15 a16 a17 a18 a19 a20 a21 a22 a23 a24 c25 b26 a27 a28 a29 a30 := by
      intro p' c25 C' k1 k2 k3 k4 k5 n19
      obtain ⟨s1, s2⟩ := ze_shr k4 k5
      refine nm_r (nI_1 i) (hstep (p', c25, b26) ⟨_, by (try dsimp only); omega, s1, fun l => ?_, fun l g => h4 l (k2 0 (by omega) l (s2 0 (by omega) l g)), fun j hj g => ?_⟩)
      · (try dsimp only)
        rw [if_pos rfl]
      · have hji : j ≠ i := fun z => n19 (z ▸ g)
        obtain ⟨t, t1, t2, t3⟩ := h5 j (by omega) g
        exact ⟨t, by (try dsimp only); omega, t2, fun l cl => t3 l (k2 t t1 l (s2 t (by omega) l cl))⟩
    have arm : zt_T G a7 a8 a9 a11 i (-1) → C p 19 := fun g => (h3 19).mpr (Or.inl ⟨rfl, g⟩)
    have useC : ∀ w, vp_in w 11 → zb_i (a21 i) w → zt_T G a7 a8 a9 a11 i w → C p (ze_loc a23 w) := fun w g1 g2 g3 => (h3 _).mpr (Or.inr ⟨w, g1, g2, g3, rfl⟩)
    have jmpP : (a7 i = 16 ∨ a7 i = 17 ∨ a7 i = 18) → a8 i = -1 → vp_in (a11 i) 40 ∧ ∀ X : Nat → Prop, (∀ l, ze_ns l → C p l → X l) → ze_P e a7 a11 a23 a12 a21 G (a11 i) X := fun hj hm8 => by
      obtain ⟨t1, q, t2, t3, t4, t5⟩ := htg i hi hj
      refine ⟨t1, fun X hX => ⟨t1, ⟨q, t2, t4, t5⟩, fun l ⟨w, g1, g2, g3, g4⟩ => ?_⟩⟩
      have ln := ze_loc_ns hco g1
      refine ⟨by have := ln.2; omega, hX l (by rw [g4]; exact ln.1) ?_⟩
      rw [g4]
      exact useC w g1 (za_jump hLV hi hj hm8 g1 g3) (hcki.2.1 (hj.imp id (fun z => z.imp id Or.inl)) w g2)
    have isC : (¬ a7 i < 3 ∧ ¬ 12 < a7 i) → wX_encode_107 post (wX_encode_7 post m) (nI i) (a7 i) le ck va dn sn ln wc iw tr tf (nI e) tk tc lv (nI p) sc gi pc a1 a2 a3 a4 a5 a6 a7 a8 a9 a10 a11 a12 a13 a14 a15 a16 a17 a18 a19 a20 a21 a22 a23 a24 b25 b26 a27 a28 a29 a30 → ∀ {Q : Int32 → Prop}, (∀ r, r = 1 → Q r) → wpX_isCombined Q (le, ck, va, dn, sn, ln, wc, iw, tr, tf, nI e, tk, tc, lv, nI p, sc, gi, pc, a1, a2, a3, a4, a5, a6, a7, a8, a9, a10, a11, a12, a13, a14, a15, a16, a17, a18, a19, a20, a21, a22, a23, a24, b25, b26, a27, a28, a29, a30) (a7 i) := fun z _ Q hQ => br_f z.1 (br_f z.2 (hQ 1 rfl))
    refine pk_le e i (fun g => absurd g (by omega)) (fun _ => ⟨v, nm_r (e' := a7 i) (by first | rw [c] | rfl) ?_⟩)
    rcases hs0 with t | ⟨t, t1, t2, t3⟩ | ⟨t, t1, t2, t3⟩ | ⟨t, t1, t2, t3⟩ | ⟨t, t1, t2, t3⟩ | ⟨t, t1, t2, t3⟩ | ⟨t, t1, t2, t3, t4⟩ | ⟨t, t1, t2, t3, t4⟩ | ⟨t, t1, t2, t3, t4⟩ | ⟨t, t1, t2, t3, t4, t5⟩ | ⟨t, t1, t2, t3⟩
    · exact absurd t hne0
    · -- NUMBER
      have w3 : zt_wt (a7 i) (a11 i) = 3 := by rw [t]; rfl
      refine br_f (by rw [t]; decide) (br_f (by rw [t]; decide) (br_f (by rw [t]; decide) (br_t (by rw [t]; decide) (br_t rfl (br_f (by rw [t]; decide) (br_f (by rw [t]; decide) ⟨v, br_f (by (try rw [c]); exact zb_nn t1) ?_⟩))))))
      refine ze_making (Z := ze_LC a23 a21 (zt_T G a7 a8 a9 a11 (i + 1)) (i + 1)) (by omega) (by omega) (Or.inl t) t1 hco h2 (fun l zl => ?_) (fun p' a25 C' q1 q2 q3 q4 q5 => fin p' a25 C' (by omega) q2 q3 q4 q5 (by rw [t]; decide))
      rcases ze_pl hLV hco hX hi (by rw [t]; decide) t1 (fun y => by rw [t] at y; exact absurd y (by decide)) zl with y | y
      · exact Or.inl ⟨y.1, y.2.imp id (fun u => ⟨u.1, (h3 _).mpr u.2⟩)⟩
      · exact Or.inr ⟨(h3 _).mpr y.1, y.2⟩
    · -- MOVE, NOT
      have w3 : zt_wt (a7 i) (a11 i) = 3 := by rcases t with t | t <;> rw [t] <;> rfl
      have pl : ¬ a7 i < 1 ∧ ¬ 14 < a7 i := by rcases t with t | t <;> rw [t] <;> decide
      have go : wpX_encodeMaking (fun u => match u with | (le1, ck1, va1, dn1, sn1, ln1, wc1, iw1, tr1, tf1, li1, tk1, tc1, lv1, ce1, sc1, gi1, pc1, b1, b2, b3, b4, b5, b6, b7, b8, b9, b10, b11, b12, b13, b14, b15, b16, b17, b18, b19, b20, b21, b22, b23, b24, b25', b26', b27, b28, b29, b30) => ∀ x : Int32, x = nI i + 1 → wX_encode_7 post m x le1 ck1 va1 dn1 sn1 ln1 wc1 iw1 tr1 tf1 li1 tk1 tc1 lv1 ce1 sc1 gi1 pc1 b1 b2 b3 b4 b5 b6 b7 b8 b9 b10 b11 b12 b13 b14 b15 b16 b17 b18 b19 b20 b21 b22 b23 b24 b25' b26' b27 b28 b29 b30) (le, ck, va, dn, sn, ln, wc, iw, tr, tf, nI e, tk, tc, lv, nI p, sc, gi, pc, a1, a2, a3, a4, a5, a6, a7, a8, a9, a10, a11, a12, a13, a14, a15, a16, a17, a18, a19, a20, a21, a22, a23, a24, b25, b26, a27, a28, a29, a30) (nI i) (a7 i) := by
        refine ze_making (Z := ze_LC a23 a21 (zt_T G a7 a8 a9 a11 (i + 1)) (i + 1)) (by omega) (by omega) (Or.inr ⟨t, t2⟩) t1 hco h2 (fun l zl => ?_) (fun p' a25 C' q1 q2 q3 q4 q5 => fin p' a25 C' (by omega) q2 q3 q4 q5 (by rcases t with t | t <;> rw [t] <;> decide))
        rcases ze_pl hLV hco hX hi pl t1 (fun _ => t2) zl with y | y
        · exact Or.inl ⟨y.1, y.2.imp id (fun u => ⟨u.1, (h3 _).mpr u.2⟩)⟩
        · exact Or.inr ⟨(h3 _).mpr y.1, y.2⟩
      refine br_f (by rcases t with t | t <;> rw [t] <;> decide) (br_f (by rcases t with t | t <;> rw [t] <;> decide) (br_f (by rcases t with t | t <;> rw [t] <;> decide) ?_))
      rcases t with t | t
      · exact br_t (by rw [t]; decide) (br_t rfl (br_f (by rw [t]; decide) (br_f (by rw [t]; decide) ⟨v, br_f (by (try rw [c]); exact zb_nn t1) go⟩)))
      · exact br_f (by rw [t]; decide) (br_t (by rw [t]; decide) (br_t rfl (br_f (by rw [t]; decide) (br_f (by rw [t]; decide) ⟨v, br_f (by (try rw [c]); exact zb_nn t1) go⟩))))
    · -- ADD .. SAME
      have w4 : zt_wt (a7 i) (a11 i) = 4 := zt_wtc t
      have pl : ¬ a7 i < 1 ∧ ¬ 14 < a7 i := ⟨fun y => t.1 (Int32.lt_trans y (by decide)), fun y => t.2 (Int32.lt_trans (by decide) y)⟩
      refine br_f (zt_cne t (by decide)) (br_f (zt_cne t (by decide)) (br_f (zt_cne t (by decide)) (br_f t.1 (br_f t.2 (br_f (by decide) ?_)))))
      unfold wX_encode_107
      refine ze_two (Z := ze_LC a23 a21 (zt_T G a7 a8 a9 a11 (i + 1)) (i + 1)) (by omega) (by omega) (Or.inl t) t1 t2 t3 hco h2 (fun l zl => ?_) (fun p' a25 C' q1 q2 q3 q4 q5 => fin p' a25 C' (by omega) q2 q3 q4 q5 (zt_cne t (by decide)))
      rcases ze_pl hLV hco hX hi pl t1 (fun _ => t2) zl with y | y
      · rcases y.2 with u | u
        · exact absurd u.1 (zt_cne t (by decide))
        · exact absurd u.1 (zt_cne t (by decide))
      · exact ⟨(h3 _).mpr y.1, y.2⟩
    · -- FETCH
      have w4 : zt_wt (a7 i) (a11 i) = 4 := by rw [t]; rfl
      refine br_f (by rw [t]; decide) (br_f (by rw [t]; decide) (br_f (by rw [t]; decide) (br_f (by rw [t]; decide) (br_t (by rw [t]; decide) (br_t rfl (br_t t ?_))))))
      unfold wX_encode_107
      refine ze_two (Z := ze_LC a23 a21 (zt_T G a7 a8 a9 a11 (i + 1)) (i + 1)) (by omega) (by omega) (Or.inr ⟨t, t3, useC _ t2 (za_use hLV hi t2) (hcki.1 (Or.inl t))⟩) t1 t2 (Or.inr t3) hco h2 (fun l zl => ?_) (fun p' a25 C' q1 q2 q3 q4 q5 => fin p' a25 C' (by omega) q2 q3 q4 q5 (by rw [t]; decide))
      rcases ze_pl hLV hco hX hi (by rw [t]; decide) t1 (fun _ => t2) zl with y | y
      · rcases y.2 with u | u
        · rw [t] at u; exact absurd u.1 (by decide)
        · rw [t] at u; exact absurd u.1 (by decide)
      · exact ⟨(h3 _).mpr y.1, y.2⟩
    · -- KEEP
      have w4 : zt_wt (a7 i) (a11 i) = 4 := by rw [t]; rfl
      refine br_f (by rw [t]; decide) (br_f (by rw [t]; decide) (br_f (by rw [t]; decide) (br_f (by rw [t]; decide) (br_t (by rw [t]; decide) (br_t rfl (br_f (by rw [t]; decide) (br_t t ?_)))))))
      refine ze_keep (Z := ze_LC a23 a21 (zt_T G a7 a8 a9 a11 (i + 1)) (i + 1)) (by omega) (by omega) t1 t2 t3 hco h2 (useC _ t2 (za_use hLV hi t2) (hcki.1 (Or.inr t))) (fun l zl => ?_) (fun p' a25 C' q1 q2 q3 q4 q5 => fin p' a25 C' (by omega) q2 q3 q4 q5 (by rw [t]; decide))
      have same : ∀ v, zt_T G a7 a8 a9 a11 (i + 1) v → zt_T G a7 a8 a9 a11 i v := fun v g => (zt_tr_k G _ _ _ _ v (Or.inr t)).mp g
      by_cases y : l = 19
      · rcases zl with u | ⟨w, g1, _, _, g4⟩
        · exact ⟨by rw [y]; exact arm (same _ u.2), by rw [y]; unfold ze_ns; omega⟩
        · have := (ze_loc_ns hco g1).2; omega
      · obtain ⟨u1, u2⟩ := ze_np hLV hco hi (by rw [t]; decide) (by rw [t]; decide) (Or.inr t) (fun w _ g => same w g) y zl
        exact ⟨(h3 _).mpr u1, u2⟩
    · -- BRANCH, BRANCH_ABOVE
      have w2 : zt_wt (a7 i) (a11 i) = 2 := by rcases t with t | t <;> rw [t] <;> rfl
      have hb5 : a7 i = 16 ∨ a7 i = 17 ∨ a7 i = 18 ∨ a7 i = 21 ∨ a7 i = 22 := t.imp id Or.inl
      have d : ∀ c : Int32, (c ≠ 16 ∧ c ≠ 17) → a7 i ≠ c := fun c hc z => by rcases t with t | t <;> rw [t] at z <;> exact absurd z.symm (by first | exact hc.1 | exact hc.2)
      refine br_f (d _ (by decide)) (br_f (d _ (by decide)) (br_f (d _ (by decide)) (br_f (by rcases t with t | t <;> rw [t] <;> decide) (br_t (by rcases t with t | t <;> rw [t] <;> decide) (br_t rfl (br_f (d _ (by decide)) (br_f (d _ (by decide)) ⟨v, br_t (by (try rw [c]); rw [t1]; decide) ?_⟩)))))))
      refine ze_using (Z := ze_LC a23 a21 (zt_T G a7 a8 a9 a11 (i + 1)) (i + 1)) (by omega) (by omega) (t.imp id Or.inl) t2 hco h2 (arm (hcki.2.2 hb5)) (fun _ l zl => ?_) (fun _ => jmpP (t.imp id Or.inl) t1) (fun p' a25 C' q1 q2 q3 q4 q5 => fin p' a25 C' (by omega) q2 q3 q4 q5 (d _ (by decide)))
      have same : ∀ v, zt_T G a7 a8 a9 a11 (i + 1) v → v ≠ -1 ∧ zt_T G a7 a8 a9 a11 i v := fun v g => (zt_tr_s G _ _ _ _ v (t.imp id Or.inl)).mp g
      have y : l ≠ 19 := fun y => by
        rcases zl with u | ⟨w, g1, _, _, g4⟩
        · exact (same _ u.2).1 rfl
        · have := (ze_loc_ns hco g1).2; omega
      obtain ⟨u1, u2⟩ := ze_np hLV hco hi (d _ (by decide)) (d _ (by decide)) (Or.inl t1) (fun w _ g => (same w g).2) y zl
      exact ⟨(h3 _).mpr u1, u2, y⟩
    · -- GO
      have w1' : zt_wt (a7 i) (a11 i) = 1 := by rw [t]; rfl
      obtain ⟨k40, kP⟩ := jmpP (Or.inr (Or.inr t)) t1
      have hl := ze_low (zb_mono k40 (by omega : 40 ≤ 262144)) (Nat.le_refl _)
      refine br_f (by rw [t]; decide) (br_f (by rw [t]; decide) (br_t t ⟨v, ?_⟩))
      (try rw [c])
      refine ze_word (o := 27) (x := 0) (y := 0) (ze_LC a23 a21 (zt_T G a7 a8 a9 a11 (i + 1)) (i + 1)) (by omega) (by omega) (by omega) (by omega) h2 (fun w d1 d2 d3 d4 d5 => ?_) (fun a25 C' q1 q2 q3 => fin (p + 1) a25 C' (by omega) q1 (by omega) q2 (fun l zl => (q3 l).mpr zl) (by rw [t]; decide))
      rw [hl] at d4
      refine Or.inr (Or.inr (Or.inr (Or.inr (Or.inr (Or.inr (Or.inr (Or.inl ⟨Or.inr (Or.inr d1), arm (hcki.2.2 (Or.inr (Or.inr (Or.inl t)))), fun y => absurd d1 y, ?_⟩)))))))
      rw [d4]; exact kP _ (fun l _ cl => cl)
    · -- LABEL
      have w0 : zt_wt (a7 i) (a11 i) = 0 := by rw [t]; rfl
      refine br_t t ⟨v, by (try rw [c]); exact t4, nm_r (e' := upd b26 (a11 i).toNatClampNeg (nI p)) (by (try rw [c]); rw [zb_s (zb_in (by omega))]) ?_⟩
      have hla : a12 (a11 i).toNatClampNeg = nI i := hLV.2.1 i hi t
      have ev : ∀ w, zt_T G a7 a8 a9 a11 (i + 1) w ↔ G (a11 i) w := fun w => by rw [hT1, t, zt_tr_l]
      have n18 : a7 i ≠ 18 := by rw [t]; decide
      have n22 : a7 i ≠ 22 := by rw [t]; decide
      have sub : ∀ l, ze_LC a23 a21 (zt_T G a7 a8 a9 a11 (i + 1)) (i + 1) l → C p l ∧ ze_LG a23 a12 a21 G (a11 i) l := fun l zl => by
        rcases zl with u | ⟨w, g1, g2, g3, g4⟩
        · exact absurd (hG _ _ ((ev _).mp u.2)) (zb_m1 _)
        · have g3' := (ev w).mp g3
          have al1 : zb_i (a21 i) w := by
            rcases za_flow hLV hi n18 n22 g1 g2 with y | y
            · exact y
            · exact absurd (y.1.trans t1) (zb_ne1 g1)
          refine ⟨by rw [g4]; exact useC w g1 al1 (hcki.2.1 (Or.inr (Or.inr (Or.inr t))) w g3'), w, g1, g3', ?_, g4⟩
          rw [hla, c]; exact al1
      obtain ⟨s1, s2⟩ := ze_shr h2 (fun l zl => (sub l zl).1)
      refine nm_r (nI_1 i) (hstep (p, b25, upd b26 (a11 i).toNatClampNeg (nI p)) ⟨_, by (try dsimp only); omega, s1, fun l => ?_, fun l g => h4 l (s2 0 (by omega) l g), fun j hj g => ?_⟩)
      · (try dsimp only)
        rw [if_pos rfl]
      · (try dsimp only)
        by_cases z : j = i
        · refine ⟨p, Nat.le_refl _, by rw [z, pk_us], fun l cl => ?_⟩
          rw [if_pos rfl] at cl
          rw [z]; exact (sub l cl).2
        · obtain ⟨t', u1, u2, u3⟩ := h5 j (by omega) g
          refine ⟨t', u1, ?_, fun l cl => u3 l (s2 t' u1 l cl)⟩
          rw [pk_un (fun y => z (hld j i (by omega) hi g t (zb_inj (za_k40 hsh (by omega) g) t4 y)))]
          exact u2
    · -- TICK
      have wk : zt_wt (a7 i) (a11 i) = 1 + (a11 i).toNatClampNeg := by rw [t]; rfl
      have hl := ze_low (zb_mono t4 (by omega : 701 ≤ 262144)) (Nat.le_refl _)
      refine br_f (by rw [t]; decide) (br_t t ⟨v, ?_⟩)
      (try rw [c])
      refine ze_word (o := 28) (x := 0) (y := 0) (ze_LC a23 a21 (zt_T G a7 a8 a9 a11 (i + 1)) (i + 1)) (by omega) (by omega) (by omega) (by omega) h2 (fun w d1 d2 d3 d4 d5 => ?_) (fun a25 C' q1 q2 q3 => fin (p + 1) a25 C' (by omega) q1 (by omega) q2 (fun l zl => (q3 l).mpr zl) (by rw [t]; decide))
      rw [hl] at d4
      refine Or.inr (Or.inr (Or.inr (Or.inr (Or.inr (Or.inr (Or.inr (Or.inr (Or.inl ⟨d1, by rw [d4]; exact t4, by rw [d4]; exact t5, fun l zl => ?_⟩))))))))
      by_cases y : l = 19
      · exact Or.inl y
      · refine Or.inr ((h3 _).mpr (ze_np hLV hco hi (by rw [t]; decide) (by rw [t]; decide) (Or.inl t1) (fun w hw g => ?_) y zl).1)
        rw [hT1, t, zt_tr_t] at g
        exact g.elim (fun g => absurd g (zb_ne1 hw)) id
    · -- OUTPUT, GIVE
      have w2 : zt_wt (a7 i) (a11 i) = 2 := by rcases t with t | t <;> rw [t] <;> rfl
      have hb5 : a7 i = 16 ∨ a7 i = 17 ∨ a7 i = 18 ∨ a7 i = 21 ∨ a7 i = 22 := Or.inr (Or.inr (Or.inr t))
      have d : ∀ c : Int32, (c ≠ 21 ∧ c ≠ 22) → a7 i ≠ c := fun c hc z => by rcases t with t | t <;> rw [t] at z <;> exact absurd z.symm (by first | exact hc.1 | exact hc.2)
      refine br_f (d _ (by decide)) (br_f (d _ (by decide)) (br_f (d _ (by decide)) (br_f (by rcases t with t | t <;> rw [t] <;> decide) (br_t (by rcases t with t | t <;> rw [t] <;> decide) (br_t rfl (br_f (d _ (by decide)) (br_f (d _ (by decide)) ⟨v, br_t (by (try rw [c]); rw [t1]; decide) ?_⟩)))))))
      refine ze_using (Z := ze_LC a23 a21 (zt_T G a7 a8 a9 a11 (i + 1)) (i + 1)) (by omega) (by omega) (Or.inr (Or.inr t)) t2 hco h2 (arm (hcki.2.2 hb5)) (fun n22 l zl => ?_) (fun y => y.elim (fun y => absurd y (d _ (by decide))) (fun y => absurd y (d _ (by decide)))) (fun p' a25 C' q1 q2 q3 q4 q5 => fin p' a25 C' (by omega) q2 q3 q4 q5 (d _ (by decide)))
      have t21 : a7 i = 21 := t.elim id (fun y => absurd y n22)
      have same : ∀ v, zt_T G a7 a8 a9 a11 (i + 1) v → v ≠ -1 ∧ zt_T G a7 a8 a9 a11 i v := fun v g => (zt_tr_s G _ _ _ _ v (Or.inr (Or.inr t21))).mp g
      have y : l ≠ 19 := fun y => by
        rcases zl with u | ⟨w, g1, _, _, g4⟩
        · exact (same _ u.2).1 rfl
        · have := (ze_loc_ns hco g1).2; omega
      obtain ⟨u1, u2⟩ := ze_np hLV hco hi (d _ (by decide)) n22 (Or.inl t1) (fun w _ g => (same w g).2) y zl
      exact ⟨(h3 _).mpr u1, u2, y⟩
end
end
section
/-! the machine -/
theorem zx_el : ∀ q, q < 3 → ∀ j, j < 8 → 8 * nI q + nI j = nI (8 * q + j) := by decide +kernel
theorem zx_in24 {x y : Int32} (hx : vp_in x 3) : vp_in (8 * x + (y &&& 7)) 24 := by
  obtain ⟨q, hq, e⟩ := vp_in_of hx (by omega)
  obtain ⟨j, hj, e2⟩ := pk_andE y (m := 7) 3 (by decide)
  have hj8 : j < 8 := hj
  rw [e, e2, zx_el q hq j hj8]
  exact zb_in (by omega)
theorem zx_a8 (w : Int32) : vp_in (ze_a w) 8 := pk_andIn _ 3 (by decide) (by omega)
theorem zx_b8 (w : Int32) : vp_in (ze_b w) 8 := pk_andIn _ 3 (by decide) (by omega)
theorem zx_l8 (w : Int32) : vp_in (w &&& 7) 8 := pk_andIn _ 3 (by decide) (by omega)
/-- the registers and homes hold what X says -/
def zx_H (X : Nat → Prop) (a27 a28 : Nat → Int32) : Prop := (∀ l, l < 8 → X l → vp_in (a27 l) 3) ∧ (∀ l, l < 11 → X (8 + l) → vp_in (a28 l) 3)
theorem zx_wr {X Y : Nat → Prop} {a27 a28 : Nat → Int32} {r : Nat} {x : Int32} (h : zx_H X a27 a28) (hr : r < 8) (hY : ∀ l, Y l → (l = r ∧ vp_in x 3) ∨ (l ≠ r ∧ X l)) : zx_H Y (upd a27 r x) a28 := by
  refine ⟨fun l hl y => ?_, fun l hl y => ?_⟩
  · rcases hY l y with ⟨z1, z2⟩ | ⟨z1, z2⟩
    · rw [z1, pk_us]; exact z2
    · rw [pk_un z1]; exact h.1 l hl z2
  · rcases hY _ y with ⟨z1, _⟩ | ⟨_, z2⟩
    · omega
    · exact h.2 l hl z2
theorem zx_wh {X Y : Nat → Prop} {a27 a28 : Nat → Int32} {r : Nat} {x : Int32} (h : zx_H X a27 a28) (hY : ∀ l, Y l → (l = 8 + r ∧ vp_in x 3) ∨ (l ≠ 8 + r ∧ X l)) : zx_H Y a27 (upd a28 r x) := by
  refine ⟨fun l hl y => ?_, fun l hl y => ?_⟩
  · rcases hY l y with ⟨z1, _⟩ | ⟨_, z2⟩
    · omega
    · exact h.1 l hl z2
  · rcases hY _ y with ⟨z1, z2⟩ | ⟨z1, z2⟩
    · have : l = r := by omega
      rw [this, pk_us]; exact z2
    · rw [pk_un (by omega)]; exact h.2 l hl z2
section
variable {le ck va dn sn ln wc tr tf li tk tc lv ce sc gi pc : Int32} {iw : Int64} {a1 a2 a3 a4 a5 a6 a7 a8 a9 a10 a11 a12 a13 a14 a15 a16 a17 a18 a19 a20 a21 a22 a23 a24 a25 a26 a27 a28 a29 a30 : Nat → Int32}
theorem zx_in {post : St1 → Prop} {v x : Int32} (hv : vp_in v 11) (hco : zr_co a23) (h : ∀ a27 a28, post (le, ck, va, dn, sn, ln, wc, iw, tr, tf, li, tk, tc, lv, ce, sc, gi, pc, a1, a2, a3, a4, a5, a6, a7, a8, a9, a10, a11, a12, a13, a14, a15, a16, a17, a18, a19, a20, a21, a22, a23, a24, a25, a26, a27, a28, a29, a30)) : wpX_bringIn post (le, ck, va, dn, sn, ln, wc, iw, tr, tf, li, tk, tc, lv, ce, sc, gi, pc, a1, a2, a3, a4, a5, a6, a7, a8, a9, a10, a11, a12, a13, a14, a15, a16, a17, a18, a19, a20, a21, a22, a23, a24, a25, a26, a27, a28, a29, a30) v x := by
  refine ⟨hv, ?_⟩
  rcases hco v hv with z | z
  · exact br_t (by rw [z]; decide) ⟨hv, nm_e (h _ _)⟩
  · exact br_f (zb_nn z) ⟨hv, zb_mono z (by omega), nm_e (h _ _)⟩
theorem zx_print {post : St1 → Prop} {pr : Nat} {x : Int32} (hp : pr ≤ 300) (h : ∀ a30, post (le, ck, va, dn, sn, ln, wc, iw, tr, tf, li, tk, tc, lv, ce, sc, gi, nI (pr + 1), a1, a2, a3, a4, a5, a6, a7, a8, a9, a10, a11, a12, a13, a14, a15, a16, a17, a18, a19, a20, a21, a22, a23, a24, a25, a26, a27, a28, a29, a30)) : wpX_print post (le, ck, va, dn, sn, ln, wc, iw, tr, tf, li, tk, tc, lv, ce, sc, gi, nI pr, a1, a2, a3, a4, a5, a6, a7, a8, a9, a10, a11, a12, a13, a14, a15, a16, a17, a18, a19, a20, a21, a22, a23, a24, a25, a26, a27, a28, a29, a30) x :=
  pk_le 20 pr (fun _ => nm_r (nI_1 pr) (h _)) (fun g => ⟨zb_in (by omega), nm_e (nm_r (nI_1 pr) (h _))⟩)
theorem zx_step {post : St1 → Prop} {w : Int32} {X Y : Nat → Prop} {P : Int32 → (Nat → Prop) → Prop} {pr : Nat} (hok : ze_ok w X Y P) (hk : ze_w w < 25 ∨ ze_w w = 29 ∨ 32 < ze_w w) (hH : zx_H X a27 a28) (hp : pr ≤ 300)
    (h : ∀ pr' a27 a28 a29 a30, zx_H Y a27 a28 → ((pr' = pr ∧ (Y 19 → X 19)) ∨ (pr' = pr + 1 ∧ X 19 ∧ ¬ Y 19)) → post (le, ck, va, dn, sn, ln, wc, iw, tr, tf, li, tk, tc, lv, ce, sc, gi, nI pr', a1, a2, a3, a4, a5, a6, a7, a8, a9, a10, a11, a12, a13, a14, a15, a16, a17, a18, a19, a20, a21, a22, a23, a24, a25, a26, a27, a28, a29, a30)) : wpX_step post (le, ck, va, dn, sn, ln, wc, iw, tr, tf, li, tk, tc, lv, ce, sc, gi, nI pr, a1, a2, a3, a4, a5, a6, a7, a8, a9, a10, a11, a12, a13, a14, a15, a16, a17, a18, a19, a20, a21, a22, a23, a24, a25, a26, a27, a28, a29, a30) w (ze_w w) (ze_l w) := by
  have vA := zx_a8 w
  have vB := zx_b8 w
  have vL := zx_l8 (ze_l w)
  have la := zb_lt vA
  have lb := zb_lt vB
  refine nm_r (e' := ze_a w) rfl (nm_r (e' := ze_b w) rfl (nm_r (e' := ze_n w) rfl ?_))
  -- a register written with anything
  have any : (∀ l, Y l → l ≠ (ze_a w).toNatClampNeg ∧ X l) → ∀ x a29 a30, post (le, ck, va, dn, sn, ln, wc, iw, tr, tf, li, tk, tc, lv, ce, sc, gi, nI pr, a1, a2, a3, a4, a5, a6, a7, a8, a9, a10, a11, a12, a13, a14, a15, a16, a17, a18, a19, a20, a21, a22, a23, a24, a25, a26, upd a27 (ze_a w).toNatClampNeg x, a28, a29, a30) := fun g x a29 a30 =>
    h pr _ _ _ _ (zx_wr hH la (fun l y => Or.inr (g l y))) (Or.inl ⟨rfl, fun y => (g 19 y).2⟩)
  have nc : ∀ {Q : Int32 → Prop}, (ze_w w < 3 ∨ 12 < ze_w w) → Q 0 → wpX_isCombined Q (le, ck, va, dn, sn, ln, wc, iw, tr, tf, li, tk, tc, lv, ce, sc, gi, nI pr, a1, a2, a3, a4, a5, a6, a7, a8, a9, a10, a11, a12, a13, a14, a15, a16, a17, a18, a19, a20, a21, a22, a23, a24, a25, a26, a27, a28, a29, a30) (ze_w w) := fun g q => g.elim (fun g => br_t g q) (fun g => br_c (fun _ => q) (fun _ => br_t g q))
  rcases hok with ⟨k, g⟩ | ⟨k, g⟩ | ⟨k, g⟩ | ⟨k, k2, g⟩ | ⟨k, k2, g⟩ | ⟨k, k2, g⟩ | ⟨k, k2, g⟩ | ⟨k, _⟩ | ⟨k, _⟩ | ⟨k, k2, g⟩ | ⟨k, _⟩
  · rcases k with k | k | k | k | k
    · exact br_f k.1 (br_f k.2 (br_f (by decide) ⟨vB, vL, zs_comb (fun x => ⟨vA, nm_e (any g x _ _)⟩)⟩))
    · refine nc (Or.inr (Int32.lt_trans (by decide) k)) (br_t rfl (br_f (fun y => Int32.not_lt.mpr y k) ⟨vB, zs_comb (fun x => ⟨vA, nm_e (any g x _ _)⟩)⟩))
    · exact nc (by rw [k]; decide) (br_t rfl (br_t (by rw [k]; decide) (br_f (by rw [k]; decide) (br_t k ⟨vA, nm_e (any g _ _ _)⟩))))
    · exact nc (by rw [k]; decide) (br_t rfl (br_t (by rw [k]; decide) (br_f (by rw [k]; decide) (br_f (by rw [k]; decide) (br_t k ⟨vB, vA, nm_e (any g _ _ _)⟩)))))
    · exact nc (by rw [k]; decide) (br_t rfl (br_t (by rw [k]; decide) (br_f (by rw [k]; decide) (br_f (by rw [k]; decide) (br_f (by rw [k]; decide) (br_f (by rw [k]; decide) (br_t k ⟨vB, vA, nm_e (any g _ _ _)⟩)))))))
  · refine nc (by rw [k]; decide) (br_t rfl (br_t (by rw [k]; decide) (br_t k ⟨vA, nm_e (h pr _ _ _ _ (zx_wr hH la g) (Or.inl ⟨rfl, fun y => ?_⟩))⟩)))
    rcases g 19 y with z | z
    · omega
    · exact z.2
  · refine nc (by rw [k]; decide) (br_t rfl (br_t (by rw [k]; decide) (br_f (by rw [k]; decide) (br_f (by rw [k]; decide) (br_f (by rw [k]; decide) (br_t k ⟨vB, vA, nm_e (h pr _ _ _ _ (zx_wr hH la (fun l y => (g l y).imp (fun z => ⟨z.1, hH.1 _ lb z.2⟩) id)) (Or.inl ⟨rfl, fun y => ?_⟩))⟩))))))
    rcases g 19 y with z | z
    · omega
    · exact z.2
  · have h3 := hH.1 _ lb k2
    exact nc (by rw [k]; decide) (br_t rfl (br_t (by rw [k]; decide) (br_f (by rw [k]; decide) (br_f (by rw [k]; decide) (br_f (by rw [k]; decide) (br_f (by rw [k]; decide) (br_f (by rw [k]; decide) (br_t k ⟨vB, vL, zx_in24 h3, vA, nm_e (any g _ _ _)⟩))))))))
  · have h3 := hH.1 _ la k2
    exact nc (by rw [k]; decide) (br_t rfl (br_t (by rw [k]; decide) (br_f (by rw [k]; decide) (br_f (by rw [k]; decide) (br_f (by rw [k]; decide) (br_f (by rw [k]; decide) (br_f (by rw [k]; decide) (br_f (by rw [k]; decide) (br_t k ⟨vA, vB, vL, zx_in24 h3, nm_e (h pr _ _ _ _ ⟨fun l hl y => hH.1 l hl (g l y), fun l hl y => hH.2 l hl (g _ y)⟩ (Or.inl ⟨rfl, g 19⟩))⟩)))))))))
  · refine nc (by rw [k]; decide) (br_t rfl (br_t (by rw [k]; decide) (br_f (by rw [k]; decide) (br_f (by rw [k]; decide) (br_f (by rw [k]; decide) (br_f (by rw [k]; decide) (br_f (by rw [k]; decide) (br_f (by rw [k]; decide) (br_f (by rw [k]; decide) (br_t k ⟨k2, vA, nm_e (h pr _ _ _ _ (zx_wr hH la (fun l y => (g l y).imp (fun z => ⟨z.1, hH.2 _ (zb_lt k2) z.2⟩) id)) (Or.inl ⟨rfl, fun y => ?_⟩))⟩))))))))))
    rcases g 19 y with z | z
    · omega
    · exact z.2
  · refine nc (by rw [k]; decide) (br_t rfl (br_t (by rw [k]; decide) (br_f (by rw [k]; decide) (br_f (by rw [k]; decide) (br_f (by rw [k]; decide) (br_f (by rw [k]; decide) (br_f (by rw [k]; decide) (br_f (by rw [k]; decide) (br_f (by rw [k]; decide) (br_f (by rw [k]; decide) (br_t k ⟨vA, k2, nm_e (h pr _ _ _ _ (zx_wh hH (fun l y => (g l y).imp (fun z => ⟨z.1, hH.1 _ la z.2⟩) id)) (Or.inl ⟨rfl, fun y => ?_⟩))⟩)))))))))))
    rcases g 19 y with z | z
    · have := zb_lt k2; omega
    · exact z.2
  · exfalso
    rcases k with k | k | k <;> rw [k] at hk <;> exact absurd hk (by decide)
  · rw [k] at hk; exact absurd hk (by decide)
  · refine nc (by rw [k]; decide) (br_t rfl (br_t (by rw [k]; decide) (br_f (by rw [k]; decide) (br_f (by rw [k]; decide) (br_f (by rw [k]; decide) (br_f (by rw [k]; decide) (br_f (by rw [k]; decide) (br_f (by rw [k]; decide) (br_f (by rw [k]; decide) (br_f (by rw [k]; decide) (br_f (by rw [k]; decide) (br_t k ⟨vA, ?_⟩))))))))))))
    exact zx_print hp (fun a30 => h (pr + 1) _ _ _ _ ⟨fun l hl y => hH.1 l hl (g l y).2, fun l hl y => hH.2 l hl (g _ y).2⟩ (Or.inr ⟨rfl, k2, fun y => (g 19 y).1 rfl⟩))
  · rw [k] at hk; exact absurd hk (by decide)
/-- how a run ends -/
def zx_end (r sc gi pc : Int32) : Prop := (r = 0 ∨ (r = 1 ∧ sc = 300 ∧ gi = 0)) ∧ ∃ st pr : Nat, sc = nI st ∧ pc = nI pr ∧ 1 ≤ st ∧ st ≤ 300 ∧ pr ≤ st
theorem zx_exec {post : Int32 → St1 → Prop} {e : Nat} {x y : Int32} (hg : ze_cg a25 e a23) (h : ∀ r sc gi pc a27 a28 a29 a30, zx_end r sc gi pc → post r (le, ck, va, dn, sn, ln, wc, iw, tr, tf, li, tk, tc, lv, nI e, sc, gi, pc, a1, a2, a3, a4, a5, a6, a7, a8, a9, a10, a11, a12, a13, a14, a15, a16, a17, a18, a19, a20, a21, a22, a23, a24, a25, a26, a27, a28, a29, a30)) : wpX_execute post (le, ck, va, dn, sn, ln, wc, iw, tr, tf, li, tk, tc, lv, nI e, sc, gi, pc, a1, a2, a3, a4, a5, a6, a7, a8, a9, a10, a11, a12, a13, a14, a15, a16, a17, a18, a19, a20, a21, a22, a23, a24, a25, a26, a27, a28, a29, a30) x y := by
  obtain ⟨he, hco, C, hC0, hok, hend⟩ := hg
  unfold wpX_execute
  refine zx_in (zb_in (n := 0) (by omega)) hco (fun a27 a28 => ?_)
  refine zx_in (zb_in (n := 1) (by omega)) hco (fun a27 a28 => ?_)
  refine loop_m (σ := Nat × Nat × Nat × Nat × (Nat → Int32) × (Nat → Int32) × (Nat → Int32) × (Nat → Int32))
    (fun n s => wX_execute_29 post n (nI s.1) le ck va dn sn ln wc iw tr tf li tk tc lv (nI e) (nI s.2.1) 0 (nI s.2.2.1) a1 a2 a3 a4 a5 a6 a7 a8 a9 a10 a11 a12 a13 a14 a15 a16 a17 a18 a19 a20 a21 a22 a23 a24 a25 a26 s.2.2.2.2.1 s.2.2.2.2.2.1 s.2.2.2.2.2.2.1 s.2.2.2.2.2.2.2)
    (fun s => s.1 ≤ e ∧ s.2.1 ≤ 300 ∧ s.2.2.1 ≤ s.2.2.2.1 ∧ s.2.2.2.1 ≤ s.2.1 ∧ (C s.1 19 → s.2.2.2.1 + 1 ≤ s.2.1) ∧ zx_H (C s.1) s.2.2.2.2.1 s.2.2.2.2.2.1)
    (fun s => (300 - s.2.2.2.1) * (e + 1) + (e - s.1)) ?_ (0, 0, 0, 0, a27, a28, a29, a30) ⟨by (try dsimp only); omega, by (try dsimp only); omega, by (try dsimp only); omega, by (try dsimp only); omega, fun g => absurd g (hC0 _), fun l _ g => absurd g (hC0 _), fun l _ g => absurd g (hC0 _)⟩
  rintro n ⟨p, st, pr, u, a27, a28, a29, a30⟩ ⟨h1, h2, h3, h4, h5, h6⟩ hstep
  (try dsimp only at h1 h2 h3 h4 h5 h6 hstep ⊢)
  refine pk_le e p (fun g => h 0 _ _ _ _ _ _ _ ⟨Or.inl rfl, st, pr, rfl, rfl, ?_, h2, by omega⟩) (fun g => ?_)
  · have : p = e := by omega
    rw [this] at h5
    have := h5 hend
    omega
  have v := zb_in (n := p) (N := 700) (by omega)
  have c := zb_cl (n := p) (N := 700) (by omega)
  refine ⟨v, nm_r (e' := a25 p) (by first | rw [c] | rfl) (nm_r (e' := ze_w (a25 p)) rfl (nm_r (e' := ze_l (a25 p)) rfl ⟨zx_a8 (a25 p), nm_e ?_⟩))⟩
  have ok := hok p g
  -- the next word
  have adv : ∀ (st' pr' u' : Nat) (a27 a28 a29 a30 : Nat → Int32), st' ≤ 300 → pr' ≤ u' → u' ≤ st' → u ≤ u' → (C (p + 1) 19 → u' + 1 ≤ st') → zx_H (C (p + 1)) a27 a28 →
      ∀ z, z = nI p + 1 → wX_execute_29 post n z le ck va dn sn ln wc iw tr tf li tk tc lv (nI e) (nI st') 0 (nI pr') a1 a2 a3 a4 a5 a6 a7 a8 a9 a10 a11 a12 a13 a14 a15 a16 a17 a18 a19 a20 a21 a22 a23 a24 a25 a26 a27 a28 a29 a30 := fun st' pr' u' a27 a28 a29 a30 k1 k2 k3 k4 k5 k6 => nm_r (nI_1 p) (hstep (p + 1, st', pr', u', a27, a28, a29, a30) ⟨by (try dsimp only); omega, k1, k2, k3, k5, k6⟩ (by
        (try dsimp only)
        have : (300 - u') * (e + 1) ≤ (300 - u) * (e + 1) := Nat.mul_le_mul_right _ (by omega)
        omega))
  -- words that step
  have plainStep : (ze_w (a25 p) < 25 ∨ ze_w (a25 p) = 29 ∨ 32 < ze_w (a25 p)) → wX_execute_115 post (wX_execute_29 post n) (nI p) (a25 p) (ze_w (a25 p)) (ze_l (a25 p)) (a27 (ze_a (a25 p)).toNatClampNeg) le ck va dn sn ln wc iw tr tf li tk tc lv (nI e) (nI st) 0 (nI pr) a1 a2 a3 a4 a5 a6 a7 a8 a9 a10 a11 a12 a13 a14 a15 a16 a17 a18 a19 a20 a21 a22 a23 a24 a25 a26 a27 a28 a29 a30 := by
    intro hk
    have d : ∀ q : Int32, (¬ q < 25 ∧ q ≠ 29 ∧ ¬ 32 < q) → ze_w (a25 p) ≠ q := fun q hq z => by
      rw [z] at hk
      exact hk.elim hq.1 (fun k => k.elim hq.2.1 hq.2.2)
    have k182 : wX_execute_182 post (wX_execute_29 post n) (nI p) (a25 p) (ze_w (a25 p)) (ze_l (a25 p)) 0 le ck va dn sn ln wc iw tr tf li tk tc lv (nI e) (nI st) 0 (nI pr) a1 a2 a3 a4 a5 a6 a7 a8 a9 a10 a11 a12 a13 a14 a15 a16 a17 a18 a19 a20 a21 a22 a23 a24 a25 a26 a27 a28 a29 a30 := by
      unfold wX_execute_182
      refine zx_step ok hk h6 (by omega) (fun pr' a27 a28 a29 a30 k1 k2 => br_t rfl ?_)
      rcases k2 with ⟨k2, k3⟩ | ⟨k2, k3, k4⟩
      · subst k2
        exact adv st pr' u a27 a28 a29 a30 h2 h3 h4 (Nat.le_refl _) (fun z => h5 (k3 z)) k1
      · subst k2
        have := h5 k3
        exact adv st (pr + 1) (u + 1) a27 a28 a29 a30 h2 (by omega) this (by omega) (fun z => absurd z k4) k1
    refine br_f (d _ (by decide)) (br_f (d _ (by decide)) (br_f (d _ (by decide)) (br_f (d _ (by decide)) (br_c (fun _ => k182) (fun z => br_f (fun y => ?_) k182)))))
    rcases hk with k | k | k
    · exact z k
    · rw [k] at y; exact absurd y (by decide)
    · exact absurd (Int32.lt_trans k y) (by decide)
  have n28 : (ze_w (a25 p) < 25 ∨ ze_w (a25 p) = 29 ∨ 32 < ze_w (a25 p)) → ze_w (a25 p) ≠ 28 := fun hk z => by
    rw [z] at hk; exact absurd hk (by decide)
  have ok' := ok
  rcases ok' with ⟨k, _⟩ | ⟨k, _⟩ | ⟨k, _⟩ | ⟨k, _⟩ | ⟨k, _⟩ | ⟨k, _⟩ | ⟨k, _⟩ | ⟨k, kA, kY, t, t1, t2, t3⟩ | ⟨k, k1, k2, kY⟩ | ⟨k, _⟩ | ⟨k, kA⟩
  · suffices hk : ze_w (a25 p) < 25 ∨ ze_w (a25 p) = 29 ∨ 32 < ze_w (a25 p) from br_f (n28 hk) (plainStep hk)
    rcases k with k | k | k | k | k
    · exact Or.inl (Int32.lt_of_le_of_lt (Int32.not_lt.mp k.2) (by decide))
    · exact Or.inr (Or.inr k)
    · rw [k]; decide
    · rw [k]; decide
    · rw [k]; decide
  · have hk : ze_w (a25 p) < 25 ∨ ze_w (a25 p) = 29 ∨ 32 < ze_w (a25 p) := by rw [k]; decide
    exact br_f (n28 hk) (plainStep hk)
  · have hk : ze_w (a25 p) < 25 ∨ ze_w (a25 p) = 29 ∨ 32 < ze_w (a25 p) := by rw [k]; decide
    exact br_f (n28 hk) (plainStep hk)
  · have hk : ze_w (a25 p) < 25 ∨ ze_w (a25 p) = 29 ∨ 32 < ze_w (a25 p) := by rw [k]; decide
    exact br_f (n28 hk) (plainStep hk)
  · have hk : ze_w (a25 p) < 25 ∨ ze_w (a25 p) = 29 ∨ 32 < ze_w (a25 p) := by rw [k]; decide
    exact br_f (n28 hk) (plainStep hk)
  · have hk : ze_w (a25 p) < 25 ∨ ze_w (a25 p) = 29 ∨ 32 < ze_w (a25 p) := by rw [k]; decide
    exact br_f (n28 hk) (plainStep hk)
  · have hk : ze_w (a25 p) < 25 ∨ ze_w (a25 p) = 29 ∨ 32 < ze_w (a25 p) := by rw [k]; decide
    exact br_f (n28 hk) (plainStep hk)
  · -- a jump
    have hu := h5 kA
    have d : ∀ q : Int32, (q ≠ 25 ∧ q ≠ 26 ∧ q ≠ 27) → ze_w (a25 p) ≠ q := fun q hq z => by
      rw [z] at k
      exact k.elim hq.1 (fun k => k.elim hq.2.1 hq.2.2)
    have r25 : ¬ ze_w (a25 p) < 25 := by rcases k with k | k | k <;> rw [k] <;> decide
    have r29 : ze_w (a25 p) < 29 := by rcases k with k | k | k <;> rw [k] <;> decide
    have goes : wX_execute_161 post (wX_execute_29 post n) (nI p) (a25 p) (ze_w (a25 p)) (ze_l (a25 p)) le ck va dn sn ln wc iw tr tf li tk tc lv (nI e) (nI st) 0 (nI pr) a1 a2 a3 a4 a5 a6 a7 a8 a9 a10 a11 a12 a13 a14 a15 a16 a17 a18 a19 a20 a21 a22 a23 a24 a25 a26 a27 a28 a29 a30 := by
      refine br_f r25 (br_t r29 (br_f (by decide) ?_))
      rw [t2]
      refine hstep (t, st, pr, u + 1, a27, a28, a29, a30) ⟨t1, h2, by (try dsimp only); omega, hu, fun z => absurd rfl (t3 19 z).1, fun l hl z => h6.1 l hl (t3 l z).2, fun l hl z => h6.2 l hl (t3 _ z).2⟩ ?_
      (try dsimp only)
      have e1 : 300 - u = (300 - (u + 1)) + 1 := by omega
      rw [e1, Nat.add_mul]
      omega
    have stays : ze_w (a25 p) ≠ 27 → wX_execute_165 post (wX_execute_29 post n) (nI p) (a25 p) (ze_w (a25 p)) (ze_l (a25 p)) le ck va dn sn ln wc iw tr tf li tk tc lv (nI e) (nI st) 0 (nI pr) a1 a2 a3 a4 a5 a6 a7 a8 a9 a10 a11 a12 a13 a14 a15 a16 a17 a18 a19 a20 a21 a22 a23 a24 a25 a26 a27 a28 a29 a30 := fun n27 =>
      br_f r25 (br_t r29 (br_t rfl (adv st pr u a27 a28 a29 a30 h2 h3 h4 (Nat.le_refl _) (fun z => absurd rfl (kY n27 19 z).1) ⟨fun l hl z => h6.1 l hl (kY n27 l z).2, fun l hl z => h6.2 l hl (kY n27 _ z).2⟩)))
    refine br_f (d _ (by decide)) (br_f (d _ (by decide)) (br_c (fun _ => goes) (fun n27 => ?_)))
    have k149 : ∀ x7, (ze_w (a25 p) ≠ 26 ∨ True) → wX_execute_149 post (wX_execute_29 post n) (nI p) (a25 p) (ze_w (a25 p)) (ze_l (a25 p)) x7 le ck va dn sn ln wc iw tr tf li tk tc lv (nI e) (nI st) 0 (nI pr) a1 a2 a3 a4 a5 a6 a7 a8 a9 a10 a11 a12 a13 a14 a15 a16 a17 a18 a19 a20 a21 a22 a23 a24 a25 a26 a27 a28 a29 a30 := fun x7 _ => br_c (fun _ => br_c (fun _ => stays n27) (fun _ => goes)) (fun _ => stays n27)
    exact br_c (fun _ => br_c (fun _ => goes) (fun _ => k149 _ (Or.inr trivial))) (fun _ => k149 _ (Or.inr trivial))
  · -- a step is counted
    have ll := zb_lt k1
    have el := zb_nI k1
    have sum : nI st + ze_l (a25 p) = nI (st + (ze_l (a25 p)).toNatClampNeg) := by rw [← nI_add, ← el]
    have d : ∀ q : Int32, q ≠ 28 → ze_w (a25 p) ≠ q := fun q hq z => hq (z.symm.trans k)
    refine br_t k ?_
    rw [sum]
    refine pk_le (st + (ze_l (a25 p)).toNatClampNeg) 300 (fun y => nm_e ?_) (fun y => h 1 _ _ _ _ _ _ _ ⟨Or.inr ⟨rfl, rfl, rfl⟩, 300, pr, rfl, rfl, by omega, by omega, by omega⟩)
    refine br_f (d _ (by decide)) (br_f (d _ (by decide)) (br_f (d _ (by decide)) (br_f (d _ (by decide)) (br_f (by rw [k]; decide) (br_t (by rw [k]; decide) (br_t rfl ?_))))))
    exact adv (st + (ze_l (a25 p)).toNatClampNeg) pr u a27 a28 a29 a30 y h3 (by omega) (Nat.le_refl _) (fun _ => by omega) ⟨fun l hl z => h6.1 l hl ((kY l z).elim (fun z => by omega) id), fun l hl z => h6.2 l hl ((kY _ z).elim (fun z => by omega) id)⟩
  · have hk : ze_w (a25 p) < 25 ∨ ze_w (a25 p) = 29 ∨ 32 < ze_w (a25 p) := by rw [k]; decide
    exact br_f (n28 hk) (plainStep hk)
  · -- the end
    have hu := h5 kA
    refine br_f (by rw [k]; decide) (br_t k (h 0 _ _ _ _ _ _ _ ⟨Or.inl rfl, st, pr, rfl, rfl, by omega, h2, by omega⟩))
end
end
section
/-! translating, running, and what the law asks besides -/
/-- an instruction that fits -/
def zw_fit (o n : Int32) : Prop := vp_in o 27 ∧ (o = 1 ∨ o = 2 → vp_in n 4) ∧ (o = 17 → vp_in n 3)
/-- what holds between the calls -/
def zw_I (n : Nat) (ck va tr ce : Int32) (a1 a2 a3 a4 a5 a23 a25 : Nat → Int32) : Prop :=
  n ≤ 40 ∧ zc_P n a1 a2 ∧ zc_K n ck va a1 a2 a3 a4 a5 ∧ (tr = 0 ∨ ∃ c, ce = nI c ∧ ze_cg a25 c a23)
def zw_o (pc : Int32) (a30 : Nat → Int32) (k : Nat) : Int32 := if pc ≤ nI k then 0 else a30 k
def zw_h1 (g pc : Int32) (a30 : Nat → Int32) : Nat → Int32
  | 0 => g
  | k + 1 => 31 * zw_h1 g pc a30 k + zw_o pc a30 k
def zw_h2 (g : Int32) (a29 : Nat → Int32) : Nat → Int32
  | 0 => g
  | k + 1 => 31 * zw_h2 g a29 k + a29 k
/-- the sum that the law takes -/
def zw_V (sc gi pc : Int32) (a29 a30 : Nat → Int32) : Int32 := zw_h2 (zw_h1 (((31 * gi) + (7 * sc)) + pc) pc a30 20) a29 24
theorem zw_k8 : ∀ k, k < 24 → nI k >>> ((3 : Int32) &&& 31) = nI (k / 8) ∧ nI k &&& 7 = nI (k % 8) ∧ 8 * nI (k / 8) + nI (k % 8) = nI k := by decide +kernel
section
variable {le ck va dn sn ln wc tr tf li tk tc lv ce sc gi pc : Int32} {iw : Int64} {a1 a2 a3 a4 a5 a6 a7 a8 a9 a10 a11 a12 a13 a14 a15 a16 a17 a18 a19 a20 a21 a22 a23 a24 a25 a26 a27 a28 a29 a30 : Nat → Int32}
theorem zw_29 {post : St1 → Prop} {e : Nat} (hL : zt_L e a7 a8 a9 a10 a11) (hN : zt_N e a7) (h : ∀ ce a12 a21 a22 a23 a24 a25 a26, ze_cg a25 ce a23 → post (le, ck, va, dn, sn, ln, wc, iw, tr, tf, nI e, tk, tc, lv, nI ce, sc, gi, pc, a1, a2, a3, a4, a5, a6, a7, a8, a9, a10, a11, a12, a13, a14, a15, a16, a17, a18, a19, a20, a21, a22, a23, a24, a25, a26, a27, a28, a29, a30)) : wX_translate_29 post le ck va dn sn ln wc iw tr tf (nI e) tk tc lv ce sc gi pc a1 a2 a3 a4 a5 a6 a7 a8 a9 a10 a11 a12 a13 a14 a15 a16 a17 a18 a19 a20 a21 a22 a23 a24 a25 a26 a27 a28 a29 a30 := by
  unfold wX_translate_29
  refine za_find hL hN (fun a12 a21 hLV => ?_)
  refine zr_choose hL hN hLV (fun a22 b23 a24 hco hX => ?_)
  exact ze_encode hL hN hLV hco hX (fun ce a25 a26 g => h _ _ _ _ _ _ _ _ g)
theorem zw_tra {post : St1 → Prop} {n : Nat} (hn : n ≤ 40) (hP : zc_P n a1 a2) (hOK : zc_OK n a1 a2 a3 a4 a5)
    (h : ∀ tr tf li tk tc ce a7 a8 a9 a10 a11 a12 a13 a14 a15 a16 a17 a18 a19 a20 a21 a22 a23 a24 a25 a26, ze_cg a25 ce a23 → post (nI n, ck, va, dn, sn, ln, wc, iw, tr, tf, li, tk, tc, lv, nI ce, sc, gi, pc, a1, a2, a3, a4, a5, a6, a7, a8, a9, a10, a11, a12, a13, a14, a15, a16, a17, a18, a19, a20, a21, a22, a23, a24, a25, a26, a27, a28, a29, a30)) : wpX_translate post (nI n, ck, va, dn, sn, ln, wc, iw, tr, tf, li, tk, tc, lv, ce, sc, gi, pc, a1, a2, a3, a4, a5, a6, a7, a8, a9, a10, a11, a12, a13, a14, a15, a16, a17, a18, a19, a20, a21, a22, a23, a24, a25, a26, a27, a28, a29, a30) := by
  unfold wpX_translate
  refine zl_lower hn hP hOK (fun e tk a7 a8 a9 a10 a11 hL hN => br_c (fun _ => ?_) (fun _ => ?_))
  · refine zj_improve hL hN (fun e tc a7 a8 a9 a10 a11 a12 a13 a14 a15 a16 a17 a18 a19 a20 a21 hL hN => ?_)
    exact zw_29 hL hN (fun ce a12 a21 a22 a23 a24 a25 a26 g => h _ _ _ _ _ _ _ _ _ _ _ _ _ _ _ _ _ _ _ _ _ _ _ _ _ _ g)
  · exact zw_29 hL hN (fun ce a12 a21 a22 a23 a24 a25 a26 g => h _ _ _ _ _ _ _ _ _ _ _ _ _ _ _ _ _ _ _ _ _ _ _ _ _ _ g)
/-- run, once checked -/
theorem zw_run {post : Int32 → St1 → Prop} {n : Nat} {x y : Int32} (hI : zw_I n 1 va tr ce a1 a2 a3 a4 a5 a23 a25)
    (h0 : va = 0 → post (-3) (nI n, 1, va, dn, sn, ln, wc, iw, tr, tf, li, tk, tc, lv, ce, sc, gi, pc, a1, a2, a3, a4, a5, a6, a7, a8, a9, a10, a11, a12, a13, a14, a15, a16, a17, a18, a19, a20, a21, a22, a23, a24, a25, a26, a27, a28, a29, a30))
    (h1 : ∀ r tr tf li tk tc ce sc gi pc a7 a8 a9 a10 a11 a12 a13 a14 a15 a16 a17 a18 a19 a20 a21 a22 a23 a24 a25 a26 a27 a28 a29 a30, va = 1 → zx_end r sc gi pc → zw_I n 1 va tr ce a1 a2 a3 a4 a5 a23 a25 → post r (nI n, 1, va, dn, sn, ln, wc, iw, tr, tf, li, tk, tc, lv, ce, sc, gi, pc, a1, a2, a3, a4, a5, a6, a7, a8, a9, a10, a11, a12, a13, a14, a15, a16, a17, a18, a19, a20, a21, a22, a23, a24, a25, a26, a27, a28, a29, a30)) :
    wpX_run post (nI n, 1, va, dn, sn, ln, wc, iw, tr, tf, li, tk, tc, lv, ce, sc, gi, pc, a1, a2, a3, a4, a5, a6, a7, a8, a9, a10, a11, a12, a13, a14, a15, a16, a17, a18, a19, a20, a21, a22, a23, a24, a25, a26, a27, a28, a29, a30) x y := by
  obtain ⟨hn, hP, hK, hT⟩ := hI
  have hva : va = 0 ∨ (va = 1 ∧ zc_OK n a1 a2 a3 a4 a5) := by
    rcases hK with z | z
    · exact absurd z (by decide)
    · exact z.2
  unfold wpX_run
  refine zc_valid1 (hva.imp id (fun z => z.1)) ?_
  rcases hva with z | ⟨z, hOK⟩
  · subst z
    exact br_t rfl (h0 rfl)
  · subst z
    have k32 : ∀ (tr tf li tk tc : Int32) (c : Nat) (a7 a8 a9 a10 a11 a12 a13 a14 a15 a16 a17 a18 a19 a20 a21 a22 a23 a24 a25 a26 : Nat → Int32), ze_cg a25 c a23 → wX_run_32 post x y (nI n) 1 1 dn sn ln wc iw tr tf li tk tc lv (nI c) sc gi pc a1 a2 a3 a4 a5 a6 a7 a8 a9 a10 a11 a12 a13 a14 a15 a16 a17 a18 a19 a20 a21 a22 a23 a24 a25 a26 a27 a28 a29 a30 := by
      intro tr tf li tk tc c a7 a8 a9 a10 a11 a12 a13 a14 a15 a16 a17 a18 a19 a20 a21 a22 a23 a24 a25 a26 g
      unfold wX_run_32
      refine zx_exec g (fun r sc gi pc a27 a28 a29 a30 he => ?_)
      exact h1 _ _ _ _ _ _ _ _ _ _ _ _ _ _ _ _ _ _ _ _ _ _ _ _ _ _ _ _ _ _ _ _ _ _ rfl he ⟨hn, hP, hK, Or.inr ⟨c, rfl, g⟩⟩
    have k28 : wX_run_28 post x y (nI n) 1 1 dn sn ln wc iw tr tf li tk tc lv ce sc gi pc a1 a2 a3 a4 a5 a6 a7 a8 a9 a10 a11 a12 a13 a14 a15 a16 a17 a18 a19 a20 a21 a22 a23 a24 a25 a26 a27 a28 a29 a30 := by
      unfold wX_run_28
      exact zw_tra hn hP hOK (fun tr tf li tk tc c a7 a8 a9 a10 a11 a12 a13 a14 a15 a16 a17 a18 a19 a20 a21 a22 a23 a24 a25 a26 g => k32 _ _ _ _ _ c _ _ _ _ _ _ _ _ _ _ _ _ _ _ _ _ _ _ _ _ g)
    refine br_f (by decide) (br_c (fun _ => k28) (fun z => br_c (fun _ => ?_) (fun _ => k28)))
    rcases hT with y | ⟨c, y1, y2⟩
    · exact absurd y z
    · subst y1
      exact k32 _ _ _ _ _ c _ _ _ _ _ _ _ _ _ _ _ _ _ _ _ _ _ _ _ _ y2
theorem zw_iel {post : Int32 → Prop} {p q : Int32} (h0 : ¬ (vp_in p 3 ∧ vp_in q 8) → post 0) (h1 : vp_in p 3 → vp_in q 8 → post 1) : wpX_isElement post (le, ck, va, dn, sn, ln, wc, iw, tr, tf, li, tk, tc, lv, ce, sc, gi, pc, a1, a2, a3, a4, a5, a6, a7, a8, a9, a10, a11, a12, a13, a14, a15, a16, a17, a18, a19, a20, a21, a22, a23, a24, a25, a26, a27, a28, a29, a30) p q := by
  refine br_c (fun z => h0 (fun g => zb_nn g.1 z)) (fun z => br_c (fun z2 => h0 (fun g => ?_)) (fun z2 => br_c (fun z3 => h0 (fun g => zb_nn g.2 z3)) (fun z3 => br_c (fun z4 => h0 (fun g => ?_)) (fun z4 => h1 (zb_le_of (n := 2) z z2 (by omega)) (zb_le_of (n := 7) z3 z4 (by omega))))))
  · have l := zb_lt g.1
    rw [zb_nI g.1] at z2
    exact nI_nlt (a := 2) (b := p.toNatClampNeg) (by omega) (by omega) z2
  · have l := zb_lt g.2
    rw [zb_nI g.2] at z4
    exact nI_nlt (a := 7) (b := q.toNatClampNeg) (by omega) (by omega) z4
theorem zw_e24 {p q : Int32} (hp : vp_in p 3) (hq : vp_in q 8) : vp_in (8 * p + q) 24 := by
  obtain ⟨a, ha, e⟩ := vp_in_of hp (by omega)
  obtain ⟨b, hb, e2⟩ := vp_in_of hq (by omega)
  rw [e, e2, zx_el a ha b hb]
  exact zb_in (by omega)
theorem zw_sum {post : Int32 → Prop} (h : post (zw_V sc gi pc a29 a30)) : wpL_sum post (le, ck, va, dn, sn, ln, wc, iw, tr, tf, li, tk, tc, lv, ce, sc, gi, pc, a1, a2, a3, a4, a5, a6, a7, a8, a9, a10, a11, a12, a13, a14, a15, a16, a17, a18, a19, a20, a21, a22, a23, a24, a25, a26, a27, a28, a29, a30) := by
  refine nm_e ?_
  refine pk_loop (σ := Unit) (fun m i _ => wL_sum_23 post le ck va dn sn ln wc iw tr tf li tk tc lv ce sc gi pc a1 a2 a3 a4 a5 a6 a7 a8 a9 a10 a11 a12 a13 a14 a15 a16 a17 a18 a19 a20 a21 a22 a23 a24 a25 a26 a27 a28 a29 a30 m (zw_h1 (((31 * gi) + (7 * sc)) + pc) pc a30 i) (nI i)) (fun _ _ => True) 20 0 () (by omega) trivial ?_ ?_
  · intro m _ _
    refine pk_le 20 20 (fun _ => ?_) (fun g => absurd g (by omega))
    refine pk_loop (σ := Unit) (fun m i _ => wL_sum_48 post le ck va dn sn ln wc iw tr tf li tk tc lv ce sc gi pc a1 a2 a3 a4 a5 a6 a7 a8 a9 a10 a11 a12 a13 a14 a15 a16 a17 a18 a19 a20 a21 a22 a23 a24 a25 a26 a27 a28 a29 a30 m (zw_h2 (zw_h1 (((31 * gi) + (7 * sc)) + pc) pc a30 20) a29 i) (nI i)) (fun _ _ => True) 24 0 () (by omega) trivial ?_ ?_
    · intro m _ _
      exact pk_le 24 24 (fun _ => h) (fun g => absurd g (by omega))
    · intro m i _ hi _ hm
      obtain ⟨e1, e2, e3⟩ := zw_k8 i hi
      refine pk_le 24 i (fun g => absurd g (by omega)) (fun _ => ?_)
      rw [e1, e2]
      have v1 := zb_in (n := i / 8) (N := 3) (by omega)
      have v2 := zb_in (n := i % 8) (N := 8) (by omega)
      unfold wpX_element
      refine zw_iel (fun g => absurd ⟨v1, v2⟩ g) (fun _ _ => br_f (by decide) ⟨zw_e24 v1 v2, ?_⟩)
      refine nm_r (e' := zw_h2 (zw_h1 (((31 * gi) + (7 * sc)) + pc) pc a30 20) a29 (i + 1)) ?_ (nm_r (nI_1 i) (hm () trivial))
      rw [e3, zb_cl (n := i) (N := 24) hi]
      rfl
  · intro m i _ hi _ hm
    refine pk_le 20 i (fun g => absurd g (by omega)) (fun _ => ?_)
    have v := zb_in (n := i) (N := 20) hi
    have nx : ∀ r, r = zw_o pc a30 i → ∀ x, x = 31 * zw_h1 (((31 * gi) + (7 * sc)) + pc) pc a30 i + r → ∀ y, y = nI i + 1 → wL_sum_23 post le ck va dn sn ln wc iw tr tf li tk tc lv ce sc gi pc a1 a2 a3 a4 a5 a6 a7 a8 a9 a10 a11 a12 a13 a14 a15 a16 a17 a18 a19 a20 a21 a22 a23 a24 a25 a26 a27 a28 a29 a30 m x y := fun r hr => nm_r (e' := zw_h1 (((31 * gi) + (7 * sc)) + pc) pc a30 (i + 1)) (by rw [hr]; rfl) (nm_r (nI_1 i) (hm () trivial))
    refine br_f (nI_pos (by omega)) (br_c (fun z => nx 0 ?_) (fun z => pk_le i 19 (fun _ => ⟨v, ?_⟩) (fun y => absurd y (by omega))))
    · unfold zw_o; rw [if_pos z]
    · rw [zb_cl (n := i) (N := 20) hi]
      exact nx _ (by unfold zw_o; rw [if_neg z])
theorem zw_fits {post : Int32 → Prop} {o n : Int32} (h0 : ¬ zw_fit o n → post 0) (h1 : zw_fit o n → post 1) : wpX_fits post (le, ck, va, dn, sn, ln, wc, iw, tr, tf, li, tk, tc, lv, ce, sc, gi, pc, a1, a2, a3, a4, a5, a6, a7, a8, a9, a10, a11, a12, a13, a14, a15, a16, a17, a18, a19, a20, a21, a22, a23, a24, a25, a26, a27, a28, a29, a30) o n := by
  refine br_c (fun z => h0 (fun g => zb_nn g.1 z)) (fun z => br_c (fun z2 => ?_) (fun z2 => h0 (fun g => z2 ?_)))
  · have vo : vp_in o 27 := zb_le_of' (n := 26) z z2 (by omega)
    have k22 : (o = 1 ∨ o = 2) → wX_fits_22 post n le ck va dn sn ln wc iw tr tf li tk tc lv ce sc gi pc a1 a2 a3 a4 a5 a6 a7 a8 a9 a10 a11 a12 a13 a14 a15 a16 a17 a18 a19 a20 a21 a22 a23 a24 a25 a26 a27 a28 a29 a30 := fun e => by
      have e17 : o ≠ 17 := by rcases e with e | e <;> rw [e] <;> decide
      refine br_c (fun y => h0 (fun g => zb_nn (g.2.1 e) y)) (fun y => br_c (fun y2 => h0 (fun g => ?_)) (fun y2 => h1 ⟨vo, fun _ => zb_le_of (n := 3) y y2 (by omega), fun t => absurd t e17⟩))
      have g' := g.2.1 e
      have l := zb_lt g'
      rw [zb_nI g'] at y2
      exact nI_nlt (a := 3) (b := n.toNatClampNeg) (by omega) (by omega) y2
    refine br_c (fun e => k22 (Or.inl e)) (fun e1 => br_c (fun e => k22 (Or.inr e)) (fun e2 => br_c (fun e => ?_) (fun e17 => h1 ⟨vo, fun t => t.elim (fun t => absurd t e1) (fun t => absurd t e2), fun t => absurd t e17⟩)))
    refine br_c (fun y => h0 (fun g => zb_nn (g.2.2 e) y)) (fun y => br_c (fun y2 => h0 (fun g => ?_)) (fun y2 => h1 ⟨vo, fun t => t.elim (fun t => absurd t e1) (fun t => absurd t e2), fun _ => zb_le_of (n := 2) y y2 (by omega)⟩))
    have g' := g.2.2 e
    have l := zb_lt g'
    rw [zb_nI g'] at y2
    exact nI_nlt (a := 2) (b := n.toNatClampNeg) (by omega) (by omega) y2
  · have l := zb_lt g.1
    rw [zb_nI g.1]
    exact nI_le (b := 26) (by omega) (by omega)
theorem zw_lfits {post : Int32 → Prop} {o n : Int32} (h0 : ¬ zw_fit o n → post 0) (h1 : zw_fit o n → post 1) : wpL_fits post () o n := by
  refine br_c (fun z => h0 (fun g => zb_nn g.1 z)) (fun z => br_c (fun z2 => h0 (fun g => ?_)) (fun z2 => ?_))
  · have l := zb_lt g.1
    rw [zb_nI g.1] at z2
    exact nI_nlt (a := 26) (b := o.toNatClampNeg) (by omega) (by omega) z2
  · have vo : vp_in o 27 := zb_le_of (n := 26) z z2 (by omega)
    have k29 : (o = 1 ∨ o = 2 → vp_in n 4) → wL_fits_29 post o n := fun h12 => by
      refine br_c (fun e => ?_) (fun e17 => h1 ⟨vo, h12, fun t => absurd t e17⟩)
      refine br_c (fun y => h0 (fun g => zb_nn (g.2.2 e) y)) (fun y => br_c (fun y2 => h0 (fun g => ?_)) (fun y2 => h1 ⟨vo, h12, fun _ => zb_le_of (n := 2) y y2 (by omega)⟩))
      have g' := g.2.2 e
      have l := zb_lt g'
      rw [zb_nI g'] at y2
      exact nI_nlt (a := 2) (b := n.toNatClampNeg) (by omega) (by omega) y2
    have k20 : (o = 1 ∨ o = 2) → wL_fits_20 post o n := fun e => by
      refine br_c (fun y => h0 (fun g => zb_nn (g.2.1 e) y)) (fun y => br_c (fun y2 => h0 (fun g => ?_)) (fun y2 => k29 (fun _ => zb_le_of (n := 3) y y2 (by omega))))
      have g' := g.2.1 e
      have l := zb_lt g'
      rw [zb_nI g'] at y2
      exact nI_nlt (a := 3) (b := n.toNatClampNeg) (by omega) (by omega) y2
    exact br_c (fun e => k20 (Or.inl e)) (fun e1 => br_c (fun e => k20 (Or.inr e)) (fun e2 => k29 (fun t => t.elim (fun t => absurd t e1) (fun t => absurd t e2))))
theorem zw_put {n : Nat} {va ce : Int32} {a1 a2 a3 a4 a5 a23 a25 : Nat → Int32} {q : Nat} {o m : Int32} (hq : q < n) (hn : n ≤ 40) (hP : ∀ j, j < n → j ≠ q → vp_in (a1 j) 27 ∧ (a1 j = 1 ∨ a1 j = 2 → vp_in (a2 j) 4) ∧ (a1 j = 17 → vp_in (a2 j) 3)) (hf : zw_fit o m) : zw_I n 0 va 0 ce (upd a1 q o) (upd a2 q m) a3 a4 a5 a23 a25 := by
  refine ⟨hn, fun j hj => ?_, Or.inl rfl, Or.inl rfl⟩
  by_cases z : j = q
  · rw [z, pk_us, pk_us]; exact hf
  · rw [pk_un z, pk_un z]; exact hP j hj z
theorem zw_replace {post : Int32 → St1 → Prop} {n : Nat} {i o m : Int32} (hn : n ≤ 40) (hP : ∀ j, j < n → j ≠ i.toNatClampNeg → vp_in (a1 j) 27 ∧ (a1 j = 1 ∨ a1 j = 2 → vp_in (a2 j) 4) ∧ (a1 j = 17 → vp_in (a2 j) 3))
    (h0 : ¬ (vp_in i n ∧ zw_fit o m) → post (-1) (nI n, ck, va, dn, sn, ln, wc, iw, tr, tf, li, tk, tc, lv, ce, sc, gi, pc, a1, a2, a3, a4, a5, a6, a7, a8, a9, a10, a11, a12, a13, a14, a15, a16, a17, a18, a19, a20, a21, a22, a23, a24, a25, a26, a27, a28, a29, a30)) (h1 : ∀ ck tr b1 b2, vp_in i n → zw_fit o m → zw_I n ck va tr ce b1 b2 a3 a4 a5 a23 a25 → post (nI n) (nI n, ck, va, dn, sn, ln, wc, iw, tr, tf, li, tk, tc, lv, ce, sc, gi, pc, b1, b2, a3, a4, a5, a6, a7, a8, a9, a10, a11, a12, a13, a14, a15, a16, a17, a18, a19, a20, a21, a22, a23, a24, a25, a26, a27, a28, a29, a30)) : wpX_replace post (nI n, ck, va, dn, sn, ln, wc, iw, tr, tf, li, tk, tc, lv, ce, sc, gi, pc, a1, a2, a3, a4, a5, a6, a7, a8, a9, a10, a11, a12, a13, a14, a15, a16, a17, a18, a19, a20, a21, a22, a23, a24, a25, a26, a27, a28, a29, a30) i o m := by
  refine br_c (fun z => h0 (fun g => zb_nn g.1 z)) (fun z => br_c (fun z2 => h0 (fun g => ?_)) (fun z2 => ?_))
  · rw [zb_nI (zb_mono g.1 hn)] at z2
    exact nI_ge (zb_lt g.1) (by omega) z2
  · have vi : vp_in i n := zb_lt_of z (Int32.not_le.mp z2) (by omega)
    refine zw_fits (fun g => br_t rfl (h0 (fun y => g y.2))) (fun g => br_f (by decide) ?_)
    have v40 := zb_mono vi hn
    exact ⟨v40, nm_r (e' := upd a1 i.toNatClampNeg o) (by rw [zb_b (zb_mono g.1 (by omega))]) ⟨v40, nm_e (h1 _ _ _ _ vi g (zw_put (zb_lt vi) hn hP g))⟩⟩
theorem zw_emit {post : Int32 → St1 → Prop} {n : Nat} {o m : Int32} (hI : zw_I n ck va tr ce a1 a2 a3 a4 a5 a23 a25)
    (h40 : n = 40 → post (-2) (nI n, ck, va, dn, sn, ln, wc, iw, tr, tf, li, tk, tc, lv, ce, sc, gi, pc, a1, a2, a3, a4, a5, a6, a7, a8, a9, a10, a11, a12, a13, a14, a15, a16, a17, a18, a19, a20, a21, a22, a23, a24, a25, a26, a27, a28, a29, a30)) (h0 : n < 40 → ¬ zw_fit o m → post (-1) (nI n, ck, va, dn, sn, ln, wc, iw, tr, tf, li, tk, tc, lv, ce, sc, gi, pc, a1, a2, a3, a4, a5, a6, a7, a8, a9, a10, a11, a12, a13, a14, a15, a16, a17, a18, a19, a20, a21, a22, a23, a24, a25, a26, a27, a28, a29, a30)) (h1 : ∀ ck tr b1 b2, n < 40 → zw_fit o m → zw_I (n + 1) ck va tr ce b1 b2 a3 a4 a5 a23 a25 → post (nI (n + 1)) (nI (n + 1), ck, va, dn, sn, ln, wc, iw, tr, tf, li, tk, tc, lv, ce, sc, gi, pc, b1, b2, a3, a4, a5, a6, a7, a8, a9, a10, a11, a12, a13, a14, a15, a16, a17, a18, a19, a20, a21, a22, a23, a24, a25, a26, a27, a28, a29, a30)) : wpX_emit post (nI n, ck, va, dn, sn, ln, wc, iw, tr, tf, li, tk, tc, lv, ce, sc, gi, pc, a1, a2, a3, a4, a5, a6, a7, a8, a9, a10, a11, a12, a13, a14, a15, a16, a17, a18, a19, a20, a21, a22, a23, a24, a25, a26, a27, a28, a29, a30) o m := by
  obtain ⟨hn, hP, hK, hT⟩ := hI
  refine pk_lt n 40 (fun z => zw_fits (fun g => br_t rfl (h0 z g)) (fun g => br_f (by decide) (nm_r (nI_1 n) ?_))) (fun z => h40 (by omega))
  have e1 : nI (n + 1) - 1 = nI n := nI_pred n
  rw [e1]
  have cn : (nI n).toNatClampNeg = n := zb_cl (N := 41) (by omega)
  exact zw_replace (by omega) (fun j hj hne => hP j (by rw [cn] at hne; omega)) (fun y => absurd ⟨vp_in_nI (by omega) (by omega), g⟩ y) (fun ck tr b1 b2 _ _ k => h1 ck tr b1 b2 z g k)
end
end
section
/-! holds, and the law's turn -/
section
variable {le ck va dn sn ln wc tr tf li tk tc lv ce sc gi pc : Int32} {iw : Int64} {a1 a2 a3 a4 a5 a6 a7 a8 a9 a10 a11 a12 a13 a14 a15 a16 a17 a18 a19 a20 a21 a22 a23 a24 a25 a26 a27 a28 a29 a30 : Nat → Int32}
theorem zw_195 {post : Int32 → St1 → Prop} {n : Nat} (hn : n ≤ 40) (hva : va = 0 ∨ (va = 1 ∧ zc_OK n a1 a2 a3 a4 a5)) (h : post 1 (nI n, 1, va, dn, sn, ln, wc, iw, tr, tf, li, tk, tc, lv, ce, sc, gi, pc, a1, a2, a3, a4, a5, a6, a7, a8, a9, a10, a11, a12, a13, a14, a15, a16, a17, a18, a19, a20, a21, a22, a23, a24, a25, a26, a27, a28, a29, a30)) : wL_holds_195 post (nI n) (nI n) 1 va dn sn ln wc iw tr tf li tk tc lv ce sc gi pc a1 a2 a3 a4 a5 a6 a7 a8 a9 a10 a11 a12 a13 a14 a15 a16 a17 a18 a19 a20 a21 a22 a23 a24 a25 a26 a27 a28 a29 a30 := by
  have nn : ¬ vp_in (nI n) n := fun g => by
    have := zb_lt g
    rw [zb_cl (n := n) (N := 41) (by omega)] at this
    omega
  have k1 : wpX_depth (fun r u => match u with | (le, ck, va, dn, sn, ln, wc, iw, tr, tf, li, tk, tc, lv, ce, sc, gi, pc, a1, a2, a3, a4, a5, a6, a7, a8, a9, a10, a11, a12, a13, a14, a15, a16, a17, a18, a19, a20, a21, a22, a23, a24, a25, a26, a27, a28, a29, a30) => ((r = (-1) → (wpX_sort (fun r u => match u with | (le, ck, va, dn, sn, ln, wc, iw, tr, tf, li, tk, tc, lv, ce, sc, gi, pc, a1, a2, a3, a4, a5, a6, a7, a8, a9, a10, a11, a12, a13, a14, a15, a16, a17, a18, a19, a20, a21, a22, a23, a24, a25, a26, a27, a28, a29, a30) => ((r = (-1) → (wpX_element (fun r => ((r = 0 → (wpX_output (fun r => ((r = 0 → (post 1 (le, ck, va, dn, sn, ln, wc, iw, tr, tf, li, tk, tc, lv, ce, sc, gi, pc, a1, a2, a3, a4, a5, a6, a7, a8, a9, a10, a11, a12, a13, a14, a15, a16, a17, a18, a19, a20, a21, a22, a23, a24, a25, a26, a27, a28, a29, a30))) ∧ (¬ r = 0 → (post 0 (le, ck, va, dn, sn, ln, wc, iw, tr, tf, li, tk, tc, lv, ce, sc, gi, pc, a1, a2, a3, a4, a5, a6, a7, a8, a9, a10, a11, a12, a13, a14, a15, a16, a17, a18, a19, a20, a21, a22, a23, a24, a25, a26, a27, a28, a29, a30))))) (le, ck, va, dn, sn, ln, wc, iw, tr, tf, li, tk, tc, lv, ce, sc, gi, pc, a1, a2, a3, a4, a5, a6, a7, a8, a9, a10, a11, a12, a13, a14, a15, a16, a17, a18, a19, a20, a21, a22, a23, a24, a25, a26, a27, a28, a29, a30) (-1))) ∧ (¬ r = 0 → (post 0 (le, ck, va, dn, sn, ln, wc, iw, tr, tf, li, tk, tc, lv, ce, sc, gi, pc, a1, a2, a3, a4, a5, a6, a7, a8, a9, a10, a11, a12, a13, a14, a15, a16, a17, a18, a19, a20, a21, a22, a23, a24, a25, a26, a27, a28, a29, a30))))) (le, ck, va, dn, sn, ln, wc, iw, tr, tf, li, tk, tc, lv, ce, sc, gi, pc, a1, a2, a3, a4, a5, a6, a7, a8, a9, a10, a11, a12, a13, a14, a15, a16, a17, a18, a19, a20, a21, a22, a23, a24, a25, a26, a27, a28, a29, a30) 3 0)) ∧ (¬ r = (-1) → (post 0 (le, ck, va, dn, sn, ln, wc, iw, tr, tf, li, tk, tc, lv, ce, sc, gi, pc, a1, a2, a3, a4, a5, a6, a7, a8, a9, a10, a11, a12, a13, a14, a15, a16, a17, a18, a19, a20, a21, a22, a23, a24, a25, a26, a27, a28, a29, a30))))) (le, ck, va, dn, sn, ln, wc, iw, tr, tf, li, tk, tc, lv, ce, sc, gi, pc, a1, a2, a3, a4, a5, a6, a7, a8, a9, a10, a11, a12, a13, a14, a15, a16, a17, a18, a19, a20, a21, a22, a23, a24, a25, a26, a27, a28, a29, a30) 0 4)) ∧ (¬ r = (-1) → (post 0 (le, ck, va, dn, sn, ln, wc, iw, tr, tf, li, tk, tc, lv, ce, sc, gi, pc, a1, a2, a3, a4, a5, a6, a7, a8, a9, a10, a11, a12, a13, a14, a15, a16, a17, a18, a19, a20, a21, a22, a23, a24, a25, a26, a27, a28, a29, a30))))) (nI n, 1, va, dn, sn, ln, wc, iw, tr, tf, li, tk, tc, lv, ce, sc, gi, pc, a1, a2, a3, a4, a5, a6, a7, a8, a9, a10, a11, a12, a13, a14, a15, a16, a17, a18, a19, a20, a21, a22, a23, a24, a25, a26, a27, a28, a29, a30) (-1) := by
    refine br_t (by decide) (br_t rfl ?_)
    refine br_f (by decide) (br_t (by decide) (br_t rfl ?_))
    exact br_f (by decide) (br_t (by decide) (br_t rfl (br_t rfl (br_t (by decide) (br_t rfl h)))))
  unfold wL_holds_195
  exact zc_depth hn hva (fun _ => br_t rfl k1) (fun g => absurd g nn) (fun g => absurd g nn) (fun d s w g => absurd g nn)
theorem zw_holds {post : Int32 → St1 → Prop} {n : Nat} (hI : zw_I n ck va tr ce a1 a2 a3 a4 a5 a23 a25)
    (h : ∀ va dn sn ln wc iw a3 a4 a5 a6, zw_I n 1 va tr ce a1 a2 a3 a4 a5 a23 a25 → post 1 (nI n, 1, va, dn, sn, ln, wc, iw, tr, tf, li, tk, tc, lv, ce, sc, gi, pc, a1, a2, a3, a4, a5, a6, a7, a8, a9, a10, a11, a12, a13, a14, a15, a16, a17, a18, a19, a20, a21, a22, a23, a24, a25, a26, a27, a28, a29, a30)) : wpL_holds post (nI n, ck, va, dn, sn, ln, wc, iw, tr, tf, li, tk, tc, lv, ce, sc, gi, pc, a1, a2, a3, a4, a5, a6, a7, a8, a9, a10, a11, a12, a13, a14, a15, a16, a17, a18, a19, a20, a21, a22, a23, a24, a25, a26, a27, a28, a29, a30) (nI n) := by
  obtain ⟨hn, hP, hK, hT⟩ := hI
  unfold wpL_holds
  refine zc_valid hn hP hK (fun r dn sn ln wc iw a3 a4 a5 a6 hr => ?_)
  have hpost : post 1 (nI n, 1, r, dn, sn, ln, wc, iw, tr, tf, li, tk, tc, lv, ce, sc, gi, pc, a1, a2, a3, a4, a5, a6, a7, a8, a9, a10, a11, a12, a13, a14, a15, a16, a17, a18, a19, a20, a21, a22, a23, a24, a25, a26, a27, a28, a29, a30) := h _ _ _ _ _ _ _ _ _ _ ⟨hn, hP, Or.inr ⟨rfl, hr⟩, hT⟩
  have main : ∃ fu, wL_holds_17 post (nI n) r fu 0 (nI n) 1 r dn sn ln wc iw tr tf li tk tc lv ce sc gi pc a1 a2 a3 a4 a5 a6 a7 a8 a9 a10 a11 a12 a13 a14 a15 a16 a17 a18 a19 a20 a21 a22 a23 a24 a25 a26 a27 a28 a29 a30 := by
    refine pk_loop (σ := Unit) (fun m i _ => wL_holds_17 post (nI n) r m (nI i) (nI n) 1 r dn sn ln wc iw tr tf li tk tc lv ce sc gi pc a1 a2 a3 a4 a5 a6 a7 a8 a9 a10 a11 a12 a13 a14 a15 a16 a17 a18 a19 a20 a21 a22 a23 a24 a25 a26 a27 a28 a29 a30) (fun _ _ => True) n 0 () (by omega) trivial ?_ ?_
    · intro m _ _
      have k195 := zw_195 (post := post) (va := r) (a1 := a1) (a2 := a2) hn hr hpost
      refine pk_le n n (fun _ => br_c (fun _ => k195) (fun z => ?_)) (fun g => absurd g (by omega))
      have hr1 : r = 1 ∧ zc_OK n a1 a2 a3 a4 a5 := hr.elim (fun y => absurd y z) id
      obtain ⟨h0n, hV, hC, s0, w0, hat, q0, q1, q2, q3⟩ := hr1.2
      have v0 : vp_in 0 n := vp_in_nI (n := 0) h0n (by omega)
      have fin : wpX_sort (fun r_777 u => match u with | (le, ck, va, dn, sn, ln, wc, iw, tr, tf, li, tk, tc, lv, ce, sc, gi, pc, a1, a2, a3, a4, a5, a6, a7, a8, a9, a10, a11, a12, a13, a14, a15, a16, a17, a18, a19, a20, a21, a22, a23, a24, a25, a26, a27, a28, a29, a30) => ((r_777 = 2 → (post 0 (le, ck, va, dn, sn, ln, wc, iw, tr, tf, li, tk, tc, lv, ce, sc, gi, pc, a1, a2, a3, a4, a5, a6, a7, a8, a9, a10, a11, a12, a13, a14, a15, a16, a17, a18, a19, a20, a21, a22, a23, a24, a25, a26, a27, a28, a29, a30))) ∧ (¬ r_777 = 2 → (wL_holds_195 post (nI n) le ck va dn sn ln wc iw tr tf li tk tc lv ce sc gi pc a1 a2 a3 a4 a5 a6 a7 a8 a9 a10 a11 a12 a13 a14 a15 a16 a17 a18 a19 a20 a21 a22 a23 a24 a25 a26 a27 a28 a29 a30)))) (nI n, 1, r, dn, sn, ln, wc, iw, tr, tf, li, tk, tc, lv, ce, sc, gi, pc, a1, a2, a3, a4, a5, a6, a7, a8, a9, a10, a11, a12, a13, a14, a15, a16, a17, a18, a19, a20, a21, a22, a23, a24, a25, a26, a27, a28, a29, a30) 0 (nI 0) := by
        refine zc_sort hn (by omega) hr v0 (fun y => absurd y z) (fun _ y => absurd y (zc_at_n hat)) (fun d s w _ g => ?_)
        obtain ⟨_, _, ew⟩ := zc_at_u hat g
        subst ew
        refine br_f (fun y => ?_) k195
        have := (nI_eq (b := 2) (by omega) (by omega)).mp y
        omega
      refine zc_depth hn hr (fun y => absurd v0 y) (fun _ y => absurd y z) (fun _ _ y => absurd y (zc_at_n hat)) (fun d s w _ _ g => ?_)
      obtain ⟨ed, _, _⟩ := zc_at_u hat g
      subst ed
      refine br_t rfl ?_
      refine zc_sort (l := 2) hn (by omega) hr v0 (fun y => absurd y z) (fun _ y => absurd y (zc_at_n hat)) (fun d s w _ g => ?_)
      obtain ⟨_, _, ew⟩ := zc_at_u hat g
      subst ew
      rw [q2]
      refine br_t rfl ?_
      refine zc_sort (l := 3) hn (by omega) hr v0 (fun y => absurd y z) (fun _ y => absurd y (zc_at_n hat)) (fun d s w _ g => ?_)
      obtain ⟨_, _, ew⟩ := zc_at_u hat g
      subst ew
      rw [q3]
      exact br_t rfl fin
    · intro m i _ hi _ hm
      have vi : vp_in (nI i) n := vp_in_nI hi (by omega)
      have ci : (nI i).toNatClampNeg = i := zb_cl (N := 41) (by omega)
      have sorts : ∀ x4, (r = 1 → (x4 = -4 ∧ a3 i = -1) ∨ (x4 ≠ -4 ∧ a3 i ≠ -1)) → ∃ fu, wL_holds_82 post (wL_holds_17 post (nI n) r m) (nI n) r (nI i) x4 fu 0 (nI n) 1 r dn sn ln wc iw tr tf li tk tc lv ce sc gi pc a1 a2 a3 a4 a5 a6 a7 a8 a9 a10 a11 a12 a13 a14 a15 a16 a17 a18 a19 a20 a21 a22 a23 a24 a25 a26 a27 a28 a29 a30 := by
        intro x4 hx
        refine pk_loop (σ := Unit) (fun m' l _ => wL_holds_82 post (wL_holds_17 post (nI n) r m) (nI n) r (nI i) x4 m' (nI l) (nI n) 1 r dn sn ln wc iw tr tf li tk tc lv ce sc gi pc a1 a2 a3 a4 a5 a6 a7 a8 a9 a10 a11 a12 a13 a14 a15 a16 a17 a18 a19 a20 a21 a22 a23 a24 a25 a26 a27 a28 a29 a30) (fun _ _ => True) 4 0 () (by omega) trivial ?_ ?_
        · intro m' _ _
          exact pk_le 4 4 (fun _ => nm_r (nI_1 i) (hm () trivial)) (fun g => absurd g (by omega))
        · intro m' l _ hl _ hm'
          have nx : ∀ y, y = nI l + 1 → wL_holds_82 post (wL_holds_17 post (nI n) r m) (nI n) r (nI i) x4 m' y (nI n) 1 r dn sn ln wc iw tr tf li tk tc lv ce sc gi pc a1 a2 a3 a4 a5 a6 a7 a8 a9 a10 a11 a12 a13 a14 a15 a16 a17 a18 a19 a20 a21 a22 a23 a24 a25 a26 a27 a28 a29 a30 := nm_r (nI_1 l) (hm' () trivial)
          refine pk_le 4 l (fun g => absurd g (by omega)) (fun _ => ?_)
          refine zc_sort hn hl hr vi (fun y => br_t y (br_t rfl nx)) (fun y y2 => ?_) (fun d s w y g => ?_)
          · rw [ci] at y2
            refine br_f (by rw [y]; decide) ?_
            rcases hx y with t | t
            · exact br_t t.1 (br_t rfl nx)
            · exact absurd y2 t.2
          · rw [ci] at g
            have hq := g.2.2.2.2.2.2 l hl
            refine br_f (by rw [y]; decide) (br_f (fun t => ?_) (br_f (nI_pos (by omega)) (br_t (nI_le (b := 2) hq (by omega)) nx)))
            rcases hx y with u | u
            · exact absurd u.2 (zc_at_n g)
            · exact absurd t u.1
      refine pk_le n i (fun g => absurd g (by omega)) (fun _ => ?_)
      refine zc_depth hn hr (fun y => absurd vi y) (fun _ y => br_t y (br_t rfl (sorts _ (fun t => by rw [y] at t; exact absurd t (by decide))))) (fun _ y y2 => ?_) (fun d s w _ y g => ?_)
      · rw [ci] at y2
        refine br_f (by rw [y]; decide) (br_f (by decide) (br_f (by decide) (br_f (by decide) (br_f (by decide) (br_t (by decide) (sorts _ (fun _ => Or.inl ⟨rfl, y2⟩)))))))
      · rw [ci] at g
        have hd := g.2.2.2.1
        have ng : ∀ q : Int32, q < 0 → nI d ≠ q := fun q hq t => nI_pos (n := d) (by omega) (t ▸ hq)
        refine br_f (by rw [y]; decide) (br_f (fun t => nI_pos (n := d) (by omega) (Int32.lt_trans t (by decide))) (br_f (ng _ (by decide)) (br_f (ng _ (by decide)) (br_f (ng _ (by decide)) (br_t (nI_le (b := 6) hd (by omega)) (sorts _ (fun _ => Or.inr ⟨ng _ (by decide), zc_at_n g⟩)))))))
  refine br_c (fun z => br_c (fun _ => main) (fun y => ?_)) (fun _ => main)
  have h1 := hr.elim (fun t => absurd t y) id
  have : n = 0 := (nI_eq (b := 0) (by omega) (by omega)).mp z
  have := h1.2.1
  omega
/-- the end of a turn -/
theorem zw_583 {post : Int32 → Prop} {L : Nat} {xs : Nat → Int32} {J : Int32 → Int32 → Int32 → Int32 → Int32 → Int32 → Int32 → Int32 → Int32 → Int64 → Int32 → Int32 → Int32 → Int32 → Int32 → Int32 → Int32 → Int32 → Int32 → Int32 → (Nat → Int32) → (Nat → Int32) → (Nat → Int32) → (Nat → Int32) → (Nat → Int32) → (Nat → Int32) → (Nat → Int32) → (Nat → Int32) → (Nat → Int32) → (Nat → Int32) → (Nat → Int32) → (Nat → Int32) → (Nat → Int32) → (Nat → Int32) → (Nat → Int32) → (Nat → Int32) → (Nat → Int32) → (Nat → Int32) → (Nat → Int32) → (Nat → Int32) → (Nat → Int32) → (Nat → Int32) → (Nat → Int32) → (Nat → Int32) → (Nat → Int32) → (Nat → Int32) → (Nat → Int32) → (Nat → Int32) → (Nat → Int32) → (Nat → Int32) →  Prop} {n : Nat} {x3 x6 x7 : Int32} {kc ks : Nat} (hI : zw_I n ck va tr ce a1 a2 a3 a4 a5 a23 a25) (hx : x7 = zw_V sc gi pc a29 a30)
    (hJ : ∀ ck va dn sn ln wc iw lv a3 a4 a5 a6, zw_I n ck va tr ce a1 a2 a3 a4 a5 a23 a25 → J (nI n) (x3 + 4) (nI n) ck va dn sn ln wc iw tr tf li tk tc lv ce sc gi pc a1 a2 a3 a4 a5 a6 a7 a8 a9 a10 a11 a12 a13 a14 a15 a16 a17 a18 a19 a20 a21 a22 a23 a24 a25 a26 a27 a28 a29 a30) : wL_law_583 post L xs J (nI n) x3 x6 x7 kc ks (nI n) ck va dn sn ln wc iw tr tf li tk tc lv ce sc gi pc a1 a2 a3 a4 a5 a6 a7 a8 a9 a10 a11 a12 a13 a14 a15 a16 a17 a18 a19 a20 a21 a22 a23 a24 a25 a26 a27 a28 a29 a30 := by
  unfold wL_law_583
  refine zw_sum (br_t hx.symm ?_)
  refine zw_holds hI (fun va dn sn ln wc iw a3 a4 a5 a6 hI => br_f (by decide) ?_)
  refine br_f (by decide) (br_f (by decide) (br_t rfl ⟨by decide, ?_⟩))
  obtain ⟨j, hj, ej⟩ := pk_andE x6 (m := 255) 8 (by decide)
  have hj' : j < 256 := hj
  have er : (x6 &&& 255) - (x6 &&& 255) / 3 * 3 = nI (j % 3) := by
    rw [ej]
    exact (by decide +kernel : ∀ j, j < 256 → nI j - nI j / 3 * 3 = nI (j % 3)) j hj'
  rw [er]
  refine br_f (nI_pos (by omega)) (br_t (nI_le (b := 2) (by omega) (by omega)) (br_f (by decide) (nm_e ?_)))
  exact hJ _ _ _ _ _ _ _ _ _ _ _ _ hI
end
end
section
/-! the law -/
section
variable {le ck va dn sn ln wc tr tf li tk tc lv ce sc gi pc : Int32} {iw : Int64} {a1 a2 a3 a4 a5 a6 a7 a8 a9 a10 a11 a12 a13 a14 a15 a16 a17 a18 a19 a20 a21 a22 a23 a24 a25 a26 a27 a28 a29 a30 : Nat → Int32}
theorem zw_retract {post : Int32 → St1 → Prop} {n : Nat} (hI : zw_I n ck va tr ce a1 a2 a3 a4 a5 a23 a25) (h0 : n = 0 → post (-1) (nI n, ck, va, dn, sn, ln, wc, iw, tr, tf, li, tk, tc, lv, ce, sc, gi, pc, a1, a2, a3, a4, a5, a6, a7, a8, a9, a10, a11, a12, a13, a14, a15, a16, a17, a18, a19, a20, a21, a22, a23, a24, a25, a26, a27, a28, a29, a30)) (h1 : ∀ ck tr, 0 < n → zw_I (n - 1) ck va tr ce a1 a2 a3 a4 a5 a23 a25 → post (nI (n - 1)) (nI (n - 1), ck, va, dn, sn, ln, wc, iw, tr, tf, li, tk, tc, lv, ce, sc, gi, pc, a1, a2, a3, a4, a5, a6, a7, a8, a9, a10, a11, a12, a13, a14, a15, a16, a17, a18, a19, a20, a21, a22, a23, a24, a25, a26, a27, a28, a29, a30)) : wpX_retract post (nI n, ck, va, dn, sn, ln, wc, iw, tr, tf, li, tk, tc, lv, ce, sc, gi, pc, a1, a2, a3, a4, a5, a6, a7, a8, a9, a10, a11, a12, a13, a14, a15, a16, a17, a18, a19, a20, a21, a22, a23, a24, a25, a26, a27, a28, a29, a30) := by
  obtain ⟨hn, hP, hK, hT⟩ := hI
  refine pk_eq n 0 (fun e => h0 e) (fun e => nm_r (zb_sub1 (by omega)) ?_)
  exact h1 _ _ (by omega) ⟨by omega, fun j hj => hP j (by omega), Or.inl rfl, Or.inl rfl⟩
/-- a turn that emits -/
theorem zw_569 {post : Int32 → Prop} {L : Nat} {xs : Nat → Int32} {J : Int32 → Int32 → Int32 → Int32 → Int32 → Int32 → Int32 → Int32 → Int32 → Int64 → Int32 → Int32 → Int32 → Int32 → Int32 → Int32 → Int32 → Int32 → Int32 → Int32 → (Nat → Int32) → (Nat → Int32) → (Nat → Int32) → (Nat → Int32) → (Nat → Int32) → (Nat → Int32) → (Nat → Int32) → (Nat → Int32) → (Nat → Int32) → (Nat → Int32) → (Nat → Int32) → (Nat → Int32) → (Nat → Int32) → (Nat → Int32) → (Nat → Int32) → (Nat → Int32) → (Nat → Int32) → (Nat → Int32) → (Nat → Int32) → (Nat → Int32) → (Nat → Int32) → (Nat → Int32) → (Nat → Int32) → (Nat → Int32) → (Nat → Int32) → (Nat → Int32) → (Nat → Int32) → (Nat → Int32) → (Nat → Int32) → (Nat → Int32) →  Prop} {n : Nat} {x3 x6 x7 o m : Int32} {kc ks : Nat} (hI : zw_I n ck va tr ce a1 a2 a3 a4 a5 a23 a25) (hx : x7 = zw_V sc gi pc a29 a30) (hf : zw_fit o m)
    (hJ : ∀ n' le ck va dn sn ln wc iw tr lv a1 a2 a3 a4 a5 a6, le = nI n' → zw_I n' ck va tr ce a1 a2 a3 a4 a5 a23 a25 → J (nI n') (x3 + 4) le ck va dn sn ln wc iw tr tf li tk tc lv ce sc gi pc a1 a2 a3 a4 a5 a6 a7 a8 a9 a10 a11 a12 a13 a14 a15 a16 a17 a18 a19 a20 a21 a22 a23 a24 a25 a26 a27 a28 a29 a30) :
    wpX_emit (fun r u => match u with | (le, ck, va, dn, sn, ln, wc, iw, tr, tf, li, tk, tc, lv, ce, sc, gi, pc, a1, a2, a3, a4, a5, a6, a7, a8, a9, a10, a11, a12, a13, a14, a15, a16, a17, a18, a19, a20, a21, a22, a23, a24, a25, a26, a27, a28, a29, a30) => ((nI n = 40 → wL_law_569 post L xs J (nI n) x3 x6 x7 (-2) r kc ks le ck va dn sn ln wc iw tr tf li tk tc lv ce sc gi pc a1 a2 a3 a4 a5 a6 a7 a8 a9 a10 a11 a12 a13 a14 a15 a16 a17 a18 a19 a20 a21 a22 a23 a24 a25 a26 a27 a28 a29 a30) ∧ (¬ nI n = 40 → wL_law_569 post L xs J (nI n) x3 x6 x7 (nI n + 1) r kc ks le ck va dn sn ln wc iw tr tf li tk tc lv ce sc gi pc a1 a2 a3 a4 a5 a6 a7 a8 a9 a10 a11 a12 a13 a14 a15 a16 a17 a18 a19 a20 a21 a22 a23 a24 a25 a26 a27 a28 a29 a30))) (nI n, ck, va, dn, sn, ln, wc, iw, tr, tf, li, tk, tc, lv, ce, sc, gi, pc, a1, a2, a3, a4, a5, a6, a7, a8, a9, a10, a11, a12, a13, a14, a15, a16, a17, a18, a19, a20, a21, a22, a23, a24, a25, a26, a27, a28, a29, a30) o m := by
  refine zw_emit hI (fun e => ?_) (fun _ g => absurd hf g) (fun ck tr b1 b2 e _ hI' => ?_)
  · subst e
    refine br_t rfl (br_t rfl (br_t (by decide) ?_))
    exact zw_583 hI hx (fun ck va dn sn ln wc iw lv a3 a4 a5 a6 g => hJ _ _ _ _ _ _ _ _ _ _ _ _ _ _ _ _ _ rfl g)
  · refine br_f (fun z => ?_) (br_t (nI_1 n).symm (br_f (fun z => ?_) (nm_r (nI_1 n) ?_)))
    · have := (nI_eq (b := 40) (by omega) (by omega)).mp z
      omega
    · exact nI_ge (b := 40) e (by omega) z
    · exact zw_583 hI' hx (fun ck va dn sn ln wc iw lv a3 a4 a5 a6 g => hJ _ _ _ _ _ _ _ _ _ _ _ _ _ _ _ _ _ rfl g)
theorem zw_199 {post : Int32 → Prop} {L : Nat} {xs : Nat → Int32} {J : Int32 → Int32 → Int32 → Int32 → Int32 → Int32 → Int32 → Int32 → Int32 → Int64 → Int32 → Int32 → Int32 → Int32 → Int32 → Int32 → Int32 → Int32 → Int32 → Int32 → (Nat → Int32) → (Nat → Int32) → (Nat → Int32) → (Nat → Int32) → (Nat → Int32) → (Nat → Int32) → (Nat → Int32) → (Nat → Int32) → (Nat → Int32) → (Nat → Int32) → (Nat → Int32) → (Nat → Int32) → (Nat → Int32) → (Nat → Int32) → (Nat → Int32) → (Nat → Int32) → (Nat → Int32) → (Nat → Int32) → (Nat → Int32) → (Nat → Int32) → (Nat → Int32) → (Nat → Int32) → (Nat → Int32) → (Nat → Int32) → (Nat → Int32) → (Nat → Int32) → (Nat → Int32) → (Nat → Int32) → (Nat → Int32) → (Nat → Int32) →  Prop} {n : Nat} {x3 x6 x7 : Int32} {kc ks : Nat} (hI : zw_I n ck va tr ce a1 a2 a3 a4 a5 a23 a25) (hx : x7 = zw_V sc gi pc a29 a30)
    (hJ : ∀ n' le ck va dn sn ln wc iw tr lv a1 a2 a3 a4 a5 a6, le = nI n' → zw_I n' ck va tr ce a1 a2 a3 a4 a5 a23 a25 → J (nI n') (x3 + 4) le ck va dn sn ln wc iw tr tf li tk tc lv ce sc gi pc a1 a2 a3 a4 a5 a6 a7 a8 a9 a10 a11 a12 a13 a14 a15 a16 a17 a18 a19 a20 a21 a22 a23 a24 a25 a26 a27 a28 a29 a30) :
    wpX_retract (fun r u => match u with | (le, ck, va, dn, sn, ln, wc, iw, tr, tf, li, tk, tc, lv, ce, sc, gi, pc, a1, a2, a3, a4, a5, a6, a7, a8, a9, a10, a11, a12, a13, a14, a15, a16, a17, a18, a19, a20, a21, a22, a23, a24, a25, a26, a27, a28, a29, a30) => ((nI n = 0 → wL_law_199 post L xs J (nI n) x3 x6 x7 (-1) r kc ks le ck va dn sn ln wc iw tr tf li tk tc lv ce sc gi pc a1 a2 a3 a4 a5 a6 a7 a8 a9 a10 a11 a12 a13 a14 a15 a16 a17 a18 a19 a20 a21 a22 a23 a24 a25 a26 a27 a28 a29 a30) ∧ (¬ nI n = 0 → wL_law_199 post L xs J (nI n) x3 x6 x7 (nI n - 1) r kc ks le ck va dn sn ln wc iw tr tf li tk tc lv ce sc gi pc a1 a2 a3 a4 a5 a6 a7 a8 a9 a10 a11 a12 a13 a14 a15 a16 a17 a18 a19 a20 a21 a22 a23 a24 a25 a26 a27 a28 a29 a30))) (nI n, ck, va, dn, sn, ln, wc, iw, tr, tf, li, tk, tc, lv, ce, sc, gi, pc, a1, a2, a3, a4, a5, a6, a7, a8, a9, a10, a11, a12, a13, a14, a15, a16, a17, a18, a19, a20, a21, a22, a23, a24, a25, a26, a27, a28, a29, a30) := by
  have hn := hI.1
  refine zw_retract hI (fun e => ?_) (fun ck tr e hI' => ?_)
  · subst e
    refine br_t rfl (br_t rfl (br_t (by decide) ?_))
    exact zw_583 hI hx (fun ck va dn sn ln wc iw lv a3 a4 a5 a6 g => hJ _ _ _ _ _ _ _ _ _ _ _ _ _ _ _ _ _ rfl g)
  · refine br_f (nI_ne0 e (by omega)) (br_t (zb_sub1 e).symm (br_f (nI_nle e (by omega)) (nm_r (sb_m1 e) ?_)))
    exact zw_583 hI' hx (fun ck va dn sn ln wc iw lv a3 a4 a5 a6 g => hJ _ _ _ _ _ _ _ _ _ _ _ _ _ _ _ _ _ rfl g)
theorem zw_setE {post : Int32 → Prop} {L : Nat} {xs : Nat → Int32} {J : Int32 → Int32 → Int32 → Int32 → Int32 → Int32 → Int32 → Int32 → Int32 → Int64 → Int32 → Int32 → Int32 → Int32 → Int32 → Int32 → Int32 → Int32 → Int32 → Int32 → (Nat → Int32) → (Nat → Int32) → (Nat → Int32) → (Nat → Int32) → (Nat → Int32) → (Nat → Int32) → (Nat → Int32) → (Nat → Int32) → (Nat → Int32) → (Nat → Int32) → (Nat → Int32) → (Nat → Int32) → (Nat → Int32) → (Nat → Int32) → (Nat → Int32) → (Nat → Int32) → (Nat → Int32) → (Nat → Int32) → (Nat → Int32) → (Nat → Int32) → (Nat → Int32) → (Nat → Int32) → (Nat → Int32) → (Nat → Int32) → (Nat → Int32) → (Nat → Int32) → (Nat → Int32) → (Nat → Int32) → (Nat → Int32) → (Nat → Int32) →  Prop} {n : Nat} {x3 x4 x5 x6 : Int32} {kc ks : Nat} (hI : zw_I n ck va tr ce a1 a2 a3 a4 a5 a23 a25)
    (hJ : ∀ ck va dn sn ln wc iw lv a3 a4 a5 a6 a29, zw_I n ck va tr ce a1 a2 a3 a4 a5 a23 a25 → J (nI n) (x3 + 4) (nI n) ck va dn sn ln wc iw tr tf li tk tc lv ce sc gi pc a1 a2 a3 a4 a5 a6 a7 a8 a9 a10 a11 a12 a13 a14 a15 a16 a17 a18 a19 a20 a21 a22 a23 a24 a25 a26 a27 a28 a29 a30) :
    wpX_setElement (fun r u => match u with | (le, ck, va, dn, sn, ln, wc, iw, tr, tf, li, tk, tc, lv, ce, sc, gi, pc, a1, a2, a3, a4, a5, a6, a7, a8, a9, a10, a11, a12, a13, a14, a15, a16, a17, a18, a19, a20, a21, a22, a23, a24, a25, a26, a27, a28, a29, a30) => ((x4 < 0 → wL_law_251 post L xs J (nI n) x3 x6 r kc ks le ck va dn sn ln wc iw tr tf li tk tc lv ce sc gi pc a1 a2 a3 a4 a5 a6 a7 a8 a9 a10 a11 a12 a13 a14 a15 a16 a17 a18 a19 a20 a21 a22 a23 a24 a25 a26 a27 a28 a29 a30) ∧ (¬ x4 < 0 → ((2 < x4 → wL_law_251 post L xs J (nI n) x3 x6 r kc ks le ck va dn sn ln wc iw tr tf li tk tc lv ce sc gi pc a1 a2 a3 a4 a5 a6 a7 a8 a9 a10 a11 a12 a13 a14 a15 a16 a17 a18 a19 a20 a21 a22 a23 a24 a25 a26 a27 a28 a29 a30) ∧ (¬ 2 < x4 → ((x5 < 0 → wL_law_251 post L xs J (nI n) x3 x6 r kc ks le ck va dn sn ln wc iw tr tf li tk tc lv ce sc gi pc a1 a2 a3 a4 a5 a6 a7 a8 a9 a10 a11 a12 a13 a14 a15 a16 a17 a18 a19 a20 a21 a22 a23 a24 a25 a26 a27 a28 a29 a30) ∧ (¬ x5 < 0 → ((7 < x5 → wL_law_251 post L xs J (nI n) x3 x6 r kc ks le ck va dn sn ln wc iw tr tf li tk tc lv ce sc gi pc a1 a2 a3 a4 a5 a6 a7 a8 a9 a10 a11 a12 a13 a14 a15 a16 a17 a18 a19 a20 a21 a22 a23 a24 a25 a26 a27 a28 a29 a30) ∧ (¬ 7 < x5 → wL_law_252 post L xs J (nI n) x3 x6 1 r kc ks le ck va dn sn ln wc iw tr tf li tk tc lv ce sc gi pc a1 a2 a3 a4 a5 a6 a7 a8 a9 a10 a11 a12 a13 a14 a15 a16 a17 a18 a19 a20 a21 a22 a23 a24 a25 a26 a27 a28 a29 a30))))))))) (nI n, ck, va, dn, sn, ln, wc, iw, tr, tf, li, tk, tc, lv, ce, sc, gi, pc, a1, a2, a3, a4, a5, a6, a7, a8, a9, a10, a11, a12, a13, a14, a15, a16, a17, a18, a19, a20, a21, a22, a23, a24, a25, a26, a27, a28, a29, a30) x4 x5 x6 := by
  unfold wpX_setElement
  have k252 : ∀ r a29, wL_law_252 post L xs J (nI n) x3 x6 r r kc ks (nI n) ck va dn sn ln wc iw tr tf li tk tc lv ce sc gi pc a1 a2 a3 a4 a5 a6 a7 a8 a9 a10 a11 a12 a13 a14 a15 a16 a17 a18 a19 a20 a21 a22 a23 a24 a25 a26 a27 a28 a29 a30 := fun r a29 => br_t rfl (zw_sum (zw_583 hI rfl (fun ck va dn sn ln wc iw lv a3 a4 a5 a6 g => hJ _ _ _ _ _ _ _ _ _ _ _ _ _ g)))
  refine zw_iel (fun g => br_t rfl ?_) (fun g1 g2 => br_f (by decide) ⟨zw_e24 g1 g2, nm_e ?_⟩)
  · have k251 : wL_law_251 post L xs J (nI n) x3 x6 0 kc ks (nI n) ck va dn sn ln wc iw tr tf li tk tc lv ce sc gi pc a1 a2 a3 a4 a5 a6 a7 a8 a9 a10 a11 a12 a13 a14 a15 a16 a17 a18 a19 a20 a21 a22 a23 a24 a25 a26 a27 a28 a29 a30 := k252 0 _
    exact br_c (fun _ => k251) (fun z1 => br_c (fun _ => k251) (fun z2 => br_c (fun _ => k251) (fun z3 => br_c (fun _ => k251) (fun z4 => absurd ⟨zb_le_of (n := 2) z1 z2 (by omega), zb_le_of (n := 7) z3 z4 (by omega)⟩ g))))
  · refine br_f (zb_nn g1) (br_f (fun z => ?_) (br_f (zb_nn g2) (br_f (fun z => ?_) (k252 1 _))))
    · have l := zb_lt g1
      rw [zb_nI g1] at z
      exact nI_nlt (a := 2) (b := x4.toNatClampNeg) (by omega) (by omega) z
    · have l := zb_lt g2
      rw [zb_nI g2] at z
      exact nI_nlt (a := 7) (b := x5.toNatClampNeg) (by omega) (by omega) z
theorem zw_292 {post : Int32 → Prop} {L : Nat} {xs : Nat → Int32} {J : Int32 → Int32 → Int32 → Int32 → Int32 → Int32 → Int32 → Int32 → Int32 → Int64 → Int32 → Int32 → Int32 → Int32 → Int32 → Int32 → Int32 → Int32 → Int32 → Int32 → (Nat → Int32) → (Nat → Int32) → (Nat → Int32) → (Nat → Int32) → (Nat → Int32) → (Nat → Int32) → (Nat → Int32) → (Nat → Int32) → (Nat → Int32) → (Nat → Int32) → (Nat → Int32) → (Nat → Int32) → (Nat → Int32) → (Nat → Int32) → (Nat → Int32) → (Nat → Int32) → (Nat → Int32) → (Nat → Int32) → (Nat → Int32) → (Nat → Int32) → (Nat → Int32) → (Nat → Int32) → (Nat → Int32) → (Nat → Int32) → (Nat → Int32) → (Nat → Int32) → (Nat → Int32) → (Nat → Int32) → (Nat → Int32) → (Nat → Int32) →  Prop} {n : Nat} {x3 x4 x5 x6 x7 z0 : Int32} {kc ks : Nat} (hI : zw_I n ck va tr ce a1 a2 a3 a4 a5 a23 a25) (hx : x7 = zw_V sc gi pc a29 a30) (hz : z0 = 0 ↔ ¬ (vp_in x4 n ∧ zw_fit x5 x6))
    (hJ : ∀ n' le ck va dn sn ln wc iw tr lv a1 a2 a3 a4 a5 a6, le = nI n' → zw_I n' ck va tr ce a1 a2 a3 a4 a5 a23 a25 → J (nI n') (x3 + 4) le ck va dn sn ln wc iw tr tf li tk tc lv ce sc gi pc a1 a2 a3 a4 a5 a6 a7 a8 a9 a10 a11 a12 a13 a14 a15 a16 a17 a18 a19 a20 a21 a22 a23 a24 a25 a26 a27 a28 a29 a30) :
    wL_law_292 post L xs J (nI n) x3 x4 x5 x6 x7 z0 kc ks (nI n) ck va dn sn ln wc iw tr tf li tk tc lv ce sc gi pc a1 a2 a3 a4 a5 a6 a7 a8 a9 a10 a11 a12 a13 a14 a15 a16 a17 a18 a19 a20 a21 a22 a23 a24 a25 a26 a27 a28 a29 a30 := by
  unfold wL_law_292
  refine zw_replace hI.1 (fun j hj _ => hI.2.1 j hj) (fun g => br_t (hz.mpr g) (br_t rfl ?_)) (fun ck tr b1 b2 g1 g2 hI' => br_f (fun z => hz.mp z ⟨g1, g2⟩) (br_t rfl ?_))
  · exact zw_583 hI hx (fun ck va dn sn ln wc iw lv a3 a4 a5 a6 g => hJ _ _ _ _ _ _ _ _ _ _ _ _ _ _ _ _ _ rfl g)
  · exact zw_583 hI' hx (fun ck va dn sn ln wc iw lv a3 a4 a5 a6 g => hJ _ _ _ _ _ _ _ _ _ _ _ _ _ _ _ _ _ rfl g)
theorem zw_345 {post : Int32 → Prop} {L : Nat} {xs : Nat → Int32} {J : Int32 → Int32 → Int32 → Int32 → Int32 → Int32 → Int32 → Int32 → Int32 → Int64 → Int32 → Int32 → Int32 → Int32 → Int32 → Int32 → Int32 → Int32 → Int32 → Int32 → (Nat → Int32) → (Nat → Int32) → (Nat → Int32) → (Nat → Int32) → (Nat → Int32) → (Nat → Int32) → (Nat → Int32) → (Nat → Int32) → (Nat → Int32) → (Nat → Int32) → (Nat → Int32) → (Nat → Int32) → (Nat → Int32) → (Nat → Int32) → (Nat → Int32) → (Nat → Int32) → (Nat → Int32) → (Nat → Int32) → (Nat → Int32) → (Nat → Int32) → (Nat → Int32) → (Nat → Int32) → (Nat → Int32) → (Nat → Int32) → (Nat → Int32) → (Nat → Int32) → (Nat → Int32) → (Nat → Int32) → (Nat → Int32) → (Nat → Int32) →  Prop} {n : Nat} {x3 x4 x5 x6 x7 : Int32} {kc ks : Nat} (hI : zw_I n ck va tr ce a1 a2 a3 a4 a5 a23 a25) (hx : x7 = zw_V sc gi pc a29 a30)
    (hJ : ∀ ck va dn sn ln wc iw tr tf li tk tc lv ce sc gi pc a3 a4 a5 a6 a7 a8 a9 a10 a11 a12 a13 a14 a15 a16 a17 a18 a19 a20 a21 a22 a23 a24 a25 a26 a27 a28 a29 a30, zw_I n ck va tr ce a1 a2 a3 a4 a5 a23 a25 → J (nI n) (x3 + 4) (nI n) ck va dn sn ln wc iw tr tf li tk tc lv ce sc gi pc a1 a2 a3 a4 a5 a6 a7 a8 a9 a10 a11 a12 a13 a14 a15 a16 a17 a18 a19 a20 a21 a22 a23 a24 a25 a26 a27 a28 a29 a30) :
    wL_law_345 post L xs J (nI n) x3 x4 x5 x6 x7 kc ks (nI n) ck va dn sn ln wc iw tr tf li tk tc lv ce sc gi pc a1 a2 a3 a4 a5 a6 a7 a8 a9 a10 a11 a12 a13 a14 a15 a16 a17 a18 a19 a20 a21 a22 a23 a24 a25 a26 a27 a28 a29 a30 := by
  unfold wL_law_345
  obtain ⟨hn, hP, hK, hT⟩ := hI
  refine zc_valid hn hP hK (fun r dn sn ln wc iw a3 a4 a5 a6 hr => ?_)
  have hI1 : zw_I n 1 r tr ce a1 a2 a3 a4 a5 a23 a25 := ⟨hn, hP, Or.inr ⟨rfl, hr⟩, hT⟩
  refine zw_run hI1 (fun e => ?_) (fun q tr tf li tk tc ce sc gi pc a7 a8 a9 a10 a11 a12 a13 a14 a15 a16 a17 a18 a19 a20 a21 a22 a23 a24 a25 a26 a27 a28 a29 a30 e he hI2 => ?_)
  · subst e
    refine br_t rfl (br_t rfl (br_t rfl (br_t rfl ?_)))
    exact zw_583 hI1 hx (fun ck va dn sn ln wc iw lv a3 a4 a5 a6 g => hJ _ _ _ _ _ _ _ _ _ _ _ _ _ _ _ _ _ _ _ _ _ _ _ _ _ _ _ _ _ _ _ _ _ _ _ _ _ _ _ _ _ _ _ _ _ g)
  · subst e
    obtain ⟨h1, st, pr, e1, e2, e3, e4, e5⟩ := he
    have k448 : wL_law_448 post L xs J (nI n) x3 x6 x7 1 kc ks (nI n) 1 1 dn sn ln wc iw tr tf li tk tc lv ce sc gi pc a1 a2 a3 a4 a5 a6 a7 a8 a9 a10 a11 a12 a13 a14 a15 a16 a17 a18 a19 a20 a21 a22 a23 a24 a25 a26 a27 a28 a29 a30 := br_f (by decide) (zw_sum (zw_583 hI2 rfl (fun ck va dn sn ln wc iw lv a3 a4 a5 a6 g => hJ _ _ _ _ _ _ _ _ _ _ _ _ _ _ _ _ _ _ _ _ _ _ _ _ _ _ _ _ _ _ _ _ _ _ _ _ _ _ _ _ _ _ _ _ _ g)))
    have k389 : wL_law_389 post L xs J (nI n) x3 x6 x7 1 q kc ks (nI n) 1 1 dn sn ln wc iw tr tf li tk tc lv ce sc gi pc a1 a2 a3 a4 a5 a6 a7 a8 a9 a10 a11 a12 a13 a14 a15 a16 a17 a18 a19 a20 a21 a22 a23 a24 a25 a26 a27 a28 a29 a30 := by
      refine br_f (by decide) (br_f (fun z => ?_) (br_f (fun z => ?_) (br_f (fun z => ?_) ?_)))
      · rw [e1] at z
        exact nI_nlt (b := 1) e3 (by omega) z
      · rw [e1] at z
        exact nI_nlt (a := 300) e4 (by omega) z
      · rw [e1, e2] at z
        exact nI_nlt e5 (by omega) z
      · refine br_c (fun z => ?_) (fun _ => k448)
        rcases h1 with y | ⟨_, y1, y2⟩
        · rw [y] at z; exact absurd z (by decide)
        · exact br_t y1 (br_t y2 k448)
    refine br_f (by decide) ?_
    rcases h1 with y | ⟨y, _⟩
    · exact br_t y k389
    · exact br_f (by rw [y]; decide) (br_t y k389)
theorem zw_520 {post : Int32 → Prop} {L : Nat} {xs : Nat → Int32} {J : Int32 → Int32 → Int32 → Int32 → Int32 → Int32 → Int32 → Int32 → Int32 → Int64 → Int32 → Int32 → Int32 → Int32 → Int32 → Int32 → Int32 → Int32 → Int32 → Int32 → (Nat → Int32) → (Nat → Int32) → (Nat → Int32) → (Nat → Int32) → (Nat → Int32) → (Nat → Int32) → (Nat → Int32) → (Nat → Int32) → (Nat → Int32) → (Nat → Int32) → (Nat → Int32) → (Nat → Int32) → (Nat → Int32) → (Nat → Int32) → (Nat → Int32) → (Nat → Int32) → (Nat → Int32) → (Nat → Int32) → (Nat → Int32) → (Nat → Int32) → (Nat → Int32) → (Nat → Int32) → (Nat → Int32) → (Nat → Int32) → (Nat → Int32) → (Nat → Int32) → (Nat → Int32) → (Nat → Int32) → (Nat → Int32) → (Nat → Int32) →  Prop} {n : Nat} {x3 x4 x5 x6 x7 : Int32} {kc ks : Nat} (hI : zw_I n ck va tr ce a1 a2 a3 a4 a5 a23 a25) (hx : x7 = zw_V sc gi pc a29 a30)
    (hJ : ∀ n' le ck va dn sn ln wc iw tr lv a1 a2 a3 a4 a5 a6, le = nI n' → zw_I n' ck va tr ce a1 a2 a3 a4 a5 a23 a25 → J (nI n') (x3 + 4) le ck va dn sn ln wc iw tr tf li tk tc lv ce sc gi pc a1 a2 a3 a4 a5 a6 a7 a8 a9 a10 a11 a12 a13 a14 a15 a16 a17 a18 a19 a20 a21 a22 a23 a24 a25 a26 a27 a28 a29 a30) :
    wpX_emit (fun r u => match u with | (le, ck, va, dn, sn, ln, wc, iw, tr, tf, li, tk, tc, lv, ce, sc, gi, pc, a1, a2, a3, a4, a5, a6, a7, a8, a9, a10, a11, a12, a13, a14, a15, a16, a17, a18, a19, a20, a21, a22, a23, a24, a25, a26, a27, a28, a29, a30) => ((nI n = 40 → wL_law_520 post L xs J (nI n) x3 x4 x5 x6 x7 (-2) r kc ks le ck va dn sn ln wc iw tr tf li tk tc lv ce sc gi pc a1 a2 a3 a4 a5 a6 a7 a8 a9 a10 a11 a12 a13 a14 a15 a16 a17 a18 a19 a20 a21 a22 a23 a24 a25 a26 a27 a28 a29 a30) ∧ (¬ nI n = 40 → wpL_fits (fun q => ((q = 0 → wL_law_520 post L xs J (nI n) x3 x4 x5 x6 x7 (-1) r kc ks le ck va dn sn ln wc iw tr tf li tk tc lv ce sc gi pc a1 a2 a3 a4 a5 a6 a7 a8 a9 a10 a11 a12 a13 a14 a15 a16 a17 a18 a19 a20 a21 a22 a23 a24 a25 a26 a27 a28 a29 a30) ∧ (¬ q = 0 → wL_law_520 post L xs J (nI n) x3 x4 x5 x6 x7 (nI n + 1) r kc ks le ck va dn sn ln wc iw tr tf li tk tc lv ce sc gi pc a1 a2 a3 a4 a5 a6 a7 a8 a9 a10 a11 a12 a13 a14 a15 a16 a17 a18 a19 a20 a21 a22 a23 a24 a25 a26 a27 a28 a29 a30))) () x4 x5))) (nI n, ck, va, dn, sn, ln, wc, iw, tr, tf, li, tk, tc, lv, ce, sc, gi, pc, a1, a2, a3, a4, a5, a6, a7, a8, a9, a10, a11, a12, a13, a14, a15, a16, a17, a18, a19, a20, a21, a22, a23, a24, a25, a26, a27, a28, a29, a30) x4 x5 := by
  have n40 : n < 40 → ¬ nI n = 40 := fun e z => by
    have := (nI_eq (b := 40) (by omega) (by omega)).mp z
    omega
  have l40 : n < 40 → ¬ (40 : Int32) ≤ nI n := fun e z => nI_ge (b := 40) e (by omega) z
  refine zw_emit hI (fun e => ?_) (fun e g => ?_) (fun ck tr b1 b2 e g hI' => ?_)
  · subst e
    refine br_t rfl (br_t rfl (br_t (by decide) ?_))
    exact zw_583 hI hx (fun ck va dn sn ln wc iw lv a3 a4 a5 a6 g => hJ _ _ _ _ _ _ _ _ _ _ _ _ _ _ _ _ _ rfl g)
  · refine br_f (n40 e) (zw_lfits (fun _ => br_t rfl (br_t rfl (br_f (l40 e) (zw_lfits (fun _ => br_t rfl ?_) (fun y => absurd y g))))) (fun y => absurd y g))
    exact zw_583 hI hx (fun ck va dn sn ln wc iw lv a3 a4 a5 a6 g => hJ _ _ _ _ _ _ _ _ _ _ _ _ _ _ _ _ _ rfl g)
  · refine br_f (n40 e) (zw_lfits (fun y => absurd g y) (fun _ => br_f (by decide) (br_t (nI_1 n).symm (br_f (l40 e) (zw_lfits (fun y => absurd g y) (fun _ => br_f (by decide) (nm_r (nI_1 n) ?_)))))))
    exact zw_583 hI' hx (fun ck va dn sn ln wc iw lv a3 a4 a5 a6 g => hJ _ _ _ _ _ _ _ _ _ _ _ _ _ _ _ _ _ rfl g)
theorem zw_124 {post : Int32 → Prop} {L : Nat} {xs : Nat → Int32} {J : Int32 → Int32 → Int32 → Int32 → Int32 → Int32 → Int32 → Int32 → Int32 → Int64 → Int32 → Int32 → Int32 → Int32 → Int32 → Int32 → Int32 → Int32 → Int32 → Int32 → (Nat → Int32) → (Nat → Int32) → (Nat → Int32) → (Nat → Int32) → (Nat → Int32) → (Nat → Int32) → (Nat → Int32) → (Nat → Int32) → (Nat → Int32) → (Nat → Int32) → (Nat → Int32) → (Nat → Int32) → (Nat → Int32) → (Nat → Int32) → (Nat → Int32) → (Nat → Int32) → (Nat → Int32) → (Nat → Int32) → (Nat → Int32) → (Nat → Int32) → (Nat → Int32) → (Nat → Int32) → (Nat → Int32) → (Nat → Int32) → (Nat → Int32) → (Nat → Int32) → (Nat → Int32) → (Nat → Int32) → (Nat → Int32) → (Nat → Int32) →  Prop} {n i : Nat} {x4 x5 x6 x7 x8 z0 : Int32} {kc ks : Nat} (hL : L ≤ 260) (hi : i < L) (hI : zw_I n ck va tr ce a1 a2 a3 a4 a5 a23 a25) (hx : x7 = zw_V sc gi pc a29 a30) (hf : zw_fit x8 z0)
    (hJ : ∀ n' le ck va dn sn ln wc iw tr tf li tk tc lv ce sc gi pc a1 a2 a3 a4 a5 a6 a7 a8 a9 a10 a11 a12 a13 a14 a15 a16 a17 a18 a19 a20 a21 a22 a23 a24 a25 a26 a27 a28 a29 a30, le = nI n' → zw_I n' ck va tr ce a1 a2 a3 a4 a5 a23 a25 → J (nI n') (nI i + 4) le ck va dn sn ln wc iw tr tf li tk tc lv ce sc gi pc a1 a2 a3 a4 a5 a6 a7 a8 a9 a10 a11 a12 a13 a14 a15 a16 a17 a18 a19 a20 a21 a22 a23 a24 a25 a26 a27 a28 a29 a30) :
    wL_law_124 post L xs J (nI n) (nI i) x4 x5 x6 x7 x8 z0 kc ks (nI n) ck va dn sn ln wc iw tr tf li tk tc lv ce sc gi pc a1 a2 a3 a4 a5 a6 a7 a8 a9 a10 a11 a12 a13 a14 a15 a16 a17 a18 a19 a20 a21 a22 a23 a24 a25 a26 a27 a28 a29 a30 := by
  have hJ1 : ∀ n' le ck va dn sn ln wc iw tr lv a1 a2 a3 a4 a5 a6, le = nI n' → zw_I n' ck va tr ce a1 a2 a3 a4 a5 a23 a25 → J (nI n') (nI i + 4) le ck va dn sn ln wc iw tr tf li tk tc lv ce sc gi pc a1 a2 a3 a4 a5 a6 a7 a8 a9 a10 a11 a12 a13 a14 a15 a16 a17 a18 a19 a20 a21 a22 a23 a24 a25 a26 a27 a28 a29 a30 := fun n' le ck va dn sn ln wc iw tr lv a1 a2 a3 a4 a5 a6 e g => hJ n' _ _ _ _ _ _ _ _ _ _ _ _ _ _ _ _ _ _ _ _ _ _ _ _ _ _ _ _ _ _ _ _ _ _ _ _ _ _ _ _ _ _ _ _ _ _ _ _ e g
  have k583 : wL_law_583 post L xs J (nI n) (nI i) x6 x7 kc ks (nI n) ck va dn sn ln wc iw tr tf li tk tc lv ce sc gi pc a1 a2 a3 a4 a5 a6 a7 a8 a9 a10 a11 a12 a13 a14 a15 a16 a17 a18 a19 a20 a21 a22 a23 a24 a25 a26 a27 a28 a29 a30 := zw_583 hI hx (fun ck va dn sn ln wc iw lv a3 a4 a5 a6 g => hJ1 _ _ _ _ _ _ _ _ _ _ _ _ _ _ _ _ _ rfl g)
  have hn := hI.1
  have k345 : wL_law_345 post L xs J (nI n) (nI i) x4 x5 x6 x7 kc ks (nI n) ck va dn sn ln wc iw tr tf li tk tc lv ce sc gi pc a1 a2 a3 a4 a5 a6 a7 a8 a9 a10 a11 a12 a13 a14 a15 a16 a17 a18 a19 a20 a21 a22 a23 a24 a25 a26 a27 a28 a29 a30 := zw_345 hI hx (fun ck va dn sn ln wc iw tr tf li tk tc lv ce sc gi pc a3 a4 a5 a6 a7 a8 a9 a10 a11 a12 a13 a14 a15 a16 a17 a18 a19 a20 a21 a22 a23 a24 a25 a26 a27 a28 a29 a30 g => hJ _ _ _ _ _ _ _ _ _ _ _ _ _ _ _ _ _ _ _ _ _ _ _ _ _ _ _ _ _ _ _ _ _ _ _ _ _ _ _ _ _ _ _ _ _ _ _ _ _ rfl g)
  have k292 : ∀ z, (z = 0 ↔ ¬ (vp_in x4 n ∧ zw_fit x5 x6)) → wL_law_292 post L xs J (nI n) (nI i) x4 x5 x6 x7 z kc ks (nI n) ck va dn sn ln wc iw tr tf li tk tc lv ce sc gi pc a1 a2 a3 a4 a5 a6 a7 a8 a9 a10 a11 a12 a13 a14 a15 a16 a17 a18 a19 a20 a21 a22 a23 a24 a25 a26 a27 a28 a29 a30 := fun z hz => zw_292 hI hx hz hJ1
  refine ⟨vp_in_nI hi (by omega), nm_e (br_c (fun _ => zw_569 hI hx hf hJ1) (fun _ => br_c (fun _ => zw_569 hI hx hf hJ1) (fun _ => br_c (fun _ => zw_199 hI hx hJ1) (fun _ => br_c (fun _ => ?_) (fun _ => br_c (fun _ => ?_) (fun _ => br_c (fun _ => ?_) (fun _ => br_c (fun _ => k345) (fun _ => br_c (fun _ => k345) (fun _ => br_c (fun _ => k345) (fun _ => br_c (fun _ => ?_) (fun _ => br_c (fun _ => zw_520 hI hx hJ1) (fun _ => trivial))))))))))))⟩
  · exact zw_setE hI (fun ck va dn sn ln wc iw lv a3 a4 a5 a6 a29 g => hJ _ _ _ _ _ _ _ _ _ _ _ _ _ _ _ _ _ _ _ _ _ _ _ _ _ _ _ _ _ _ _ _ _ _ _ _ _ _ _ _ _ _ _ _ _ _ _ _ _ rfl g)
  · have k291 : ¬ (vp_in x4 n ∧ zw_fit x5 x6) → wL_law_291 post L xs J (nI n) (nI i) x4 x5 x6 x7 kc ks (nI n) ck va dn sn ln wc iw tr tf li tk tc lv ce sc gi pc a1 a2 a3 a4 a5 a6 a7 a8 a9 a10 a11 a12 a13 a14 a15 a16 a17 a18 a19 a20 a21 a22 a23 a24 a25 a26 a27 a28 a29 a30 := fun g => k292 0 ⟨fun _ => g, fun _ => rfl⟩
    refine br_c (fun z => k291 (fun g => zb_nn g.1 z)) (fun z1 => br_c (fun z => k291 (fun g => ?_)) (fun z2 => zw_lfits (fun g => br_t rfl (k291 (fun y => g y.2))) (fun g => br_f (by decide) (k292 1 ⟨fun y => absurd y (by decide), fun y => absurd ⟨zb_lt_of z1 (Int32.not_le.mp z2) (by omega), g⟩ y⟩))))
    rw [zb_nI (zb_mono g.1 hn)] at z
    exact nI_ge (zb_lt g.1) (by omega) z
  · refine pk_le n 0 (fun _ => k583) (fun z => ⟨nI_ne0 z (by omega), ?_⟩)
    obtain ⟨j, hj, ej⟩ := pk_andE x6 (m := 255) 8 (by decide)
    have hj' : j < 256 := hj
    rw [ej, pk_rem (by omega) z (by omega)]
    have vj : vp_in (nI (j % n)) n := vp_in_nI (Nat.mod_lt _ z) (by omega)
    refine zw_replace hn (fun j hj _ => hI.2.1 j hj) (fun g => absurd ⟨vj, hf⟩ g) (fun ck tr b1 b2 _ _ hI' => br_t rfl ?_)
    exact zw_583 hI' hx (fun ck va dn sn ln wc iw lv a3 a4 a5 a6 g => hJ1 _ _ _ _ _ _ _ _ _ _ _ _ _ _ _ _ _ rfl g)
  · refine br_c (fun _ => k583) (fun _ => br_t rfl ?_)
    exact zw_583 (n := 0) ⟨by omega, fun j hj => absurd hj (by omega), Or.inl rfl, Or.inl rfl⟩ hx (fun ck va dn sn ln wc iw lv a3 a4 a5 a6 g => hJ1 0 _ _ _ _ _ _ _ _ _ _ _ _ _ _ _ _ rfl g)
end
end
section
/-! the law: its loops -/
def zw_J (n : Nat) (u : St1) : Prop := match u with
  | (le, ck, va, dn, sn, ln, wc, iw, tr, tf, li, tk, tc, lv, ce, sc, gi, pc, a1, a2, a3, a4, a5, a6, a7, a8, a9, a10, a11, a12, a13, a14, a15, a16, a17, a18, a19, a20, a21, a22, a23, a24, a25, a26, a27, a28, a29, a30) => le = nI n ∧ zw_I n ck va tr ce a1 a2 a3 a4 a5 a23 a25
theorem zw_633 {post : Int32 → Prop} {L : Nat} {xs : Nat → Int32} {kc ks n : Nat} {u : St1} (hI : zw_J n u) (h1 : post 1) : match u with | (le, ck, va, dn, sn, ln, wc, iw, tr, tf, li, tk, tc, lv, ce, sc, gi, pc, a1, a2, a3, a4, a5, a6, a7, a8, a9, a10, a11, a12, a13, a14, a15, a16, a17, a18, a19, a20, a21, a22, a23, a24, a25, a26, a27, a28, a29, a30) => ∃ fu, wL_law_633 post L xs kc ks fu (nI n) 0 le ck va dn sn ln wc iw tr tf li tk tc lv ce sc gi pc a1 a2 a3 a4 a5 a6 a7 a8 a9 a10 a11 a12 a13 a14 a15 a16 a17 a18 a19 a20 a21 a22 a23 a24 a25 a26 a27 a28 a29 a30 := by
  have main := pk_loop (σ := Nat × St1) (fun m i s => match s.2 with | (le, ck, va, dn, sn, ln, wc, iw, tr, tf, li, tk, tc, lv, ce, sc, gi, pc, a1, a2, a3, a4, a5, a6, a7, a8, a9, a10, a11, a12, a13, a14, a15, a16, a17, a18, a19, a20, a21, a22, a23, a24, a25, a26, a27, a28, a29, a30) => wL_law_633 post L xs kc ks m (nI s.1) (nI i) le ck va dn sn ln wc iw tr tf li tk tc lv ce sc gi pc a1 a2 a3 a4 a5 a6 a7 a8 a9 a10 a11 a12 a13 a14 a15 a16 a17 a18 a19 a20 a21 a22 a23 a24 a25 a26 a27 a28 a29 a30) (fun i s => zw_J s.1 s.2 ∧ (i ≤ s.1 ∨ s.1 = 40)) 41 0 (n, u) (by omega) ⟨hI, Or.inl (Nat.zero_le _)⟩ ?_ ?_
  · obtain ⟨le, ck, va, dn, sn, ln, wc, iw, tr, tf, li, tk, tc, lv, ce, sc, gi, pc, a1, a2, a3, a4, a5, a6, a7, a8, a9, a10, a11, a12, a13, a14, a15, a16, a17, a18, a19, a20, a21, a22, a23, a24, a25, a26, a27, a28, a29, a30⟩ := u
    exact main
  · rintro m ⟨n, le, ck, va, dn, sn, ln, wc, iw, tr, tf, li, tk, tc, lv, ce, sc, gi, pc, a1, a2, a3, a4, a5, a6, a7, a8, a9, a10, a11, a12, a13, a14, a15, a16, a17, a18, a19, a20, a21, a22, a23, a24, a25, a26, a27, a28, a29, a30⟩ ⟨⟨e0, hI0⟩, hk⟩
    (try dsimp only at hk)
    have e : le = nI n := e0
    have hI : zw_I n ck va tr ce a1 a2 a3 a4 a5 a23 a25 := hI0
    clear e0 hI0
    show wL_law_633 post L xs kc ks (m + 1) (nI n) (nI 41) le ck va dn sn ln wc iw tr tf li tk tc lv ce sc gi pc a1 a2 a3 a4 a5 a6 a7 a8 a9 a10 a11 a12 a13 a14 a15 a16 a17 a18 a19 a20 a21 a22 a23 a24 a25 a26 a27 a28 a29 a30
    have hn := hI.1
    have e40 : n = 40 := by omega
    subst e; subst e40
    exact pk_le 41 41 (fun _ => zw_holds hI (fun va dn sn ln wc iw a3 a4 a5 a6 _ => h1)) (fun g => absurd g (by omega))
  · rintro m i ⟨n, le, ck, va, dn, sn, ln, wc, iw, tr, tf, li, tk, tc, lv, ce, sc, gi, pc, a1, a2, a3, a4, a5, a6, a7, a8, a9, a10, a11, a12, a13, a14, a15, a16, a17, a18, a19, a20, a21, a22, a23, a24, a25, a26, a27, a28, a29, a30⟩ hi ⟨⟨e0, hI0⟩, hk⟩ hm
    (try dsimp only at hk)
    have e : le = nI n := e0
    have hI : zw_I n ck va tr ce a1 a2 a3 a4 a5 a23 a25 := hI0
    clear e0 hI0
    show wL_law_633 post L xs kc ks (m + 1) (nI n) (nI i) le ck va dn sn ln wc iw tr tf li tk tc lv ce sc gi pc a1 a2 a3 a4 a5 a6 a7 a8 a9 a10 a11 a12 a13 a14 a15 a16 a17 a18 a19 a20 a21 a22 a23 a24 a25 a26 a27 a28 a29 a30
    have hn := hI.1
    subst e
    refine pk_le 41 i (fun g => absurd g (by omega)) (fun _ => ?_)
    refine zw_emit hI (fun e => ?_) (fun _ g => absurd ⟨zb_in (n := 26) (by omega), fun y => absurd y (by decide), fun y => absurd y (by decide)⟩ g) (fun ck tr b1 b2 e _ hI' => ?_)
    · subst e
      refine br_t rfl (br_t rfl (br_t (by decide) (nm_r (nI_1 i) ?_)))
      exact hm (40, (nI 40, ck, va, dn, sn, ln, wc, iw, tr, tf, li, tk, tc, lv, ce, sc, gi, pc, a1, a2, a3, a4, a5, a6, a7, a8, a9, a10, a11, a12, a13, a14, a15, a16, a17, a18, a19, a20, a21, a22, a23, a24, a25, a26, a27, a28, a29, a30)) ⟨⟨rfl, hI⟩, Or.inr rfl⟩
    · refine br_f (fun z => ?_) (br_t (nI_1 n).symm (br_f (fun z => ?_) (nm_r (nI_1 n) (nm_r (nI_1 i) ?_))))
      · have := (nI_eq (b := 40) (by omega) (by omega)).mp z
        omega
      · exact nI_ge (b := 40) e (by omega) z
      · exact hm (n + 1, (nI (n + 1), ck, va, dn, sn, ln, wc, iw, tr, tf, li, tk, tc, lv, ce, sc, gi, pc, b1, b2, a3, a4, a5, a6, a7, a8, a9, a10, a11, a12, a13, a14, a15, a16, a17, a18, a19, a20, a21, a22, a23, a24, a25, a26, a27, a28, a29, a30)) ⟨⟨rfl, hI'⟩, by (try dsimp only); omega⟩
theorem zw_L4 {L i : Nat} (hL : L ≤ 260) (hi : i ≤ 264) (h : ¬ (Int32.ofNat L) - 4 < nI i) : i + 4 ≤ L := by
  rcases Nat.lt_or_ge L 4 with g | g
  · exfalso
    have := (by decide +kernel : ∀ L, L < 4 → (Int32.ofNat L) - 4 < 0) L g
    exact h (Int32.lt_of_lt_of_le this (nI_pos' (by omega)))
  · have e : (Int32.ofNat L) - 4 = nI (L - 4) := by
      have e1 : Int32.ofNat L = nI (L - 4) + nI 4 := by
        rw [nI_add, show L - 4 + 4 = L by omega]; rfl
      rw [e1]
      show nI (L - 4) + 4 - 4 = _
      grind
    rw [e] at h
    rcases Nat.lt_or_ge (L - 4) i with y | y
    · exact absurd (nI_lt y (by omega)) h
    · omega
theorem zw_loop {post : Int32 → Prop} {L : Nat} {xs : Nat → Int32} {kc ks n : Nat} {u : St1} (hL : L ≤ 260) (hI : zw_J n u) (h1 : post 1) : match u with | (le, ck, va, dn, sn, ln, wc, iw, tr, tf, li, tk, tc, lv, ce, sc, gi, pc, a1, a2, a3, a4, a5, a6, a7, a8, a9, a10, a11, a12, a13, a14, a15, a16, a17, a18, a19, a20, a21, a22, a23, a24, a25, a26, a27, a28, a29, a30) => ∃ fu, wL_law_12 post L xs kc ks fu (nI n) 0 le ck va dn sn ln wc iw tr tf li tk tc lv ce sc gi pc a1 a2 a3 a4 a5 a6 a7 a8 a9 a10 a11 a12 a13 a14 a15 a16 a17 a18 a19 a20 a21 a22 a23 a24 a25 a26 a27 a28 a29 a30 := by
  have main := loop_m (σ := Nat × Nat × St1) (fun m s => match s.2.2 with | (le, ck, va, dn, sn, ln, wc, iw, tr, tf, li, tk, tc, lv, ce, sc, gi, pc, a1, a2, a3, a4, a5, a6, a7, a8, a9, a10, a11, a12, a13, a14, a15, a16, a17, a18, a19, a20, a21, a22, a23, a24, a25, a26, a27, a28, a29, a30) => wL_law_12 post L xs kc ks m (nI s.1) (nI s.2.1) le ck va dn sn ln wc iw tr tf li tk tc lv ce sc gi pc a1 a2 a3 a4 a5 a6 a7 a8 a9 a10 a11 a12 a13 a14 a15 a16 a17 a18 a19 a20 a21 a22 a23 a24 a25 a26 a27 a28 a29 a30) (fun s => zw_J s.1 s.2.2 ∧ s.2.1 ≤ 264) (fun s => 300 - s.2.1) ?_ (n, 0, u) ⟨hI, Nat.zero_le _⟩
  · obtain ⟨le, ck, va, dn, sn, ln, wc, iw, tr, tf, li, tk, tc, lv, ce, sc, gi, pc, a1, a2, a3, a4, a5, a6, a7, a8, a9, a10, a11, a12, a13, a14, a15, a16, a17, a18, a19, a20, a21, a22, a23, a24, a25, a26, a27, a28, a29, a30⟩ := u
    exact main
  · rintro m ⟨n, i, le, ck, va, dn, sn, ln, wc, iw, tr, tf, li, tk, tc, lv, ce, sc, gi, pc, a1, a2, a3, a4, a5, a6, a7, a8, a9, a10, a11, a12, a13, a14, a15, a16, a17, a18, a19, a20, a21, a22, a23, a24, a25, a26, a27, a28, a29, a30⟩ ⟨⟨e0, hI0⟩, hk⟩ hm
    (try dsimp only at hk)
    have e : le = nI n := e0
    have hI : zw_I n ck va tr ce a1 a2 a3 a4 a5 a23 a25 := hI0
    clear e0 hI0
    show wL_law_12 post L xs kc ks (m + 1) (nI n) (nI i) le ck va dn sn ln wc iw tr tf li tk tc lv ce sc gi pc a1 a2 a3 a4 a5 a6 a7 a8 a9 a10 a11 a12 a13 a14 a15 a16 a17 a18 a19 a20 a21 a22 a23 a24 a25 a26 a27 a28 a29 a30
    subst e
    refine br_c (fun _ => zw_633 (u := (nI n, ck, va, dn, sn, ln, wc, iw, tr, tf, li, tk, tc, lv, ce, sc, gi, pc, a1, a2, a3, a4, a5, a6, a7, a8, a9, a10, a11, a12, a13, a14, a15, a16, a17, a18, a19, a20, a21, a22, a23, a24, a25, a26, a27, a28, a29, a30)) ⟨rfl, hI⟩ h1) (fun z => ?_)
    have hi := zw_L4 hL hk z
    have hn := hI.1
    have e2 : nI i + 2 = nI (i + 2) := nI_add i 2
    have e3 : nI i + 3 = nI (i + 3) := nI_add i 3
    have e4 : nI i + 4 = nI (i + 4) := nI_add i 4
    rw [nI_1, e2, e3]
    refine ⟨vp_in_nI (by omega) (by omega), nm_e ⟨vp_in_nI (by omega) (by omega), nm_e ⟨vp_in_nI (by omega) (by omega), nm_e ?_⟩⟩⟩
    generalize xs (nI (i + 1)).toNatClampNeg = x4
    generalize xs (nI (i + 2)).toNatClampNeg = x5
    generalize xs (nI (i + 3)).toNatClampNeg = x6
    refine zw_sum ⟨by decide, ?_⟩
    obtain ⟨j, hj, ej⟩ := pk_andE x4 (m := 255) 8 (by decide)
    have hj' : j < 256 := hj
    obtain ⟨q, hq, eq⟩ := pk_andE x5 (m := 255) 8 (by decide)
    have hq' : q < 256 := hq
    have ex8 : (x4 &&& 255) - (x4 &&& 255) / 27 * 27 = nI (j % 27) := by rw [ej]; exact pk_rem (d := 27) (by omega) (by omega) (by omega)
    have er3 : (x5 &&& 255) - (x5 &&& 255) / 3 * 3 = nI (q % 3) := by rw [eq]; exact pk_rem (d := 3) (by omega) (by omega) (by omega)
    have v8 : vp_in (nI (j % 27)) 27 := zb_in (by omega)
    refine nm_r ex8 ?_
    generalize nI (j % 27) = x8 at v8
    have go : ∀ z0, zw_fit x8 z0 → wL_law_124 post L xs (wL_law_12 post L xs kc ks m) (nI n) (nI i) x4 x5 x6 (zw_V sc gi pc a29 a30) x8 z0 kc ks (nI n) ck va dn sn ln wc iw tr tf li tk tc lv ce sc gi pc a1 a2 a3 a4 a5 a6 a7 a8 a9 a10 a11 a12 a13 a14 a15 a16 a17 a18 a19 a20 a21 a22 a23 a24 a25 a26 a27 a28 a29 a30 := fun z0 hf =>
      zw_124 hL (by omega) hI rfl hf (fun n' le ck va dn sn ln wc iw tr tf li tk tc lv ce sc gi pc a1 a2 a3 a4 a5 a6 a7 a8 a9 a10 a11 a12 a13 a14 a15 a16 a17 a18 a19 a20 a21 a22 a23 a24 a25 a26 a27 a28 a29 a30 e g => by
        rw [e4]
        exact hm (n', i + 4, (le, ck, va, dn, sn, ln, wc, iw, tr, tf, li, tk, tc, lv, ce, sc, gi, pc, a1, a2, a3, a4, a5, a6, a7, a8, a9, a10, a11, a12, a13, a14, a15, a16, a17, a18, a19, a20, a21, a22, a23, a24, a25, a26, a27, a28, a29, a30)) ⟨⟨e, g⟩, by (try dsimp only); omega⟩ (by (try dsimp only); omega))
    refine br_c (fun e => ⟨by decide, go _ ⟨v8, fun y => ?_, fun _ => ?_⟩⟩) (fun n17 => br_c (fun e => go _ ⟨v8, fun _ => pk_andIn x5 2 (by decide) (by omega), fun y => absurd y n17⟩) (fun n1 => br_c (fun e => go _ ⟨v8, fun _ => pk_andIn x5 2 (by decide) (by omega), fun y => absurd y n17⟩) (fun n2 => ?_)))
    · rw [e] at y; exact absurd y (by decide)
    · rw [er3]
      exact zb_in (by omega)
    · have hf : ∀ z0, zw_fit x8 z0 := fun z0 => ⟨v8, fun y => y.elim (fun y => absurd y n1) (fun y => absurd y n2), fun y => absurd y n17⟩
      refine br_c (fun _ => go _ (hf _)) (fun _ => br_c (fun _ => go _ (hf _)) (fun _ => ⟨fun y => ?_, go _ (hf _)⟩))
      have y2 : nI n + nI 2 = nI 0 := y
      rw [nI_add] at y2
      have := (nI_eq (by omega) (by omega)).mp y2
      omega
theorem i_vc (xs : Nat → Int32) (L : Nat) (hL : L ≤ 260) : wpL_law (fun r => r = 1) L xs := by
  refine ⟨30, 2710, by decide, by decide, ?_⟩
  unfold wpX_init
  repeat refine ⟨by decide, ?_⟩
  exact zw_loop (n := 0) (u := (0, 0, 0, 0, 0, 0, 0, 0, 0, 0, 0, 0, 0, 2, 0, 0, 0, 0, fun _ => 0, fun _ => 0, fun _ => 0, fun _ => 0, fun _ => 0, fun _ => 0, fun _ => 0, fun _ => 0, fun _ => 0, fun _ => 0, fun _ => 0, fun _ => 0, fun _ => 0, fun _ => 0, fun _ => 0, fun _ => 0, fun _ => 0, fun _ => 0, fun _ => 0, fun _ => 0, fun _ => 0, fun _ => 0, fun _ => 0, fun _ => 0, fun _ => 0, fun _ => 0, fun _ => 0, fun _ => 0, fun _ => 0, fun _ => 0)) hL ⟨rfl, by omega, fun j hj => absurd hj (by omega), Or.inl rfl, Or.inl rfl⟩ rfl
end
