section
theorem pk_us {f : Nat → Int32} {k : Nat} {x : Int32} : upd f k x k = x := if_pos rfl
theorem pk_un {f : Nat → Int32} {k j : Nat} {x : Int32} (h : j ≠ k) : upd f k x j = f j := if_neg h
theorem pk_sub {a b : Nat} (h : b ≤ a) : nI a - nI b = nI (a - b) := by
  obtain ⟨c, rfl⟩ : ∃ c, a = c + b := ⟨a - b, by omega⟩
  rw [← nI_add, Int32.add_sub_cancel, Nat.add_sub_cancel]
theorem pk_m1 (n : Nat) : nI (n + 1) + (-1) = nI n := by
  rw [← nI_1, Int32.add_assoc, show (1 : Int32) + (-1) = 0 from rfl, Int32.add_zero]
theorem pk_mul (a b : Nat) : nI a * nI b = nI (a * b) := (Int32.ofNat_mul a b).symm
theorem pk_sub_toInt {a b : Nat} (ha : a < 2 ^ 30) (hb : b < 2 ^ 30) : (nI a - nI b).toInt = (a : Int) - b := by
  rw [Int32.toInt_sub, nI_toInt (by omega), nI_toInt (by omega)]
  exact Int.bmod_eq_of_le (by omega) (by omega)
theorem pk_ix (x : Int32) {n : Nat} (hn : n < 2 ^ 31) : x < 0 ∨ nI n ≤ x ∨ ∃ j : Nat, j < n ∧ x = nI j := by
  by_cases h : x < 0
  · exact Or.inl h
  · obtain ⟨j, hj, rfl⟩ := nI_of h
    by_cases h2 : j < n
    · exact Or.inr (Or.inr ⟨j, h2, rfl⟩)
    · exact Or.inr (Or.inl (nI_le (by omega) hj))
theorem pk_le {x y : Int32} {A B : Prop} (a b : Nat) (f : a ≤ b → A) (g : b < a → B) (hx : x = nI a := by rfl) (hy : y = nI b := by rfl) (ha : a < 2 ^ 31 := by omega) (hb : b < 2 ^ 31 := by omega) : (x ≤ y → A) ∧ (¬ x ≤ y → B) := by
  subst hx hy
  rw [nI_leI ha hb]
  exact ⟨f, fun z => g (by omega)⟩
theorem pk_lt {x y : Int32} {A B : Prop} (a b : Nat) (f : a < b → A) (g : b ≤ a → B) (hx : x = nI a := by rfl) (hy : y = nI b := by rfl) (ha : a < 2 ^ 31 := by omega) (hb : b < 2 ^ 31 := by omega) : (x < y → A) ∧ (¬ x < y → B) := by
  subst hx hy
  rw [nI_ltI ha hb]
  exact ⟨f, fun z => g (by omega)⟩
theorem pk_eq {x y : Int32} {A B : Prop} (a b : Nat) (f : a = b → A) (g : a ≠ b → B) (hx : x = nI a := by rfl) (hy : y = nI b := by rfl) (ha : a < 2 ^ 31 := by omega) (hb : b < 2 ^ 31 := by omega) : (x = y → A) ∧ (¬ x = y → B) := by
  subst hx hy
  rw [nI_eq ha hb]
  exact ⟨f, g⟩
theorem pk_in {x : Int32} (n N : Nat) (h : n < N) (hx : x = nI n := by rfl) (hN : N < 2 ^ 31 := by omega) : vp_in x N := by
  subst hx
  exact vp_in_nI h hN
theorem pk_cl {x : Int32} (n : Nat) (hx : x = nI n := by rfl) (h : n < 2 ^ 31 := by omega) : x.toNatClampNeg = n := by
  subst hx
  exact nI_clamp h
theorem pk_tn {n : Nat} (h : n < 2 ^ 32) : (nI n).toBitVec.toNat = n := Nat.mod_eq_of_lt h
theorem pk_and (x : Int32) {m : Int32} (k : Nat) (hm : m.toBitVec.toNat = 2 ^ k - 1) : x &&& m = nI (x.toBitVec.toNat % 2 ^ k) := by
  apply Int32.toBitVec_inj.mp
  apply BitVec.eq_of_toNat_eq
  rw [Int32.toBitVec_and, BitVec.toNat_and, hm, Nat.and_two_pow_sub_one_eq_mod]
  show _ = (BitVec.ofNat 32 _).toNat
  rw [BitVec.toNat_ofNat]
  exact (Nat.mod_eq_of_lt (Nat.lt_of_le_of_lt (Nat.mod_le _ _) x.toBitVec.isLt)).symm
theorem pk_andN {n : Nat} (h : n < 2 ^ 32) {m : Int32} (k : Nat) (hm : m.toBitVec.toNat = 2 ^ k - 1) : nI n &&& m = nI (n % 2 ^ k) := by
  rw [pk_and _ k hm, pk_tn h]
theorem pk_andE (x : Int32) {m : Int32} (k : Nat) (hm : m.toBitVec.toNat = 2 ^ k - 1) : ∃ j : Nat, j < 2 ^ k ∧ x &&& m = nI j := ⟨_, Nat.mod_lt _ (Nat.two_pow_pos k), pk_and x k hm⟩
theorem pk_shl (a s : Int32) (k : Nat) (hs : (s.toBitVec.smod 32).toNat = k) : (a <<< s).toBitVec.toNat = a.toBitVec.toNat * 2 ^ k % 2 ^ 32 := by
  show (a.toBitVec <<< (s.toBitVec.smod 32).toNat).toNat = _
  rw [hs, BitVec.toNat_shiftLeft, Nat.shiftLeft_eq]
theorem pk_shlN {n : Nat} (s : Int32) (k : Nat) (hs : (s.toBitVec.smod 32).toNat = k) (h : n * 2 ^ k < 2 ^ 32) : nI n <<< s = nI (n * 2 ^ k) := by
  apply Int32.toBitVec_inj.mp
  apply BitVec.eq_of_toNat_eq
  have hn : n < 2 ^ 32 := Nat.lt_of_le_of_lt (Nat.le_mul_of_pos_right n (Nat.two_pow_pos k)) h
  rw [pk_shl _ _ k hs, pk_tn hn, pk_tn h, Nat.mod_eq_of_lt h]
theorem pk_shr (a s : Int32) (k : Nat) (hs : (s.toBitVec.smod 32).toNat = k) : (a >>> s).toInt = a.toInt >>> k := by
  show (a.toBitVec.sshiftRight (s.toBitVec.smod 32).toNat).toInt = _
  rw [hs, BitVec.toInt_sshiftRight]
  rfl
theorem pk_shrN {n : Nat} (h : n < 2 ^ 31) (s : Int32) (k : Nat) (hs : (s.toBitVec.smod 32).toNat = k) : nI n >>> s = nI (n / 2 ^ k) := by
  apply Int32.toInt_inj.mp
  have h2 : n / 2 ^ k ≤ n := Nat.div_le_self _ _
  rw [pk_shr _ _ k hs, nI_toInt h, nI_toInt (by omega), Int.shiftRight_eq_div_pow]
  rfl
theorem pk_ushr (x s : Int32) (k : Nat) (hs : ((s.toUInt32 &&& Int32.toUInt32 31).toBitVec % 32).toNat = k) : (x.toUInt32 >>> (s.toUInt32 &&& Int32.toUInt32 31)).toInt32.toBitVec.toNat = x.toBitVec.toNat / 2 ^ k := by
  have e : (x.toUInt32 >>> (s.toUInt32 &&& Int32.toUInt32 31)).toInt32.toBitVec = x.toBitVec >>> k := by
    rw [← hs]
    exact UInt32.toBitVec_shiftRight _ _
  rw [e, BitVec.toNat_ushiftRight, Nat.shiftRight_eq_div_pow]
theorem pk_ushrN {n : Nat} (hn : n < 2 ^ 32) (s : Int32) (k : Nat) (hs : ((s.toUInt32 &&& Int32.toUInt32 31).toBitVec % 32).toNat = k) : ((nI n).toUInt32 >>> (s.toUInt32 &&& Int32.toUInt32 31)).toInt32 = nI (n / 2 ^ k) := by
  apply Int32.toBitVec_inj.mp
  apply BitVec.eq_of_toNat_eq
  rw [pk_ushr _ s k hs, pk_tn hn, pk_tn (Nat.lt_of_le_of_lt (Nat.div_le_self _ _) hn)]
theorem pk_vb (z : Int32) : vp_nar .byte z.toInt8.toInt32 = z.toInt8.toInt32 := by rw [vp_nar_byte]; simp
theorem sb_at {P : Int32 → Prop} {x y : Int32} (e : x = y) (h : P y) : P x := e ▸ h
theorem sb_cl0 : (0 : Int32).toNatClampNeg = 0 := by decide
theorem sb_negT {w : Nat} (h : w < 2 ^ 31) : (-nI w).toInt = -(w : Int) := by
  rw [Int32.toInt_neg, nI_toInt h]
  exact Int.bmod_eq_of_le (by omega) (by omega)
def bt (x : Int32) (i : Nat) : Bool := x.toBitVec.getLsbD i
theorem b_ext {x y : Int32} (h : ∀ i, i < 32 → bt x i = bt y i) : x = y := Int32.toBitVec_inj.mp (BitVec.eq_of_getLsbD_eq (fun i hi => h i hi))
theorem b_or (x y : Int32) (i : Nat) : bt (x ||| y) i = (bt x i || bt y i) := by unfold bt; rw [Int32.toBitVec_or, BitVec.getLsbD_or]
theorem b_and (x y : Int32) (i : Nat) : bt (x &&& y) i = (bt x i && bt y i) := by unfold bt; rw [Int32.toBitVec_and, BitVec.getLsbD_and]
theorem s_l : ∀ n, n < 32 → ((nI n &&& 31).toBitVec.smod 32).toNat = n := by decide +kernel
theorem s_u : ∀ n, n < 32 → (((nI n).toUInt32 &&& Int32.toUInt32 31).toBitVec % 32).toNat = n := by decide +kernel
theorem b_shl (n : Nat) (hn : n < 32) (x : Int32) {i : Nat} (hi : i < 32) : bt (x <<< (nI n &&& 31)) i = (decide (n ≤ i) && bt x (i - n)) := by
  unfold bt
  rw [Int32.toBitVec_shiftLeft]
  show (x.toBitVec <<< ((nI n &&& 31).toBitVec.smod 32).toNat).getLsbD i = _
  rw [s_l n hn, BitVec.getLsbD_shiftLeft]
  rcases Nat.lt_or_ge i n with h | h
  · simp [h, Nat.not_le.mpr h]
  · simp [hi, h, Nat.not_lt.mpr h]
theorem nx_and (a b : Nat) : nI a &&& nI b = nI (a &&& b) := by
  apply Int32.toBitVec_inj.1
  show BitVec.ofNat 32 a &&& BitVec.ofNat 32 b = BitVec.ofNat 32 (a &&& b)
  apply BitVec.eq_of_getLsbD_eq
  intro i hi
  simp [hi]
theorem bp_b (x : Int32) : x.toInt8.toInt32 &&& 255 = x &&& 255 := by
  apply Int32.toBitVec_inj.mp
  rw [Int32.toBitVec_and, Int32.toBitVec_and, Int8.toBitVec_toInt32, Int32.toBitVec_toInt8]
  apply BitVec.eq_of_getLsbD_eq
  intro i hi
  rw [BitVec.getLsbD_and, BitVec.getLsbD_and]
  have hm : ∀ i < 32, 8 ≤ i → (255 : Int32).toBitVec.getLsbD i = false := by decide
  rcases Nat.lt_or_ge i 8 with z | z
  · rw [BitVec.getLsbD_signExtend, BitVec.getLsbD_signExtend, if_pos z, if_pos hi]
    simp only [z, hi, decide_true, Bool.true_and]
  · rw [hm i hi z]; simp
end
section
/-! the value and the length of a byte stream (after 255 seven bits, the carry in the eighth), the encoder's pure invariant, what every earlier interval knows of the bytes -/
def mq_mv (B : Nat → Nat) : Nat → Nat
  | 0 => 0
  | m + 1 => if B m = 255 then (if B (m + 1) ≤ 143 then mq_mv B m * 128 + B (m + 1) else mq_mv B m * 256 + 255) else mq_mv B m * 256 + B (m + 1)
def mq_ml (B : Nat → Nat) : Nat → Nat
  | 0 => 0
  | m + 1 => if B m = 255 then (if B (m + 1) ≤ 143 then mq_ml B m + 7 else mq_ml B m + 8) else mq_ml B m + 8
def mq_up (f : Nat → Nat) (k v : Nat) : Nat → Nat := fun j => if j = k then v else f j
theorem mq_us {f : Nat → Nat} {k v : Nat} : mq_up f k v k = v := if_pos rfl
theorem mq_un {f : Nat → Nat} {k v j : Nat} (h : j ≠ k) : mq_up f k v j = f j := if_neg h
theorem mq_cg {B B' : Nat → Nat} : ∀ m, (∀ j, j ≤ m → B j = B' j) → mq_mv B m = mq_mv B' m ∧ mq_ml B m = mq_ml B' m := by
  intro m
  induction m with
  | zero => intro _; exact ⟨rfl, rfl⟩
  | succ m ih =>
    intro h
    have i1 := (ih (fun j hj => h j (by omega))).1
    have i2 := (ih (fun j hj => h j (by omega))).2
    have h1 := h m (by omega)
    have h2 := h (m + 1) (by omega)
    constructor
    · rw [mq_mv, mq_mv, h1, h2, i1]
    · rw [mq_ml, mq_ml, h1, h2, i2]
theorem mq_s7 {B : Nat → Nat} {m : Nat} (h : B m = 255) (h2 : B (m + 1) ≤ 143) : mq_mv B (m + 1) = mq_mv B m * 128 + B (m + 1) ∧ mq_ml B (m + 1) = mq_ml B m + 7 := by
  constructor
  · rw [mq_mv, if_pos h, if_pos h2]
  · rw [mq_ml, if_pos h, if_pos h2]
theorem mq_s8 {B : Nat → Nat} {m : Nat} (h : B m ≠ 255) : mq_mv B (m + 1) = mq_mv B m * 256 + B (m + 1) ∧ mq_ml B (m + 1) = mq_ml B m + 8 := by
  constructor
  · rw [mq_mv, if_neg h]
  · rw [mq_ml, if_neg h]
theorem mq_s9 {B : Nat → Nat} {m : Nat} (h : B m = 255) (h2 : ¬ B (m + 1) ≤ 143) : mq_mv B (m + 1) = mq_mv B m * 256 + 255 ∧ mq_ml B (m + 1) = mq_ml B m + 8 := by
  constructor
  · rw [mq_mv, if_pos h, if_neg h2]
  · rw [mq_ml, if_pos h, if_neg h2]
theorem mq_len (B : Nat → Nat) : ∀ m, 7 * m ≤ mq_ml B m ∧ mq_ml B m ≤ 8 * m := by
  intro m
  induction m with
  | zero => exact ⟨Nat.le_refl _, Nat.le_refl _⟩
  | succ m ih =>
    by_cases h : B m = 255
    · by_cases h2 : B (m + 1) ≤ 143
      · have := (mq_s7 h h2).2; omega
      · have := (mq_s9 h h2).2; omega
    · have := (mq_s8 h).2; omega
theorem mq_mono (B : Nat → Nat) (m : Nat) : ∀ i, ∃ d, mq_ml B (m + i) = mq_ml B m + d ∧ mq_mv B m * 2 ^ d ≤ mq_mv B (m + i) := by
  intro i
  induction i with
  | zero => exact ⟨0, rfl, by rw [Nat.pow_zero, Nat.mul_one]; exact Nat.le_refl _⟩
  | succ i ih =>
    obtain ⟨d, h1, h2⟩ := ih
    have p7 : mq_mv B m * 2 ^ (d + 7) = mq_mv B m * 2 ^ d * 128 := by rw [Nat.pow_add, Nat.mul_assoc]
    have p8 : mq_mv B m * 2 ^ (d + 8) = mq_mv B m * 2 ^ d * 256 := by rw [Nat.pow_add, Nat.mul_assoc]
    rw [← Nat.add_assoc]
    by_cases h : B (m + i) = 255
    · by_cases h3 : B (m + i + 1) ≤ 143
      · have ⟨a, b⟩ := mq_s7 h h3
        exact ⟨d + 7, by omega, by rw [p7, a]; omega⟩
      · have ⟨a, b⟩ := mq_s9 h h3
        exact ⟨d + 8, by omega, by rw [p8, a]; omega⟩
    · have ⟨a, b⟩ := mq_s8 h
      exact ⟨d + 8, by omega, by rw [p8, a]; omega⟩
theorem mq_mlm (B : Nat → Nat) {j m : Nat} (h : j ≤ m) : mq_ml B j ≤ mq_ml B m := by
  obtain ⟨i, rfl⟩ := Nat.exists_eq_add_of_le h
  obtain ⟨d, h1, _⟩ := mq_mono B j i
  omega
/-- the encoder: N the whole low end, A the width, s the doublings so far, C its register, ct the doublings to the next byte, bl the last byte, B the bytes -/
def mq_EP (N A s C ct bl : Nat) (B : Nat → Nat) : Prop :=
  N * 2 ^ ct = mq_mv B bl * 134217728 + C * 2 ^ ct ∧ mq_ml B bl + 12 = s + ct ∧ ct ≤ 12 ∧ 1 ≤ A ∧ B 0 = 0 ∧
  (∀ j, j < bl → B j = 255 → B (j + 1) ≤ 143) ∧ (∀ j, j ≤ bl → B j ≤ 255) ∧
  (C + A) * 2 ^ ct ≤ 150994944 ∧ ((bl = 0 ∨ ∃ j, bl = j + 1 ∧ B j = 255 ∧ B bl = 143) → (C + A) * 2 ^ ct ≤ 134217728)
/-- an earlier interval (N0, A0 at s0 doublings) holds the present one, and every run of first bytes that reaches as far lies at its low end or above -/
def mq_Hi (N0 A0 s0 N A s bl : Nat) (B : Nat → Nat) : Prop :=
  (∃ e, s = s0 + e ∧ N0 * 2 ^ e ≤ N ∧ N + A ≤ (N0 + A0) * 2 ^ e) ∧ ∀ j, j ≤ bl → ∀ e, mq_ml B j = s0 + 15 + e → N0 * 2 ^ e ≤ mq_mv B j
theorem mq_t1 {N A s C ct bl : Nat} {B : Nat → Nat} (h : mq_EP N A s C ct bl B) (δ A' : Nat) (hd : δ + A' ≤ A) (hA : 1 ≤ A') : mq_EP (N + δ) A' s (C + δ) ct bl B := by
  obtain ⟨h1, h2, h3, h4, h5, h6, h7, h8, h9⟩ := h
  have hm : (C + δ + A') * 2 ^ ct ≤ (C + A) * 2 ^ ct := Nat.mul_le_mul_right _ (by omega)
  refine ⟨?_, h2, h3, hA, h5, h6, h7, Nat.le_trans hm h8, fun z => Nat.le_trans hm (h9 z)⟩
  rw [Nat.add_mul, Nat.add_mul, h1]
  omega
theorem mq_t1h {N0 A0 s0 N A s bl : Nat} {B : Nat → Nat} (h : mq_Hi N0 A0 s0 N A s bl B) (δ A' : Nat) (hd : δ + A' ≤ A) : mq_Hi N0 A0 s0 (N + δ) A' s bl B := by
  obtain ⟨⟨e, h1, h2, h3⟩, h4⟩ := h
  exact ⟨⟨e, h1, by omega, by omega⟩, h4⟩
theorem mq_h0 {N A s C ct bl : Nat} {B : Nat → Nat} (h : mq_EP N A s C ct bl B) (a b : Nat) : mq_Hi a b s a b s bl B := by
  obtain ⟨h1, h2, h3, h4, h5, h6, h7, h8, h9⟩ := h
  refine ⟨⟨0, rfl, by rw [Nat.pow_zero, Nat.mul_one]; exact Nat.le_refl _, by rw [Nat.pow_zero, Nat.mul_one]; exact Nat.le_refl _⟩, fun j hj e he => ?_⟩
  have := mq_mlm B hj
  omega
theorem mq_p1 (N c i : Nat) : N * 2 ^ i * 2 ^ c = N * 2 ^ (c + i) := by
  rw [Nat.mul_assoc, ← Nat.pow_add, Nat.add_comm i c]
theorem mq_t2 {N A s C ct bl : Nat} {B : Nat → Nat} (i : Nat) (h : mq_EP N A s C (ct + i) bl B) : mq_EP (N * 2 ^ i) (A * 2 ^ i) (s + i) (C * 2 ^ i) ct bl B := by
  obtain ⟨h1, h2, h3, h4, h5, h6, h7, h8, h9⟩ := h
  have e : (C * 2 ^ i + A * 2 ^ i) * 2 ^ ct = (C + A) * 2 ^ (ct + i) := by rw [← Nat.add_mul, mq_p1]
  refine ⟨?_, by omega, by omega, Nat.mul_pos h4 (Nat.two_pow_pos i), h5, h6, h7, ?_, ?_⟩
  · rw [mq_p1, mq_p1, h1]
  · rw [e]; exact h8
  · rw [e]; exact h9
theorem mq_t2h {N0 A0 s0 N A s bl : Nat} {B : Nat → Nat} (i : Nat) (h : mq_Hi N0 A0 s0 N A s bl B) : mq_Hi N0 A0 s0 (N * 2 ^ i) (A * 2 ^ i) (s + i) bl B := by
  obtain ⟨⟨e, h1, h2, h3⟩, h4⟩ := h
  refine ⟨⟨e + i, by omega, ?_, ?_⟩, h4⟩
  · rw [Nat.pow_add, ← Nat.mul_assoc]; exact Nat.mul_le_mul_right _ h2
  · rw [Nat.pow_add, ← Nat.mul_assoc, ← Nat.add_mul]; exact Nat.mul_le_mul_right _ h3
theorem mq_e0 {N A s C bl : Nat} {B : Nat → Nat} (h : mq_EP N A s C 0 bl B) : N = mq_mv B bl * 134217728 + C ∧ C + A ≤ 150994944 ∧ ((bl = 0 ∨ ∃ j, bl = j + 1 ∧ B j = 255 ∧ B bl = 143) → C + A ≤ 134217728) ∧ 1 ≤ A ∧ mq_ml B bl + 12 = s := by
  obtain ⟨h1, h2, h3, h4, h5, h6, h7, h8, h9⟩ := h
  rw [Nat.pow_zero, Nat.mul_one] at h1 h8 h9
  rw [Nat.mul_one] at h1
  exact ⟨h1, h8, h9, h4, h2⟩
theorem mq_cu {B : Nat → Nat} {bl c : Nat} : mq_mv (mq_up B (bl + 1) c) bl = mq_mv B bl ∧ mq_ml (mq_up B (bl + 1) c) bl = mq_ml B bl :=
  mq_cg bl (fun j hj => mq_un (by omega))
theorem mq_e7 {N A s C bl : Nat} {B : Nat → Nat} (h : mq_EP N A s C 0 bl B) (hA : A ≤ 65536) (hb : B bl = 255) : C / 1048576 ≤ 143 ∧ mq_EP N A s (C % 1048576) 7 (bl + 1) (mq_up B (bl + 1) (C / 1048576)) := by
  have ⟨g1, g2, g3, g4, g5⟩ := mq_e0 h
  obtain ⟨h1, h2, h3, h4, h5, h6, h7, h8, h9⟩ := h
  have hc : C / 1048576 ≤ 143 := by omega
  have k1 : mq_up B (bl + 1) (C / 1048576) bl = B bl := mq_un (by omega)
  have k2 : mq_up B (bl + 1) (C / 1048576) (bl + 1) = C / 1048576 := mq_us
  have ⟨s1, s2⟩ := mq_s7 (B := mq_up B (bl + 1) (C / 1048576)) (m := bl) (k1.trans hb) (by rw [k2]; exact hc)
  have ⟨u1, u2⟩ := mq_cu (B := B) (bl := bl) (c := C / 1048576)
  refine ⟨hc, ?_, ?_, by decide, h4, ?_, ?_, ?_, ?_, ?_⟩
  · rw [s1, u1, k2]; omega
  · rw [s2, u2]; omega
  · rw [mq_un (by omega)]; exact h5
  · intro j hj hx
    by_cases z : j = bl
    · rw [z, k2]; exact hc
    · rw [mq_un (by omega)] at hx ⊢; exact h6 j (by omega) hx
  · intro j hj
    by_cases z : j = bl + 1
    · rw [z, k2]; omega
    · rw [mq_un z]; exact h7 j (by omega)
  · omega
  · intro z
    rcases z with z | ⟨j, hj, z1, z2⟩
    · omega
    · rw [k2] at z2
      omega
theorem mq_e8 {N A s C bl : Nat} {B : Nat → Nat} (h : mq_EP N A s C 0 bl B) (hA : A ≤ 65536) (hb : B bl ≠ 255) (hC : C < 134217728) : C / 524288 ≤ 255 ∧ mq_EP N A s (C % 524288) 8 (bl + 1) (mq_up B (bl + 1) (C / 524288)) := by
  have ⟨g1, g2, g3, g4, g5⟩ := mq_e0 h
  obtain ⟨h1, h2, h3, h4, h5, h6, h7, h8, h9⟩ := h
  have hc : C / 524288 ≤ 255 := by omega
  have k1 : mq_up B (bl + 1) (C / 524288) bl = B bl := mq_un (by omega)
  have k2 : mq_up B (bl + 1) (C / 524288) (bl + 1) = C / 524288 := mq_us
  have ⟨s1, s2⟩ := mq_s8 (B := mq_up B (bl + 1) (C / 524288)) (m := bl) (by rw [k1]; exact hb)
  have ⟨u1, u2⟩ := mq_cu (B := B) (bl := bl) (c := C / 524288)
  refine ⟨hc, ?_, ?_, by decide, h4, ?_, ?_, ?_, ?_, ?_⟩
  · rw [s1, u1, k2]; omega
  · rw [s2, u2]; omega
  · rw [mq_un (by omega)]; exact h5
  · intro j hj hx
    by_cases z : j = bl
    · rw [z, k1] at hx; exact absurd hx hb
    · rw [mq_un (by omega)] at hx ⊢; exact h6 j (by omega) hx
  · intro j hj
    by_cases z : j = bl + 1
    · rw [z, k2]; omega
    · rw [mq_un z]; exact h7 j (by omega)
  · omega
  · intro z
    rcases z with z | ⟨j, hj, z1, z2⟩
    · omega
    · have : j = bl := by omega
      rw [this, k1] at z1
      exact absurd z1 hb
/-- the carry: the last byte grows by one -/
theorem mq_cv {B : Nat → Nat} {bl : Nat} (h0 : 0 < bl) (hn : ∀ j, bl = j + 1 → B j = 255 → B bl + 1 ≤ 143) : mq_mv (mq_up B bl (B bl + 1)) bl = mq_mv B bl + 1 ∧ mq_ml (mq_up B bl (B bl + 1)) bl = mq_ml B bl := by
  obtain ⟨j, rfl⟩ : ∃ j, bl = j + 1 := ⟨bl - 1, by omega⟩
  have ⟨u1, u2⟩ := mq_cu (B := B) (bl := j) (c := B (j + 1) + 1)
  have k1 : mq_up B (j + 1) (B (j + 1) + 1) j = B j := mq_un (by omega)
  have k2 : mq_up B (j + 1) (B (j + 1) + 1) (j + 1) = B (j + 1) + 1 := mq_us
  by_cases z : B j = 255
  · have hx := hn j rfl z
    have ⟨a1, a2⟩ := mq_s7 (B := mq_up B (j + 1) (B (j + 1) + 1)) (k1.trans z) (by rw [k2]; exact hx)
    have ⟨b1, b2⟩ := mq_s7 (B := B) z (by omega)
    rw [a1, a2, b1, b2, u1, u2, k2]
    exact ⟨by omega, rfl⟩
  · have ⟨a1, a2⟩ := mq_s8 (B := mq_up B (j + 1) (B (j + 1) + 1)) (m := j) (by rw [k1]; exact z)
    have ⟨b1, b2⟩ := mq_s8 (B := B) z
    rw [a1, a2, b1, b2, u1, u2, k2]
    exact ⟨by omega, rfl⟩
theorem mq_cn {N A s C bl : Nat} {B : Nat → Nat} (h : mq_EP N A s C 0 bl B) (hC : 134217728 ≤ C) : 0 < bl ∧ ∀ j, bl = j + 1 → B j = 255 → B bl + 1 ≤ 143 := by
  have ⟨g1, g2, g3, g4, g5⟩ := mq_e0 h
  obtain ⟨h1, h2, h3, h4, h5, h6, h7, h8, h9⟩ := h
  constructor
  · apply Nat.pos_of_ne_zero
    intro z
    have := g3 (Or.inl z)
    omega
  · intro j hj z
    have a := h6 j (by omega) z
    rw [← hj] at a
    apply Nat.lt_of_le_of_ne a
    intro z2
    have := g3 (Or.inr ⟨j, hj, z, z2⟩)
    omega
theorem mq_ar {N m C : Nat} (h : N = m * 134217728 + C) (hC : 134217728 ≤ C) : N = (m + 1) * 134217728 + (C - 134217728) := by
  rw [h, Nat.add_mul, Nat.one_mul, Nat.add_assoc, Nat.add_sub_cancel' hC]
theorem mq_cy {N A s C bl : Nat} {B : Nat → Nat} (h : mq_EP N A s C 0 bl B) (hb : B bl ≠ 255) (hC : 134217728 ≤ C) : mq_EP N A s (C - 134217728) 0 bl (mq_up B bl (B bl + 1)) := by
  have ⟨g1, g2, g3, g4, g5⟩ := mq_e0 h
  have ⟨n1, n2⟩ := mq_cn h hC
  have ⟨c1, c2⟩ := mq_cv n1 n2
  obtain ⟨h1, h2, h3, h4, h5, h6, h7, h8, h9⟩ := h
  have k2 : mq_up B bl (B bl + 1) bl = B bl + 1 := mq_us
  have e : (C - 134217728 + A) * 2 ^ 0 ≤ 134217728 := by omega
  refine ⟨?_, ?_, by decide, h4, ?_, ?_, ?_, Nat.le_trans e (by decide), fun _ => e⟩
  · rw [Nat.pow_zero, Nat.mul_one, Nat.mul_one, c1]; exact mq_ar g1 hC
  · rw [c2]; omega
  · rw [mq_un (by omega)]; exact h5
  · intro j hj hx
    rw [mq_un (by omega)] at hx
    by_cases z : j + 1 = bl
    · rw [z, k2]; exact n2 j z.symm hx
    · rw [mq_un z]; exact h6 j hj hx
  · intro j hj
    by_cases z : j = bl
    · rw [z, k2]; have := h7 bl (Nat.le_refl _); omega
    · rw [mq_un z]; exact h7 j hj
theorem mq_e7h {N0 A0 s0 N A a s C bl : Nat} {B : Nat → Nat} (h : mq_EP N a s C 0 bl B) (ha : a ≤ 65536) (hb : B bl = 255) (g : mq_Hi N0 A0 s0 N A s bl B) : mq_Hi N0 A0 s0 N A s (bl + 1) (mq_up B (bl + 1) (C / 1048576)) := by
  have ⟨g1, g2, g3, g4, g5⟩ := mq_e0 h
  have hc := (mq_e7 h ha hb).1
  obtain ⟨⟨f, k1, k2, k3⟩, k4⟩ := g
  refine ⟨⟨f, k1, k2, k3⟩, fun j hj e he => ?_⟩
  by_cases z : j = bl + 1
  · subst z
    have q1 : mq_up B (bl + 1) (C / 1048576) bl = B bl := mq_un (by omega)
    have q2 : mq_up B (bl + 1) (C / 1048576) (bl + 1) = C / 1048576 := mq_us
    have ⟨s1, s2⟩ := mq_s7 (B := mq_up B (bl + 1) (C / 1048576)) (m := bl) (q1.trans hb) (by rw [q2]; exact hc)
    have ⟨u1, u2⟩ := mq_cu (B := B) (bl := bl) (c := C / 1048576)
    rw [s2, u2] at he
    rw [s1, u1, q2]
    have ef : f = e + 20 := by omega
    rw [ef, Nat.pow_add, ← Nat.mul_assoc] at k2
    omega
  · have ⟨c1, c2⟩ := mq_cg (B := mq_up B (bl + 1) (C / 1048576)) (B' := B) j (fun i hi => mq_un (by omega))
    rw [c2] at he
    rw [c1]
    exact k4 j (by omega) e he
theorem mq_e8h {N0 A0 s0 N A a s C bl : Nat} {B : Nat → Nat} (h : mq_EP N a s C 0 bl B) (hb : B bl ≠ 255) (g : mq_Hi N0 A0 s0 N A s bl B) : mq_Hi N0 A0 s0 N A s (bl + 1) (mq_up B (bl + 1) (C / 524288)) := by
  have ⟨g1, g2, g3, g4, g5⟩ := mq_e0 h
  obtain ⟨⟨f, k1, k2, k3⟩, k4⟩ := g
  refine ⟨⟨f, k1, k2, k3⟩, fun j hj e he => ?_⟩
  by_cases z : j = bl + 1
  · subst z
    have q1 : mq_up B (bl + 1) (C / 524288) bl = B bl := mq_un (by omega)
    have q2 : mq_up B (bl + 1) (C / 524288) (bl + 1) = C / 524288 := mq_us
    have ⟨s1, s2⟩ := mq_s8 (B := mq_up B (bl + 1) (C / 524288)) (m := bl) (by rw [q1]; exact hb)
    have ⟨u1, u2⟩ := mq_cu (B := B) (bl := bl) (c := C / 524288)
    rw [s2, u2] at he
    rw [s1, u1, q2]
    have ef : f = e + 19 := by omega
    rw [ef, Nat.pow_add, ← Nat.mul_assoc] at k2
    omega
  · have ⟨c1, c2⟩ := mq_cg (B := mq_up B (bl + 1) (C / 524288)) (B' := B) j (fun i hi => mq_un (by omega))
    rw [c2] at he
    rw [c1]
    exact k4 j (by omega) e he
theorem mq_cyh {N0 A0 s0 N A a s C bl : Nat} {B : Nat → Nat} (h : mq_EP N a s C 0 bl B) (hC : 134217728 ≤ C) (g : mq_Hi N0 A0 s0 N A s bl B) : mq_Hi N0 A0 s0 N A s bl (mq_up B bl (B bl + 1)) := by
  have ⟨n1, n2⟩ := mq_cn h hC
  have ⟨c1, c2⟩ := mq_cv n1 n2
  refine ⟨g.1, fun j hj e he => ?_⟩
  by_cases z : j = bl
  · subst z
    rw [c2] at he
    rw [c1]
    exact Nat.le_succ_of_le (g.2 j hj e he)
  · have ⟨c1, c2⟩ := mq_cg (B := mq_up B bl (B bl + 1)) (B' := B) j (fun i hi => mq_un (by omega))
    rw [c2] at he
    rw [c1]
    exact g.2 j hj e he
/-- the finished stream: ones behind the last byte -/
def mq_inf (B : Nat → Nat) (n : Nat) : Nat → Nat := fun j => if j ≤ n then B j else 255
theorem mq_tail (B : Nat → Nat) (n : Nat) : ∀ i, mq_mv (mq_inf B n) (n + i) + 1 = (mq_mv B n + 1) * 2 ^ (8 * i) ∧ mq_ml (mq_inf B n) (n + i) = mq_ml B n + 8 * i := by
  intro i
  induction i with
  | zero =>
    have ⟨c1, c2⟩ := mq_cg (B := mq_inf B n) (B' := B) n (fun j hj => if_pos hj)
    refine ⟨?_, c2⟩
    show mq_mv (mq_inf B n) n + 1 = (mq_mv B n + 1) * 1
    rw [c1, Nat.mul_one]
  | succ i ih =>
    have ⟨i1, i2⟩ := ih
    have h1 : mq_inf B n (n + i + 1) = 255 := if_neg (by omega)
    have e : (mq_mv B n + 1) * 2 ^ (8 * (i + 1)) = (mq_mv B n + 1) * 2 ^ (8 * i) * 256 := by
      rw [Nat.mul_add, Nat.mul_one, Nat.pow_add, Nat.mul_assoc]
    rw [← Nat.add_assoc, e, ← i1]
    by_cases z : mq_inf B n (n + i) = 255
    · have ⟨a, b⟩ := mq_s9 z (by rw [h1]; decide)
      rw [a, b]
      exact ⟨by omega, by omega⟩
    · have ⟨a, b⟩ := mq_s8 z
      rw [a, b, h1]
      exact ⟨by omega, by omega⟩
theorem mq_good {N0 A0 s0 Nf sf C2 n y x Z : Nat} {B : Nat → Nat} (hN : Nf = mq_mv B n * 2 ^ y + C2) (hC : C2 < 2 ^ y) (hL : mq_ml B n + y = sf + 15) (hZ : Nf + 2 ^ x = Z * 2 ^ (15 + x)) (hy : y ≤ 15 + x) (hH : mq_Hi N0 A0 s0 Nf (2 ^ x) sf n B) : ∀ m e, mq_ml (mq_inf B n) m = s0 + 15 + e → N0 * 2 ^ e ≤ mq_mv (mq_inf B n) m ∧ mq_mv (mq_inf B n) m < (N0 + A0) * 2 ^ e := by
  obtain ⟨⟨f, hs, hl, hu⟩, hj⟩ := hH
  have py := Nat.two_pow_pos y
  have px := Nat.two_pow_pos x
  have hW : (mq_mv B n + 1) * 2 ^ y ≤ (N0 + A0) * 2 ^ f := by
    refine Nat.le_trans ?_ hu
    have e1 : Z * 2 ^ (15 + x) = (Z * 2 ^ (15 + x - y)) * 2 ^ y := by
      rw [Nat.mul_assoc, ← Nat.pow_add, Nat.sub_add_cancel hy]
    have l1 : mq_mv B n * 2 ^ y < (Z * 2 ^ (15 + x - y)) * 2 ^ y := by
      rw [← e1, ← hZ, hN]; omega
    rw [hZ, e1]
    exact Nat.mul_le_mul_right _ (Nat.lt_of_mul_lt_mul_right l1)
  intro m e he
  by_cases hm : m ≤ n
  · have ⟨c1, c2⟩ := mq_cg (B := mq_inf B n) (B' := B) m (fun j hj => if_pos (by omega))
    rw [c2] at he
    rw [c1]
    refine ⟨hj m hm e he, ?_⟩
    obtain ⟨i, rfl⟩ := Nat.exists_eq_add_of_le hm
    obtain ⟨d, h1, h2⟩ := mq_mono B m i
    have ef : e + (d + y) = f := by omega
    apply Nat.lt_of_mul_lt_mul_right (a := 2 ^ (d + y))
    rw [Nat.mul_assoc (N0 + A0), ← Nat.pow_add, ef]
    have q1 : mq_mv B m * 2 ^ (d + y) ≤ mq_mv B (m + i) * 2 ^ y := by
      rw [Nat.pow_add, ← Nat.mul_assoc]; exact Nat.mul_le_mul_right _ h2
    rw [Nat.add_mul, Nat.one_mul] at hW
    omega
  · obtain ⟨i, rfl⟩ : ∃ i, m = n + i := ⟨m - n, by omega⟩
    have ⟨h1, h2⟩ := mq_tail B n i
    have ef : e + y = f + 8 * i := by omega
    have pi := Nat.two_pow_pos (8 * i)
    constructor
    · have l : N0 * 2 ^ e * 2 ^ y < (mq_mv (mq_inf B n) (n + i) + 1) * 2 ^ y := by
        rw [h1, Nat.mul_assoc, ← Nat.pow_add, ef, Nat.pow_add, ← Nat.mul_assoc]
        have a1 : N0 * 2 ^ f * 2 ^ (8 * i) ≤ Nf * 2 ^ (8 * i) := Nat.mul_le_mul_right _ hl
        have a2 : Nf * 2 ^ (8 * i) < ((mq_mv B n + 1) * 2 ^ y) * 2 ^ (8 * i) :=
          Nat.mul_lt_mul_of_pos_right (by rw [hN, Nat.add_mul, Nat.one_mul]; omega) pi
        have a3 : (mq_mv B n + 1) * 2 ^ y * 2 ^ (8 * i) = (mq_mv B n + 1) * 2 ^ (8 * i) * 2 ^ y := by
          rw [Nat.mul_assoc, Nat.mul_assoc, Nat.mul_comm (2 ^ y)]
        rw [← a3]
        exact Nat.lt_of_le_of_lt a1 a2
      have := Nat.lt_of_mul_lt_mul_right l
      omega
    · have l : (mq_mv (mq_inf B n) (n + i) + 1) * 2 ^ y ≤ (N0 + A0) * 2 ^ e * 2 ^ y := by
        rw [h1, Nat.mul_assoc (N0 + A0), ← Nat.pow_add, ef, Nat.pow_add, ← Nat.mul_assoc (N0 + A0)]
        have a3 : (mq_mv B n + 1) * 2 ^ (8 * i) * 2 ^ y = (mq_mv B n + 1) * 2 ^ y * 2 ^ (8 * i) := by
          rw [Nat.mul_assoc, Nat.mul_assoc, Nat.mul_comm (2 ^ y)]
        rw [a3]
        exact Nat.mul_le_mul_right _ hW
      have := Nat.le_of_mul_le_mul_right l py
      omega
end
section
/-! the ideal coder: tables, one decision, one image, by naturals alone -/
def mq_Ql : List Nat := [22017, 13313, 6145, 2753, 1313, 545, 22017, 21505, 18433, 14337, 12289, 9217, 7169, 5633, 22017, 21505, 20737, 18433, 14337, 13313, 12289, 10241, 9217, 8705, 7169, 6145, 5633, 5121, 4609, 4353, 2753, 2497, 2209, 1313, 1089, 673, 545, 321, 273, 133, 73, 37, 21, 9, 5, 1]
def mq_Ml : List Nat := [1, 2, 3, 4, 5, 38, 7, 8, 9, 10, 11, 12, 13, 29, 15, 16, 17, 18, 19, 20, 21, 22, 23, 24, 25, 26, 27, 28, 29, 30, 31, 32, 33, 34, 35, 36, 37, 38, 39, 40, 41, 42, 43, 44, 45, 45]
def mq_Ll : List Nat := [1, 6, 9, 12, 29, 33, 6, 14, 14, 14, 17, 18, 20, 21, 14, 14, 15, 16, 17, 18, 19, 19, 20, 21, 22, 23, 24, 25, 26, 27, 28, 29, 30, 31, 32, 33, 34, 35, 36, 37, 38, 39, 40, 41, 42, 43]
def mq_Q (i : Nat) : Nat := mq_Ql.getD i 0
def mq_NM (i : Nat) : Nat := mq_Ml.getD i 0
def mq_NL (i : Nat) : Nat := mq_Ll.getD i 0
theorem mq_tb : ∀ i, i < 46 → 1 ≤ mq_Q i ∧ mq_Q i < 32768 ∧ mq_NM i < 46 ∧ mq_NL i < 46 := by decide +kernel
def mq_rn : Nat → Nat → Nat → Nat → Nat × Nat × Nat
  | 0, N, A, s => (N, A, s)
  | f + 1, N, A, s => if 32768 ≤ A then (N, A, s) else mq_rn f (N * 2) (A * 2) (s + 1)
theorem mq_rnf : ∀ f N A s, 1 ≤ A → A < 65536 → 32768 ≤ A * 2 ^ f → 32768 ≤ (mq_rn f N A s).2.1 ∧ (mq_rn f N A s).2.1 < 65536 ∧ (mq_rn f N A s).2.2 ≤ s + f := by
  intro f
  induction f with
  | zero =>
    intro N A s h1 h2 h3
    rw [Nat.pow_zero, Nat.mul_one] at h3
    exact ⟨h3, h2, Nat.le_refl _⟩
  | succ f ih =>
    intro N A s h1 h2 h3
    by_cases h : 32768 ≤ A
    · rw [mq_rn, if_pos h]
      exact ⟨h, h2, Nat.le_add_right _ _⟩
    · rw [mq_rn, if_neg h]
      rw [Nat.pow_succ, Nat.mul_comm (2 ^ f) 2, ← Nat.mul_assoc] at h3
      have ⟨a, b, c⟩ := ih (N * 2) (A * 2) (s + 1) (by omega) (by omega) h3
      exact ⟨a, b, by omega⟩
/-- low end, width, doublings, states, preferred symbols -/
abbrev mq_S : Type := Nat × Nat × Nat × (Nat → Nat) × (Nat → Nat)
def mq_pre (σ : mq_S) (k d : Nat) : Nat × Nat :=
  if d = σ.2.2.2.2 k then
    (if σ.2.1 - mq_Q (σ.2.2.2.1 k) < mq_Q (σ.2.2.2.1 k) then (σ.1, mq_Q (σ.2.2.2.1 k)) else (σ.1 + mq_Q (σ.2.2.2.1 k), σ.2.1 - mq_Q (σ.2.2.2.1 k)))
  else
    (if σ.2.1 - mq_Q (σ.2.2.2.1 k) < mq_Q (σ.2.2.2.1 k) then (σ.1 + mq_Q (σ.2.2.2.1 k), σ.2.1 - mq_Q (σ.2.2.2.1 k)) else (σ.1, mq_Q (σ.2.2.2.1 k)))
def mq_am (st : Nat → Nat) (k : Nat) : Nat → Nat := mq_up st k (mq_NM (st k))
def mq_al (st : Nat → Nat) (k : Nat) : Nat → Nat := mq_up st k (mq_NL (st k))
def mq_sw (st mp : Nat → Nat) (k : Nat) : Nat → Nat := if st k = 0 ∨ st k = 6 ∨ st k = 14 then mq_up mp k (1 - mp k) else mp
def mq_fin (t : Nat × Nat × Nat) (st mp : Nat → Nat) : mq_S := (t.1, t.2.1, t.2.2, st, mp)
def mq_step (σ : mq_S) (k d : Nat) : mq_S :=
  if d = σ.2.2.2.2 k then
    (if 32768 ≤ σ.2.1 - mq_Q (σ.2.2.2.1 k) then (σ.1 + mq_Q (σ.2.2.2.1 k), σ.2.1 - mq_Q (σ.2.2.2.1 k), σ.2.2.1, σ.2.2.2.1, σ.2.2.2.2)
    else mq_fin (mq_rn 16 (mq_pre σ k d).1 (mq_pre σ k d).2 σ.2.2.1) (mq_am σ.2.2.2.1 k) σ.2.2.2.2)
  else mq_fin (mq_rn 16 (mq_pre σ k d).1 (mq_pre σ k d).2 σ.2.2.1) (mq_al σ.2.2.2.1 k) (mq_sw σ.2.2.2.1 σ.2.2.2.2 k)
def mq_wf (σ : mq_S) : Prop := 32768 ≤ σ.2.1 ∧ σ.2.1 < 65536 ∧ (∀ j, σ.2.2.2.1 j < 46) ∧ ∀ j, σ.2.2.2.2 j < 2
theorem mq_upl {f : Nat → Nat} {k v b : Nat} (h : ∀ j, f j < b) (hv : v < b) : ∀ j, mq_up f k v j < b := by
  intro j
  by_cases z : j = k
  · rw [z, mq_us]; exact hv
  · rw [mq_un z]; exact h j
theorem mq_swl {st mp : Nat → Nat} {k : Nat} (h : ∀ j, mp j < 2) : ∀ j, mq_sw st mp k j < 2 := by
  intro j
  unfold mq_sw
  by_cases z : st k = 0 ∨ st k = 6 ∨ st k = 14
  · rw [if_pos z]; exact mq_upl h (by omega) j
  · rw [if_neg z]; exact h j
/-- either half of the interval: its place -/
theorem mq_pref (σ : mq_S) (k d : Nat) (h : mq_wf σ) : ∃ δ, (mq_pre σ k d).1 = σ.1 + δ ∧ δ + (mq_pre σ k d).2 ≤ σ.2.1 ∧ 1 ≤ (mq_pre σ k d).2 ∧ (mq_pre σ k d).2 < 65536 := by
  obtain ⟨h1, h2, h3, h4⟩ := h
  have ⟨q1, q2, _⟩ := mq_tb _ (h3 k)
  unfold mq_pre
  by_cases a : d = σ.2.2.2.2 k
  · rw [if_pos a]
    by_cases b : σ.2.1 - mq_Q (σ.2.2.2.1 k) < mq_Q (σ.2.2.2.1 k)
    · rw [if_pos b]; exact ⟨0, rfl, by dsimp only; omega, q1, by dsimp only; omega⟩
    · rw [if_neg b]; exact ⟨mq_Q (σ.2.2.2.1 k), rfl, by dsimp only; omega, by dsimp only; omega, by dsimp only; omega⟩
  · rw [if_neg a]
    by_cases b : σ.2.1 - mq_Q (σ.2.2.2.1 k) < mq_Q (σ.2.2.2.1 k)
    · rw [if_pos b]; exact ⟨mq_Q (σ.2.2.2.1 k), rfl, by dsimp only; omega, by dsimp only; omega, by dsimp only; omega⟩
    · rw [if_neg b]; exact ⟨0, rfl, by dsimp only; omega, q1, by dsimp only; omega⟩
theorem mq_stw (σ : mq_S) (k d : Nat) (h : mq_wf σ) : mq_wf (mq_step σ k d) ∧ (mq_step σ k d).2.2.1 ≤ σ.2.2.1 + 16 := by
  obtain ⟨δ, p1, p2, p3, p4⟩ := mq_pref σ k d h
  have ⟨r1, r2, r3⟩ := mq_rnf 16 (mq_pre σ k d).1 (mq_pre σ k d).2 σ.2.2.1 p3 p4 (by omega)
  obtain ⟨h1, h2, h3, h4⟩ := h
  have ⟨q1, q2, q3, q4⟩ := mq_tb _ (h3 k)
  unfold mq_step
  by_cases a : d = σ.2.2.2.2 k
  · rw [if_pos a]
    by_cases b : 32768 ≤ σ.2.1 - mq_Q (σ.2.2.2.1 k)
    · rw [if_pos b]
      exact ⟨⟨b, by dsimp only; omega, h3, h4⟩, Nat.le_add_right _ _⟩
    · rw [if_neg b]
      exact ⟨⟨r1, r2, mq_upl h3 q3, h4⟩, r3⟩
  · rw [if_neg a]
    exact ⟨⟨r1, r2, mq_upl h3 q4, mq_swl h4⟩, r3⟩
/-- pixels, contexts, typical rows -/
def im_px (w : Nat) (R : Nat → Nat) (u v : Int) : Nat := if 0 ≤ u ∧ u < w ∧ 0 ≤ v ∧ v < 8 then R v.toNat / 2 ^ u.toNat % 2 else 0
def im_cx (w : Nat) (R : Nat → Nat) (ax ay : Int) (x y : Nat) : Nat :=
  512 * im_px w R ((x : Int) - 1) ((y : Int) - 2) + 256 * im_px w R x ((y : Int) - 2) + 128 * im_px w R ((x : Int) + 1) ((y : Int) - 2)
  + 64 * im_px w R ((x : Int) - 2) ((y : Int) - 1) + 32 * im_px w R ((x : Int) - 1) ((y : Int) - 1) + 16 * im_px w R x ((y : Int) - 1) + 8 * im_px w R ((x : Int) + 1) ((y : Int) - 1)
  + 4 * im_px w R ((x : Int) + ax) ((y : Int) + ay) + 2 * im_px w R ((x : Int) - 2) y + im_px w R ((x : Int) - 1) y
theorem im_px2 (w : Nat) (R : Nat → Nat) (u v : Int) : im_px w R u v < 2 := by
  unfold im_px
  by_cases h : 0 ≤ u ∧ u < w ∧ 0 ≤ v ∧ v < 8
  · rw [if_pos h]; exact Nat.mod_lt _ (by decide)
  · rw [if_neg h]; decide
theorem im_cxl (w : Nat) (R : Nat → Nat) (ax ay : Int) (x y : Nat) : im_cx w R ax ay x y < 1024 := by
  unfold im_cx
  have a1 := im_px2 w R ((x : Int) - 1) ((y : Int) - 2)
  have a2 := im_px2 w R x ((y : Int) - 2)
  have a3 := im_px2 w R ((x : Int) + 1) ((y : Int) - 2)
  have a4 := im_px2 w R ((x : Int) - 2) ((y : Int) - 1)
  have a5 := im_px2 w R ((x : Int) - 1) ((y : Int) - 1)
  have a6 := im_px2 w R x ((y : Int) - 1)
  have a7 := im_px2 w R ((x : Int) + 1) ((y : Int) - 1)
  have a8 := im_px2 w R ((x : Int) + ax) ((y : Int) + ay)
  have a9 := im_px2 w R ((x : Int) - 2) y
  have a10 := im_px2 w R ((x : Int) - 1) y
  omega
def im_ab (R : Nat → Nat) : Nat → Nat
  | 0 => 0
  | y + 1 => R y
def im_ty (R : Nat → Nat) (y : Nat) : Nat := if R y = im_ab R y then 1 else 0
def im_bf (R : Nat → Nat) : Nat → Nat
  | 0 => 0
  | y + 1 => im_ty R y
def im_fl (R : Nat → Nat) (y : Nat) : Nat := if im_ty R y = im_bf R y then 0 else 1
theorem im_ty2 (R : Nat → Nat) (y : Nat) : im_ty R y = 0 ∨ im_ty R y = 1 := by
  unfold im_ty
  by_cases h : R y = im_ab R y
  · rw [if_pos h]; exact Or.inr rfl
  · rw [if_neg h]; exact Or.inl rfl
theorem im_bf2 (R : Nat → Nat) (y : Nat) : im_bf R y = 0 ∨ im_bf R y = 1 := by
  cases y with
  | zero => exact Or.inl rfl
  | succ y => exact im_ty2 R y
theorem im_fl2 (R : Nat → Nat) (y : Nat) : im_fl R y < 2 := by
  unfold im_fl
  by_cases h : im_ty R y = im_bf R y
  · rw [if_pos h]; decide
  · rw [if_neg h]; decide
def im_run (w : Nat) (R : Nat → Nat) (ax ay : Int) (y : Nat) (σ : mq_S) : Nat → mq_S
  | 0 => σ
  | x + 1 => mq_step (im_run w R ax ay y σ x) (im_cx w R ax ay x y) (im_px w R x y)
def im_row (w : Nat) (R : Nat → Nat) (ax ay : Int) (y : Nat) (σ : mq_S) : mq_S :=
  if im_ty R y = 1 then mq_step σ 229 (im_fl R y) else im_run w R ax ay y (mq_step σ 229 (im_fl R y)) w
def mq_0 : mq_S := (0, 32768, 0, fun _ => 0, fun _ => 0)
def im_img (w : Nat) (R : Nat → Nat) (ax ay : Int) : Nat → mq_S
  | 0 => mq_0
  | y + 1 => im_row w R ax ay y (im_img w R ax ay y)
theorem mq_0w : mq_wf mq_0 := ⟨by decide, by decide, fun _ => (by decide : 0 < 46), fun _ => (by decide : 0 < 2)⟩
theorem im_runw (w : Nat) (R : Nat → Nat) (ax ay : Int) (y : Nat) (σ : mq_S) (h : mq_wf σ) : ∀ x, mq_wf (im_run w R ax ay y σ x) ∧ (im_run w R ax ay y σ x).2.2.1 ≤ σ.2.2.1 + 16 * x := by
  intro x
  induction x with
  | zero => exact ⟨h, Nat.le_refl _⟩
  | succ x ih =>
    have ⟨a, b⟩ := mq_stw _ (im_cx w R ax ay x y) (im_px w R x y) ih.1
    exact ⟨a, Nat.le_trans b (by omega)⟩
theorem im_roww {w : Nat} (hw : w ≤ 16) (R : Nat → Nat) (ax ay : Int) (y : Nat) (σ : mq_S) (h : mq_wf σ) : mq_wf (im_row w R ax ay y σ) ∧ (im_row w R ax ay y σ).2.2.1 ≤ σ.2.2.1 + 272 := by
  have ⟨a, b⟩ := mq_stw σ 229 (im_fl R y) h
  have ⟨c, d⟩ := im_runw w R ax ay y _ a w
  unfold im_row
  by_cases z : im_ty R y = 1
  · rw [if_pos z]; exact ⟨a, by omega⟩
  · rw [if_neg z]; exact ⟨c, by omega⟩
theorem im_imgw {w : Nat} (hw : w ≤ 16) (R : Nat → Nat) (ax ay : Int) : ∀ y, mq_wf (im_img w R ax ay y) ∧ (im_img w R ax ay y).2.2.1 ≤ 272 * y := by
  intro y
  induction y with
  | zero => exact ⟨mq_0w, Nat.le_refl _⟩
  | succ y ih =>
    have ⟨a, b⟩ := im_roww hw R ax ay y _ ih.1
    exact ⟨a, Nat.le_trans b (by omega)⟩
/-- the interval that a decision leaves, before it is doubled -/
def mq_At (σ : mq_S) (k d N0 A0 s0 : Nat) : Prop := (mq_pre σ k d).1 = N0 ∧ (mq_pre σ k d).2 = A0 ∧ σ.2.2.1 = s0
def im_Hr (w : Nat) (R : Nat → Nat) (ax ay : Int) (y : Nat) (σ : mq_S) (n : Nat) (N0 A0 s0 : Nat) : Prop := ∃ x, x < n ∧ mq_At (im_run w R ax ay y σ x) (im_cx w R ax ay x y) (im_px w R x y) N0 A0 s0
/-- all intervals of an image of cy rows -/
def im_H (w : Nat) (R : Nat → Nat) (ax ay : Int) (cy N0 A0 s0 : Nat) : Prop := ∃ y, y < cy ∧ (mq_At (im_img w R ax ay y) 229 (im_fl R y) N0 A0 s0 ∨ (im_ty R y = 0 ∧ im_Hr w R ax ay y (mq_step (im_img w R ax ay y) 229 (im_fl R y)) w N0 A0 s0))
/-- a finished stream that lies in every interval of the image -/
def im_G (w : Nat) (R : Nat → Nat) (ax ay : Int) (cy : Nat) (B : Nat → Nat) : Prop := ∀ N0 A0 s0, im_H w R ax ay cy N0 A0 s0 → ∀ m e, mq_ml B m = s0 + 15 + e → N0 * 2 ^ e ≤ mq_mv B m ∧ mq_mv B m < (N0 + A0) * 2 ^ e
/-- what depends on which rows -/
theorem im_pxc (w : Nat) {R R' : Nat → Nat} {u v : Int} (h : ∀ i : Nat, (i : Int) = v → R i = R' i) : im_px w R u v = im_px w R' u v := by
  unfold im_px
  by_cases z : 0 ≤ u ∧ u < w ∧ 0 ≤ v ∧ v < 8
  · rw [if_pos z, if_pos z, h v.toNat (Int.toNat_of_nonneg z.2.2.1)]
  · rw [if_neg z, if_neg z]
theorem im_cxc (w : Nat) {R R' : Nat → Nat} {ax ay : Int} (hay : ay ≤ 0) {x y : Nat} (h : ∀ i, i ≤ y → R i = R' i) : im_cx w R ax ay x y = im_cx w R' ax ay x y := by
  have g : ∀ (u v : Int), v ≤ y → im_px w R u v = im_px w R' u v := fun u v hv => im_pxc w (fun i hi => h i (by omega))
  unfold im_cx
  rw [g _ ((y : Int) - 2) (by omega), g _ ((y : Int) - 2) (by omega), g _ ((y : Int) - 2) (by omega), g _ ((y : Int) - 1) (by omega), g _ ((y : Int) - 1) (by omega), g _ ((y : Int) - 1) (by omega), g _ ((y : Int) - 1) (by omega), g _ ((y : Int) + ay) (by omega), g _ (y : Int) (by omega), g _ (y : Int) (by omega)]
theorem im_abc {R R' : Nat → Nat} {y : Nat} (h : ∀ i, i ≤ y → R i = R' i) : im_ab R y = im_ab R' y := by
  cases y with
  | zero => rfl
  | succ y => exact h y (by omega)
theorem im_tyc {R R' : Nat → Nat} {y : Nat} (h : ∀ i, i ≤ y → R i = R' i) : im_ty R y = im_ty R' y := by
  unfold im_ty
  rw [h y (Nat.le_refl _), im_abc h]
theorem im_bfc {R R' : Nat → Nat} {y : Nat} (h : ∀ i, i < y → R i = R' i) : im_bf R y = im_bf R' y := by
  cases y with
  | zero => rfl
  | succ y => exact im_tyc (fun i hi => h i (by omega))
theorem im_flc {R R' : Nat → Nat} {y : Nat} (h : ∀ i, i ≤ y → R i = R' i) : im_fl R y = im_fl R' y := by
  unfold im_fl
  rw [im_tyc h, im_bfc (fun i hi => h i (by omega))]
theorem im_runc (w : Nat) {R R' : Nat → Nat} {ax ay : Int} (hay : ay ≤ 0) {y : Nat} (h : ∀ i, i ≤ y → R i = R' i) (σ : mq_S) : ∀ x, im_run w R ax ay y σ x = im_run w R' ax ay y σ x := by
  intro x
  induction x with
  | zero => rfl
  | succ x ih => rw [im_run, im_run, ih, im_cxc w hay h, im_pxc w (R := R) (R' := R') (fun i hi => h i (by omega))]
theorem im_rowc (w : Nat) {R R' : Nat → Nat} {ax ay : Int} (hay : ay ≤ 0) {y : Nat} (h : ∀ i, i ≤ y → R i = R' i) (σ : mq_S) : im_row w R ax ay y σ = im_row w R' ax ay y σ := by
  unfold im_row
  rw [im_tyc h, im_flc h, im_runc w hay h]
theorem im_imgc (w : Nat) {R R' : Nat → Nat} {ax ay : Int} (hay : ay ≤ 0) : ∀ y, (∀ i, i < y → R i = R' i) → im_img w R ax ay y = im_img w R' ax ay y := by
  intro y
  induction y with
  | zero => intro _; rfl
  | succ y ih =>
    intro h
    rw [im_img, im_img, ih (fun i hi => h i (by omega)), im_rowc w hay (fun i hi => h i (by omega))]
theorem im_Hc (w : Nat) {R R' : Nat → Nat} {ax ay : Int} (hay : ay ≤ 0) {cy N0 A0 s0 : Nat} (h : ∀ i, i < cy → R i = R' i) (k : im_H w R ax ay cy N0 A0 s0) : im_H w R' ax ay cy N0 A0 s0 := by
  obtain ⟨y, hy, k⟩ := k
  have hl : ∀ i, i ≤ y → R i = R' i := fun i hi => h i (by omega)
  refine ⟨y, hy, ?_⟩
  rw [← im_imgc w hay y (fun i hi => h i (by omega)), ← im_flc hl, ← im_tyc hl]
  rcases k with k | ⟨k1, x, hx, k2⟩
  · exact Or.inl k
  · refine Or.inr ⟨k1, x, hx, ?_⟩
    rw [← im_runc w hay hl, ← im_cxc w hay hl, ← im_pxc w (R := R) (R' := R') (fun i hi => h i (by omega))]
    exact k2
theorem im_Gc (w : Nat) {R R' : Nat → Nat} {ax ay : Int} (hay : ay ≤ 0) {cy : Nat} {B : Nat → Nat} (h : ∀ i, i < cy → R i = R' i) (k : im_G w R ax ay cy B) : im_G w R' ax ay cy B :=
  fun N0 A0 s0 z => k N0 A0 s0 (im_Hc w hay (fun i hi => (h i hi).symm) z)
end
section
/-! links between arrays and naturals; bytes; the encoder's registers -/
theorem xb_by {c : Nat} (h : c ≤ 255) : vp_nar .byte (nI c).toInt8.toInt32 &&& 255 = nI c := by
  rw [pk_vb, bp_b, pk_andN (by omega) 8 (by decide)]
  exact congrArg nI (by omega)
theorem xb_by2 {x : Int32} : vp_nar .byte x.toInt8.toInt32 &&& 255 = x &&& 255 := by
  rw [pk_vb, bp_b]
theorem xb_by3 {x : Int32} : vp_nar .byte x &&& 255 = x &&& 255 := by
  rw [vp_nar_byte, bp_b]
theorem xb_sh {C sh p : Nat} (hp : 2 ^ sh = p) (hs : sh < 31) (hC : C < 2147483648) : nI C >>> (nI sh &&& 31) = nI (C / p) ∧ nI C &&& (((1 : Int32) <<< (nI sh &&& 31)) - 1) = nI (C % p) := by
  subst hp
  have e : ((1 : Int32) <<< (nI sh &&& 31)) = nI (2 ^ sh) := by
    have := pk_shlN (n := 1) (nI sh &&& 31) sh (s_l sh (by omega)) (by rw [Nat.one_mul]; exact Nat.pow_lt_pow_right (by decide) (by omega))
    rw [Nat.one_mul] at this
    exact this
  have hl : 2 ^ sh < 2 ^ 31 := Nat.pow_lt_pow_right (by decide) hs
  have hp := Nat.two_pow_pos sh
  constructor
  · exact pk_shrN (by omega) _ sh (s_l sh (by omega))
  · rw [e, show nI (2 ^ sh) - 1 = nI (2 ^ sh - 1) from pk_sub (b := 1) hp]
    exact pk_andN (by omega) sh (pk_tn (by omega))
theorem xb_dbl {n : Nat} (h : n < 1073741824) : nI n <<< ((1 : Int32) &&& 31) = nI (n * 2) := pk_shlN _ 1 (by decide) (by omega)
def xl_ln (a : Nat → Int32) (o : Nat) (R : Nat → Nat) : Prop := ∀ v, v < 8 → a (o + v) = nI (R v)
def xl_st (a b : Nat → Int32) (o : Nat) (st mp : Nat → Nat) : Prop := ∀ k, k < 1024 → a (o + k) = nI (st k) ∧ b (o + k) = nI (mp k)
def xl_tb (a b c : Nat → Int32) : Prop := ∀ i, i < 46 → a i = nI (mq_Q i) ∧ b i = nI (mq_NM i) ∧ c i = nI (mq_NL i)
def xl_fr (o : Nat) (a a' : Nat → Int32) : Prop := ∀ j, (j < o ∨ o + 1024 ≤ j) → a' j = a j
theorem xl_frr (o : Nat) (a : Nat → Int32) : xl_fr o a a := fun _ _ => rfl
theorem xl_frt {o : Nat} {a b c : Nat → Int32} (h : xl_fr o a b) (g : xl_fr o b c) : xl_fr o a c := fun j hj => (g j hj).trans (h j hj)
theorem xl_fru {o k : Nat} {a : Nat → Int32} {x : Int32} (hk : k < 1024) : xl_fr o a (upd a (o + k) x) := fun _ _ => pk_un (by omega)
theorem xl_stu {a b : Nat → Int32} {o k v : Nat} {st mp : Nat → Nat} (h : xl_st a b o st mp) : xl_st (upd a (o + k) (nI v)) b o (mq_up st k v) mp := by
  intro j hj
  have ⟨h1, h2⟩ := h j hj
  refine ⟨?_, h2⟩
  by_cases z : j = k
  · rw [z, pk_us, mq_us]
  · rw [pk_un (by omega), mq_un z]; exact h1
theorem xl_stv {a b : Nat → Int32} {o k v : Nat} {st mp : Nat → Nat} (h : xl_st a b o st mp) : xl_st a (upd b (o + k) (nI v)) o st (mq_up mp k v) := by
  intro j hj
  have ⟨h1, h2⟩ := h j hj
  refine ⟨h1, ?_⟩
  by_cases z : j = k
  · rw [z, pk_us, mq_us]
  · rw [pk_un (by omega), mq_un z]; exact h2
/-- the encoder's registers and bytes hold the interval (N, A at s doublings), and all intervals of H held it -/
def en_I (H : Nat → Nat → Nat → Prop) (N A s : Nat) (eA eC eCt eB : Int32) (body : Nat → Int32) : Prop :=
  ∃ (C ct bl : Nat) (B : Nat → Nat), eA = nI A ∧ eC = nI C ∧ eCt = nI ct ∧ eB = nI bl ∧ 1 ≤ ct ∧ (∀ j, j ≤ bl → body j &&& 255 = nI (B j)) ∧ mq_EP N A s C ct bl B ∧ ∀ N0 A0 s0, H N0 A0 s0 → mq_Hi N0 A0 s0 N A s bl B
theorem en_bl {N A s C ct bl : Nat} {B : Nat → Nat} (h : mq_EP N A s C ct bl B) : 7 * bl ≤ s := by
  have := (mq_len B bl).1
  have := h.2.1
  have := h.2.2.1
  omega
theorem en_C {N A s C ct bl : Nat} {B : Nat → Nat} (h : mq_EP N A s C ct bl B) : C + A ≤ 150994944 := by
  have h1 := h.2.2.2.2.2.2.2.1
  have h2 := Nat.le_mul_of_pos_right (C + A) (Nat.two_pow_pos ct)
  omega
theorem en_A {H : Nat → Nat → Nat → Prop} {N A s : Nat} {eA eC eCt eB : Int32} {body : Nat → Int32} (h : en_I H N A s eA eC eCt eB body) : eA = nI A := by
  obtain ⟨C, ct, bl, B, h1, _⟩ := h
  exact h1
theorem en_mono {H H' : Nat → Nat → Nat → Prop} {N A s : Nat} {eA eC eCt eB : Int32} {body : Nat → Int32} (hh : ∀ a b c, H' a b c → H a b c) (h : en_I H N A s eA eC eCt eB body) : en_I H' N A s eA eC eCt eB body := by
  obtain ⟨C, ct, bl, B, h1, h2, h3, h4, h5, h6, h7, h8⟩ := h
  exact ⟨C, ct, bl, B, h1, h2, h3, h4, h5, h6, h7, fun a b c z => h8 a b c (hh a b c z)⟩
theorem en_dec {H : Nat → Nat → Nat → Prop} {N A s : Nat} {eA eC eCt eB : Int32} {body : Nat → Int32} (h : en_I H N A s eA eC eCt eB body) (δ A' : Nat) (hd : δ + A' ≤ A) (hA : 1 ≤ A') : en_I (fun a b c => H a b c ∨ (N + δ = a ∧ A' = b ∧ s = c)) (N + δ) A' s (nI A') (eC + nI δ) eCt eB body := by
  obtain ⟨C, ct, bl, B, h1, h2, h3, h4, h5, h6, h7, h8⟩ := h
  have E := mq_t1 h7 δ A' hd hA
  refine ⟨C + δ, ct, bl, B, rfl, ?_, h3, h4, h5, h6, E, ?_⟩
  · rw [h2, nI_add]
  · intro a b c z
    rcases z with z | ⟨rfl, rfl, rfl⟩
    · exact mq_t1h (h8 a b c z) δ A' hd
    · exact mq_h0 E _ _
theorem en_dec0 {H : Nat → Nat → Nat → Prop} {N A s : Nat} {eA eC eCt eB : Int32} {body : Nat → Int32} (h : en_I H N A s eA eC eCt eB body) (A' : Nat) (hd : A' ≤ A) (hA : 1 ≤ A') : en_I (fun a b c => H a b c ∨ (N = a ∧ A' = b ∧ s = c)) N A' s (nI A') eC eCt eB body := by
  have := en_dec h 0 A' (by omega) hA
  rw [nI_0, Int32.add_zero] at this
  exact this
end
section
/-! the coder's walk: a byte out, the doublings, the tables, one decision -/
section
variable {f_width f_height f_slots f_bodyLast f_encA f_encC f_encCt f_tapeLength f_stored f_openIndex f_openRows f_decPos f_decA f_decC f_decCt : Int32} {a_qe a_nextMps a_nextLps a_active a_count a_offsetX a_offsetY a_lines a_state a_preferred a_body a_tape a_start : Nat → Int32}
theorem xb_90 {post : SX → Prop} {sh p C bl : Nat} {B : Nat → Nat} (hp : 2 ^ sh = p) (hs : sh ≤ 27) (hC : C < 268435456) (hc : C / p ≤ 255) (hb : bl + 1 < 512) (hB : ∀ j, j ≤ bl → a_body j &&& 255 = nI (B j)) (K : ∀ body' : Nat → Int32, (∀ j, j ≤ bl + 1 → body' j &&& 255 = nI (mq_up B (bl + 1) (C / p) j)) → post (f_width, f_height, f_slots, nI (bl + 1), f_encA, nI (C % p), nI (27 - sh), f_tapeLength, f_stored, f_openIndex, f_openRows, f_decPos, f_decA, f_decC, f_decCt, a_qe, a_nextMps, a_nextLps, a_active, a_count, a_offsetX, a_offsetY, a_lines, a_state, a_preferred, body', a_tape, a_start)) : wX_byteOut_90 post (nI sh) f_width f_height f_slots (nI (bl + 1)) f_encA (nI C) f_encCt f_tapeLength f_stored f_openIndex f_openRows f_decPos f_decA f_decC f_decCt a_qe a_nextMps a_nextLps a_active a_count a_offsetX a_offsetY a_lines a_state a_preferred a_body a_tape a_start := by
  have ⟨e1, e2⟩ := xb_sh (C := C) hp (by omega) (by omega)
  have e4 : (27 : Int32) - nI sh = nI (27 - sh) := pk_sub (a := 27) hs
  refine And.intro (vp_in_nI hb (by decide)) (nm_r (e' := upd a_body (bl + 1) (vp_nar .byte (nI (C / p)).toInt8.toInt32)) (by rw [e1, nI_clamp (by omega)]) (nm_r e2 (nm_r e4 (K _ ?_))))
  intro j hj
  by_cases z : j = bl + 1
  · rw [z, pk_us, mq_us]; exact xb_by hc
  · rw [pk_un z, mq_un z]; exact hB j (by omega)
theorem xb_55 {post : SX → Prop} {H : Nat → Nat → Nat → Prop} {N A a s C bl : Nat} {B : Nat → Nat} {x1 : Int32} (hx : x1 = nI (B bl)) (hE : mq_EP N a s C 0 bl B) (ha : a ≤ 65536) (hC : B bl ≠ 255 → C < 134217728) (hb : bl < 510) (hB : ∀ j, j ≤ bl → a_body j &&& 255 = nI (B j)) (hH : ∀ N0 A0 s0, H N0 A0 s0 → mq_Hi N0 A0 s0 N A s bl B)
    (K : ∀ (C' ct' : Nat) (B' : Nat → Nat) (body' : Nat → Int32), (ct' = 7 ∨ ct' = 8) → C' * 2 ^ ct' < 134217728 → mq_EP N a s C' ct' (bl + 1) B' → (∀ N0 A0 s0, H N0 A0 s0 → mq_Hi N0 A0 s0 N A s (bl + 1) B') → (∀ j, j ≤ bl + 1 → body' j &&& 255 = nI (B' j)) → post (f_width, f_height, f_slots, nI (bl + 1), f_encA, nI C', nI ct', f_tapeLength, f_stored, f_openIndex, f_openRows, f_decPos, f_decA, f_decC, f_decCt, a_qe, a_nextMps, a_nextLps, a_active, a_count, a_offsetX, a_offsetY, a_lines, a_state, a_preferred, body', a_tape, a_start)) : wX_byteOut_55 post x1 f_width f_height f_slots (nI bl) f_encA (nI C) f_encCt f_tapeLength f_stored f_openIndex f_openRows f_decPos f_decA f_decC f_decCt a_qe a_nextMps a_nextLps a_active a_count a_offsetX a_offsetY a_lines a_state a_preferred a_body a_tape a_start := by
  subst hx
  have hbl : B bl ≤ 255 := hE.2.2.2.2.2.2.1 bl (Nat.le_refl _)
  have hCb := en_C hE
  refine pk_eq (B bl) 255 (fun h => ?_) (fun h => ?_)
  · have ⟨k1, k2⟩ := mq_e7 hE ha h
    refine pk_le 511 bl (fun z => absurd z (by omega)) (fun _ => nm_r (nI_1 bl) ?_)
    exact xb_90 (sh := 20) (p := 1048576) (by decide) (by decide) (by omega) (by omega) (by omega) hB (fun body' hb' => K _ 7 _ body' (Or.inl rfl) (by omega) k2 (fun _ _ _ z => mq_e7h hE ha h (hH _ _ _ z)) hb')
  · have ⟨k1, k2⟩ := mq_e8 hE ha h (hC h)
    refine pk_le 511 bl (fun z => absurd z (by omega)) (fun _ => nm_r (nI_1 bl) ?_)
    exact xb_90 (sh := 19) (p := 524288) (by decide) (by decide) (by omega) (by omega) (by omega) hB (fun body' hb' => K _ 8 _ body' (Or.inr rfl) (by omega) k2 (fun _ _ _ z => mq_e8h hE h (hH _ _ _ z)) hb')
theorem xb_out {post : SX → Prop} {H : Nat → Nat → Nat → Prop} {N A a s C bl : Nat} {B : Nat → Nat} (hE : mq_EP N a s C 0 bl B) (ha : a ≤ 65536) (hb : bl < 510) (hB : ∀ j, j ≤ bl → a_body j &&& 255 = nI (B j)) (hH : ∀ N0 A0 s0, H N0 A0 s0 → mq_Hi N0 A0 s0 N A s bl B)
    (K : ∀ (C' ct' : Nat) (B' : Nat → Nat) (body' : Nat → Int32), (ct' = 7 ∨ ct' = 8) → C' * 2 ^ ct' < 134217728 → mq_EP N a s C' ct' (bl + 1) B' → (∀ N0 A0 s0, H N0 A0 s0 → mq_Hi N0 A0 s0 N A s (bl + 1) B') → (∀ j, j ≤ bl + 1 → body' j &&& 255 = nI (B' j)) → post (f_width, f_height, f_slots, nI (bl + 1), f_encA, nI C', nI ct', f_tapeLength, f_stored, f_openIndex, f_openRows, f_decPos, f_decA, f_decC, f_decCt, a_qe, a_nextMps, a_nextLps, a_active, a_count, a_offsetX, a_offsetY, a_lines, a_state, a_preferred, body', a_tape, a_start)) : wpX_byteOut post (f_width, f_height, f_slots, nI bl, f_encA, nI C, f_encCt, f_tapeLength, f_stored, f_openIndex, f_openRows, f_decPos, f_decA, f_decC, f_decCt, a_qe, a_nextMps, a_nextLps, a_active, a_count, a_offsetX, a_offsetY, a_lines, a_state, a_preferred, a_body, a_tape, a_start) := by
  have hbl : B bl ≤ 255 := hE.2.2.2.2.2.2.1 bl (Nat.le_refl _)
  have hCb := en_C hE
  have hx : a_body (nI bl).toNatClampNeg &&& 255 = nI (B bl) := by rw [nI_clamp (by omega)]; exact hB bl (Nat.le_refl _)
  refine And.intro (vp_in_nI (by omega) (by decide)) (nm_r hx (pk_eq (B bl) 255 (fun h => ?_) (fun h => pk_lt C 134217728 (fun h2 => ?_) (fun h2 => nm_r (nI_1 (B bl)) (And.intro (vp_in_nI (by omega) (by decide)) (nm_e (nm_r (pk_sub (b := 134217728) h2) ?_)))))))
  · exact xb_55 rfl hE ha (fun z => absurd h z) hb hB hH K
  · exact xb_55 rfl hE ha (fun _ => h2) hb hB hH K
  · refine xb_55 (B := mq_up B bl (B bl + 1)) (by rw [mq_us]) (mq_cy hE h h2) ha (fun _ => by omega) hb ?_ (fun _ _ _ z => mq_cyh hE h2 (hH _ _ _ z)) K
    intro j hj
    by_cases z : j = bl
    · rw [z, nI_clamp (by omega), pk_us, mq_us]; exact xb_by (by omega)
    · rw [nI_clamp (by omega), pk_un z, mq_un z]; exact hB j hj
end
section
variable {f_width f_height f_slots f_bodyLast f_encA f_encC f_encCt f_tapeLength f_stored f_openIndex f_openRows f_decPos f_decA f_decC f_decCt : Int32} {a_qe a_nextMps a_nextLps a_active a_count a_offsetX a_offsetY a_lines a_state a_preferred a_body a_tape a_start : Nat → Int32}
theorem xr_loop {post : SX → Prop} {H : Nat → Nat → Nat → Prop} : ∀ (f n x1 N A s : Nat) (f_encA f_encC f_encCt f_bodyLast : Int32) (a_body : Nat → Int32), x1 + f = 16 → f < n → en_I H N A s f_encA f_encC f_encCt f_bodyLast a_body → A < 65536 → s + f ≤ 2400 → (∀ (eA eC eCt eB : Int32) (bd : Nat → Int32), en_I H (mq_rn f N A s).1 (mq_rn f N A s).2.1 (mq_rn f N A s).2.2 eA eC eCt eB bd → post (f_width, f_height, f_slots, eB, eA, eC, eCt, f_tapeLength, f_stored, f_openIndex, f_openRows, f_decPos, f_decA, f_decC, f_decCt, a_qe, a_nextMps, a_nextLps, a_active, a_count, a_offsetX, a_offsetY, a_lines, a_state, a_preferred, bd, a_tape, a_start)) → wX_renormCoder_2 post n (nI x1) f_width f_height f_slots f_bodyLast f_encA f_encC f_encCt f_tapeLength f_stored f_openIndex f_openRows f_decPos f_decA f_decC f_decCt a_qe a_nextMps a_nextLps a_active a_count a_offsetX a_offsetY a_lines a_state a_preferred a_body a_tape a_start := by
  intro f
  induction f with
  | zero =>
    intro n x1 N A s f_encA f_encC f_encCt f_bodyLast a_body hx hn I hA hs K
    obtain ⟨n, rfl⟩ : ∃ m, n = m + 1 := ⟨n - 1, by omega⟩
    exact br_t (nI_le (a := 16) (by omega) (by omega)) (K _ _ _ _ _ I)
  | succ f ih =>
    intro n x1 N A s f_encA f_encC f_encCt f_bodyLast a_body hx hn I hA hs K
    obtain ⟨n, rfl⟩ : ∃ m, n = m + 1 := ⟨n - 1, by omega⟩
    have e := en_A I
    subst e
    refine br_f (nI_ge (b := 16) (by omega) (by decide)) (pk_le 32768 A (fun hA2 => ?_) (fun hA2 => ?_))
    · rw [mq_rn, if_pos hA2] at K
      exact K _ _ _ _ _ I
    · rw [mq_rn, if_neg (by omega)] at K
      obtain ⟨C, ct, bl, B, _, rfl, rfl, rfl, h5, h6, h7, h8⟩ := I
      obtain ⟨c, rfl⟩ : ∃ c, ct = c + 1 := ⟨ct - 1, by omega⟩
      have hCb := en_C h7
      have hbl := en_bl h7
      have hct := h7.2.2.1
      have E : mq_EP (N * 2) (A * 2) (s + 1) (C * 2) c bl B := mq_t2 1 h7
      have G : ∀ N0 A0 s0, H N0 A0 s0 → mq_Hi N0 A0 s0 (N * 2) (A * 2) (s + 1) bl B := fun _ _ _ z => mq_t2h 1 (h8 _ _ _ z)
      refine nm_r (xb_dbl (by omega)) (nm_r (xb_dbl (by omega)) (nm_r (nI_pred c) (pk_eq c 0 (fun z => ?_) (fun z => ?_))))
      · subst z
        refine xb_out E (by omega) (by omega) h6 G ?_
        intro C' ct' B' body' h7' hc' hE' hH' hB'
        exact nm_r (nI_1 x1) (ih n (x1 + 1) (N * 2) (A * 2) (s + 1) _ _ _ _ _ (by omega) (by omega) ⟨C', ct', bl + 1, B', rfl, rfl, rfl, rfl, by omega, hB', hE', hH'⟩ (by omega) (by omega) K)
      · exact nm_r (nI_1 x1) (ih n (x1 + 1) (N * 2) (A * 2) (s + 1) _ _ _ _ _ (by omega) (by omega) ⟨C * 2, c, bl, B, rfl, rfl, rfl, rfl, by omega, h6, E, G⟩ (by omega) (by omega) K)
theorem xr_ren {post : SX → Prop} {H : Nat → Nat → Nat → Prop} {N A s : Nat} (I : en_I H N A s f_encA f_encC f_encCt f_bodyLast a_body) (hA : A < 65536) (hs : s + 16 ≤ 2400) (K : ∀ (eA eC eCt eB : Int32) (bd : Nat → Int32), en_I H (mq_rn 16 N A s).1 (mq_rn 16 N A s).2.1 (mq_rn 16 N A s).2.2 eA eC eCt eB bd → post (f_width, f_height, f_slots, eB, eA, eC, eCt, f_tapeLength, f_stored, f_openIndex, f_openRows, f_decPos, f_decA, f_decC, f_decCt, a_qe, a_nextMps, a_nextLps, a_active, a_count, a_offsetX, a_offsetY, a_lines, a_state, a_preferred, bd, a_tape, a_start)) : wpX_renormCoder post (f_width, f_height, f_slots, f_bodyLast, f_encA, f_encC, f_encCt, f_tapeLength, f_stored, f_openIndex, f_openRows, f_decPos, f_decA, f_decC, f_decCt, a_qe, a_nextMps, a_nextLps, a_active, a_count, a_offsetX, a_offsetY, a_lines, a_state, a_preferred, a_body, a_tape, a_start) :=
  ⟨17, xr_loop 16 17 0 N A s _ _ _ _ _ (by decide) (by decide) I hA hs K⟩
/-- the tables' steps, for either side (o = 0 or 1024) -/
theorem xa_mps {post : SX → Prop} {o k : Nat} {st mp : Nat → Nat} (ho : o ≤ 1024) (hk : k < 1024) (tb : xl_tb a_qe a_nextMps a_nextLps) (hst : xl_st a_state a_preferred o st mp) (hs : st k < 46) (K : ∀ sta : Nat → Int32, xl_st sta a_preferred o (mq_am st k) mp → xl_fr o a_state sta → post (f_width, f_height, f_slots, f_bodyLast, f_encA, f_encC, f_encCt, f_tapeLength, f_stored, f_openIndex, f_openRows, f_decPos, f_decA, f_decC, f_decCt, a_qe, a_nextMps, a_nextLps, a_active, a_count, a_offsetX, a_offsetY, a_lines, sta, a_preferred, a_body, a_tape, a_start)) : wpX_adaptMps post (f_width, f_height, f_slots, f_bodyLast, f_encA, f_encC, f_encCt, f_tapeLength, f_stored, f_openIndex, f_openRows, f_decPos, f_decA, f_decC, f_decCt, a_qe, a_nextMps, a_nextLps, a_active, a_count, a_offsetX, a_offsetY, a_lines, a_state, a_preferred, a_body, a_tape, a_start) (nI (o + k)) := by
  have c : (nI (o + k)).toNatClampNeg = o + k := nI_clamp (by omega)
  have e1 : a_state (nI (o + k)).toNatClampNeg = nI (st k) := by rw [c]; exact (hst k hk).1
  have e2 : a_nextMps (a_state (nI (o + k)).toNatClampNeg).toNatClampNeg = nI (mq_NM (st k)) := by rw [e1, nI_clamp (by omega)]; exact (tb _ hs).2.1
  refine And.intro (vp_in_nI (by omega) (by decide)) (And.intro (by rw [e1]; exact vp_in_nI hs (by decide)) (And.intro (vp_in_nI (by omega) (by decide)) (nm_r (e' := upd a_state (o + k) (nI (mq_NM (st k)))) (by rw [e2, c]) (K _ (xl_stu hst) (xl_fru hk)))))
theorem xa_l37 {post : SX → Prop} {o k : Nat} {st mp mp' : Nat → Nat} {a0 : Nat → Int32} (ho : o ≤ 1024) (hk : k < 1024) (tb : xl_tb a_qe a_nextMps a_nextLps) (hst : xl_st a_state a_preferred o st mp') (hs : st k < 46) (K : ∀ sta : Nat → Int32, xl_st sta a_preferred o (mq_al st k) mp' → xl_fr o a_state sta → post (f_width, f_height, f_slots, f_bodyLast, f_encA, f_encC, f_encCt, f_tapeLength, f_stored, f_openIndex, f_openRows, f_decPos, f_decA, f_decC, f_decCt, a_qe, a_nextMps, a_nextLps, a_active, a_count, a_offsetX, a_offsetY, a_lines, sta, a_preferred, a_body, a_tape, a_start)) : wX_adaptLps_37 post (nI (o + k)) (nI (st k)) f_width f_height f_slots f_bodyLast f_encA f_encC f_encCt f_tapeLength f_stored f_openIndex f_openRows f_decPos f_decA f_decC f_decCt a_qe a_nextMps a_nextLps a_active a_count a_offsetX a_offsetY a_lines a_state a_preferred a_body a_tape a_start := by
  have c : (nI (o + k)).toNatClampNeg = o + k := nI_clamp (by omega)
  have e2 : a_nextLps (nI (st k)).toNatClampNeg = nI (mq_NL (st k)) := by rw [nI_clamp (by omega)]; exact (tb _ hs).2.2
  refine And.intro (vp_in_nI hs (by decide)) (And.intro (vp_in_nI (by omega) (by decide)) (nm_r (e' := upd a_state (o + k) (nI (mq_NL (st k)))) (by rw [e2, c]) (K _ (xl_stu hst) (xl_fru hk))))
theorem xa_l23 {post : SX → Prop} {o k : Nat} {st mp : Nat → Nat} (ho : o ≤ 1024) (hk : k < 1024) (tb : xl_tb a_qe a_nextMps a_nextLps) (hst : xl_st a_state a_preferred o st mp) (hs : st k < 46) (hm : mp k < 2) (hz : st k = 0 ∨ st k = 6 ∨ st k = 14) (K : ∀ sta prf : Nat → Int32, xl_st sta prf o (mq_al st k) (mq_sw st mp k) → xl_fr o a_state sta → xl_fr o a_preferred prf → post (f_width, f_height, f_slots, f_bodyLast, f_encA, f_encC, f_encCt, f_tapeLength, f_stored, f_openIndex, f_openRows, f_decPos, f_decA, f_decC, f_decCt, a_qe, a_nextMps, a_nextLps, a_active, a_count, a_offsetX, a_offsetY, a_lines, sta, prf, a_body, a_tape, a_start)) : wX_adaptLps_23 post (nI (o + k)) (nI (st k)) f_width f_height f_slots f_bodyLast f_encA f_encC f_encCt f_tapeLength f_stored f_openIndex f_openRows f_decPos f_decA f_decC f_decCt a_qe a_nextMps a_nextLps a_active a_count a_offsetX a_offsetY a_lines a_state a_preferred a_body a_tape a_start := by
  have c : (nI (o + k)).toNatClampNeg = o + k := nI_clamp (by omega)
  have e1 : (1 : Int32) - a_preferred (nI (o + k)).toNatClampNeg = nI (1 - mp k) := by rw [c, (hst k hk).2]; exact pk_sub (a := 1) (by omega)
  have es : mq_sw st mp k = mq_up mp k (1 - mp k) := if_pos hz
  rw [es] at K
  refine And.intro (vp_in_nI (by omega) (by decide)) (And.intro (vp_in_nI (by omega) (by decide)) (nm_r (e' := upd a_preferred (o + k) (nI (1 - mp k))) (by rw [e1, c]) ?_))
  exact xa_l37 (mp := mp) (a0 := a_state) ho hk tb (xl_stv hst) hs (fun sta h1 h2 => K sta _ h1 h2 (xl_fru hk))
theorem xa_lps {post : SX → Prop} {o k : Nat} {st mp : Nat → Nat} (ho : o ≤ 1024) (hk : k < 1024) (tb : xl_tb a_qe a_nextMps a_nextLps) (hst : xl_st a_state a_preferred o st mp) (hs : st k < 46) (hm : mp k < 2) (K : ∀ sta prf : Nat → Int32, xl_st sta prf o (mq_al st k) (mq_sw st mp k) → xl_fr o a_state sta → xl_fr o a_preferred prf → post (f_width, f_height, f_slots, f_bodyLast, f_encA, f_encC, f_encCt, f_tapeLength, f_stored, f_openIndex, f_openRows, f_decPos, f_decA, f_decC, f_decCt, a_qe, a_nextMps, a_nextLps, a_active, a_count, a_offsetX, a_offsetY, a_lines, sta, prf, a_body, a_tape, a_start)) : wpX_adaptLps post (f_width, f_height, f_slots, f_bodyLast, f_encA, f_encC, f_encCt, f_tapeLength, f_stored, f_openIndex, f_openRows, f_decPos, f_decA, f_decC, f_decCt, a_qe, a_nextMps, a_nextLps, a_active, a_count, a_offsetX, a_offsetY, a_lines, a_state, a_preferred, a_body, a_tape, a_start) (nI (o + k)) := by
  have c : (nI (o + k)).toNatClampNeg = o + k := nI_clamp (by omega)
  have e1 : a_state (nI (o + k)).toNatClampNeg = nI (st k) := by rw [c]; exact (hst k hk).1
  refine And.intro (vp_in_nI (by omega) (by decide)) (nm_r e1 (pk_eq (st k) 0 (fun z => ?_) (fun z0 => pk_eq (st k) 6 (fun z => ?_) (fun z1 => pk_eq (st k) 14 (fun z => ?_) (fun z2 => ?_)))))
  · exact xa_l23 ho hk tb hst hs hm (Or.inl z) K
  · exact xa_l23 ho hk tb hst hs hm (Or.inr (Or.inl z)) K
  · exact xa_l23 ho hk tb hst hs hm (Or.inr (Or.inr z)) K
  · have es : mq_sw st mp k = mp := if_neg (by omega)
    rw [es] at K
    exact xa_l37 (mp := mp) (a0 := a_state) ho hk tb hst hs (fun sta h1 h2 => K sta _ h1 h2 (xl_frr _ _))
end
section
variable {f_width f_height f_slots f_bodyLast f_encA f_encC f_encCt f_tapeLength f_stored f_openIndex f_openRows f_decPos f_decA f_decC f_decCt : Int32} {a_qe a_nextMps a_nextLps a_active a_count a_offsetX a_offsetY a_lines a_state a_preferred a_body a_tape a_start : Nat → Int32}
theorem xe_m46 {post : SX → Prop} {H : Nat → Nat → Nat → Prop} {N A s k : Nat} {st mp : Nat → Nat} (I : en_I H N A s f_encA f_encC f_encCt f_bodyLast a_body) (hA : A < 65536) (hs : s + 16 ≤ 2400) (hk : k < 1024) (tb : xl_tb a_qe a_nextMps a_nextLps) (hst : xl_st a_state a_preferred 0 st mp) (hsk : st k < 46)
    (K : ∀ (eA eC eCt eB : Int32) (bd sta prf : Nat → Int32), en_I H (mq_rn 16 N A s).1 (mq_rn 16 N A s).2.1 (mq_rn 16 N A s).2.2 eA eC eCt eB bd → xl_st sta prf 0 (mq_am st k) mp → xl_fr 0 a_state sta → xl_fr 0 a_preferred prf → post (f_width, f_height, f_slots, eB, eA, eC, eCt, f_tapeLength, f_stored, f_openIndex, f_openRows, f_decPos, f_decA, f_decC, f_decCt, a_qe, a_nextMps, a_nextLps, a_active, a_count, a_offsetX, a_offsetY, a_lines, sta, prf, bd, a_tape, a_start)) : wX_encodeMps_46 post (nI k) f_width f_height f_slots f_bodyLast f_encA f_encC f_encCt f_tapeLength f_stored f_openIndex f_openRows f_decPos f_decA f_decC f_decCt a_qe a_nextMps a_nextLps a_active a_count a_offsetX a_offsetY a_lines a_state a_preferred a_body a_tape a_start := by
  have h := xa_mps (post := fun u => match u with | (f_width_5, f_height_5, f_slots_5, f_bodyLast_5, f_encA_5, f_encC_5, f_encCt_5, f_tapeLength_5, f_stored_5, f_openIndex_5, f_openRows_5, f_decPos_5, f_decA_5, f_decC_5, f_decCt_5, a_qe_5, a_nextMps_5, a_nextLps_5, a_active_5, a_count_5, a_offsetX_5, a_offsetY_5, a_lines_5, a_state_5, a_preferred_5, a_body_5, a_tape_5, a_start_5) => wpX_renormCoder (fun u => match u with | (f_width_34, f_height_34, f_slots_34, f_bodyLast_34, f_encA_34, f_encC_34, f_encCt_34, f_tapeLength_34, f_stored_34, f_openIndex_34, f_openRows_34, f_decPos_34, f_decA_34, f_decC_34, f_decCt_34, a_qe_34, a_nextMps_34, a_nextLps_34, a_active_34, a_count_34, a_offsetX_34, a_offsetY_34, a_lines_34, a_state_34, a_preferred_34, a_body_34, a_tape_34, a_start_34) => post (f_width_34, f_height_34, f_slots_34, f_bodyLast_34, f_encA_34, f_encC_34, f_encCt_34, f_tapeLength_34, f_stored_34, f_openIndex_34, f_openRows_34, f_decPos_34, f_decA_34, f_decC_34, f_decCt_34, a_qe_34, a_nextMps_34, a_nextLps_34, a_active_34, a_count_34, a_offsetX_34, a_offsetY_34, a_lines_34, a_state_34, a_preferred_34, a_body_34, a_tape_34, a_start_34)) (f_width_5, f_height_5, f_slots_5, f_bodyLast_5, f_encA_5, f_encC_5, f_encCt_5, f_tapeLength_5, f_stored_5, f_openIndex_5, f_openRows_5, f_decPos_5, f_decA_5, f_decC_5, f_decCt_5, a_qe_5, a_nextMps_5, a_nextLps_5, a_active_5, a_count_5, a_offsetX_5, a_offsetY_5, a_lines_5, a_state_5, a_preferred_5, a_body_5, a_tape_5, a_start_5)) (o := 0) (by decide) hk tb hst hsk (fun sta h1 h2 => xr_ren I hA hs (fun eA eC eCt eB bd I' => K eA eC eCt eB bd sta _ I' h1 h2 (xl_frr _ _)))
  rw [Nat.zero_add] at h
  exact h
theorem xe_l26 {post : SX → Prop} {H : Nat → Nat → Nat → Prop} {N A s k : Nat} {st mp : Nat → Nat} (I : en_I H N A s f_encA f_encC f_encCt f_bodyLast a_body) (hA : A < 65536) (hs : s + 16 ≤ 2400) (hk : k < 1024) (tb : xl_tb a_qe a_nextMps a_nextLps) (hst : xl_st a_state a_preferred 0 st mp) (hsk : st k < 46) (hm : mp k < 2)
    (K : ∀ (eA eC eCt eB : Int32) (bd sta prf : Nat → Int32), en_I H (mq_rn 16 N A s).1 (mq_rn 16 N A s).2.1 (mq_rn 16 N A s).2.2 eA eC eCt eB bd → xl_st sta prf 0 (mq_al st k) (mq_sw st mp k) → xl_fr 0 a_state sta → xl_fr 0 a_preferred prf → post (f_width, f_height, f_slots, eB, eA, eC, eCt, f_tapeLength, f_stored, f_openIndex, f_openRows, f_decPos, f_decA, f_decC, f_decCt, a_qe, a_nextMps, a_nextLps, a_active, a_count, a_offsetX, a_offsetY, a_lines, sta, prf, bd, a_tape, a_start)) : wX_encodeLps_26 post (nI k) f_width f_height f_slots f_bodyLast f_encA f_encC f_encCt f_tapeLength f_stored f_openIndex f_openRows f_decPos f_decA f_decC f_decCt a_qe a_nextMps a_nextLps a_active a_count a_offsetX a_offsetY a_lines a_state a_preferred a_body a_tape a_start := by
  have h := xa_lps (post := fun u => match u with | (f_width_5, f_height_5, f_slots_5, f_bodyLast_5, f_encA_5, f_encC_5, f_encCt_5, f_tapeLength_5, f_stored_5, f_openIndex_5, f_openRows_5, f_decPos_5, f_decA_5, f_decC_5, f_decCt_5, a_qe_5, a_nextMps_5, a_nextLps_5, a_active_5, a_count_5, a_offsetX_5, a_offsetY_5, a_lines_5, a_state_5, a_preferred_5, a_body_5, a_tape_5, a_start_5) => wpX_renormCoder (fun u => match u with | (f_width_34, f_height_34, f_slots_34, f_bodyLast_34, f_encA_34, f_encC_34, f_encCt_34, f_tapeLength_34, f_stored_34, f_openIndex_34, f_openRows_34, f_decPos_34, f_decA_34, f_decC_34, f_decCt_34, a_qe_34, a_nextMps_34, a_nextLps_34, a_active_34, a_count_34, a_offsetX_34, a_offsetY_34, a_lines_34, a_state_34, a_preferred_34, a_body_34, a_tape_34, a_start_34) => post (f_width_34, f_height_34, f_slots_34, f_bodyLast_34, f_encA_34, f_encC_34, f_encCt_34, f_tapeLength_34, f_stored_34, f_openIndex_34, f_openRows_34, f_decPos_34, f_decA_34, f_decC_34, f_decCt_34, a_qe_34, a_nextMps_34, a_nextLps_34, a_active_34, a_count_34, a_offsetX_34, a_offsetY_34, a_lines_34, a_state_34, a_preferred_34, a_body_34, a_tape_34, a_start_34)) (f_width_5, f_height_5, f_slots_5, f_bodyLast_5, f_encA_5, f_encC_5, f_encCt_5, f_tapeLength_5, f_stored_5, f_openIndex_5, f_openRows_5, f_decPos_5, f_decA_5, f_decC_5, f_decCt_5, a_qe_5, a_nextMps_5, a_nextLps_5, a_active_5, a_count_5, a_offsetX_5, a_offsetY_5, a_lines_5, a_state_5, a_preferred_5, a_body_5, a_tape_5, a_start_5)) (o := 0) (by decide) hk tb hst hsk hm (fun sta prf h1 h2 h3 => xr_ren I hA hs (fun eA eC eCt eB bd I' => K eA eC eCt eB bd sta prf I' h1 h2 h3))
  rw [Nat.zero_add] at h
  exact h
theorem xe_bit {post : SX → Prop} {H : Nat → Nat → Nat → Prop} {σ : mq_S} {k d : Nat} (hw : mq_wf σ) (hs : σ.2.2.1 + 16 ≤ 2400) (hk : k < 1024) (hd : d < 2) (tb : xl_tb a_qe a_nextMps a_nextLps) (hst : xl_st a_state a_preferred 0 σ.2.2.2.1 σ.2.2.2.2) (I : en_I H σ.1 σ.2.1 σ.2.2.1 f_encA f_encC f_encCt f_bodyLast a_body)
    (K : ∀ (eA eC eCt eB : Int32) (bd sta prf : Nat → Int32), en_I (fun a b c => H a b c ∨ mq_At σ k d a b c) (mq_step σ k d).1 (mq_step σ k d).2.1 (mq_step σ k d).2.2.1 eA eC eCt eB bd → xl_st sta prf 0 (mq_step σ k d).2.2.2.1 (mq_step σ k d).2.2.2.2 → xl_fr 0 a_state sta → xl_fr 0 a_preferred prf → post (f_width, f_height, f_slots, eB, eA, eC, eCt, f_tapeLength, f_stored, f_openIndex, f_openRows, f_decPos, f_decA, f_decC, f_decCt, a_qe, a_nextMps, a_nextLps, a_active, a_count, a_offsetX, a_offsetY, a_lines, sta, prf, bd, a_tape, a_start)) : wpX_encodeBit post (f_width, f_height, f_slots, f_bodyLast, f_encA, f_encC, f_encCt, f_tapeLength, f_stored, f_openIndex, f_openRows, f_decPos, f_decA, f_decC, f_decCt, a_qe, a_nextMps, a_nextLps, a_active, a_count, a_offsetX, a_offsetY, a_lines, a_state, a_preferred, a_body, a_tape, a_start) (nI d) (nI k) := by
  obtain ⟨N, A, s, st, mp⟩ := σ
  obtain ⟨w1, w2, w3, w4⟩ := hw
  dsimp only at w1 w2 w3 w4 hs hst I
  have ⟨q1, q2, _⟩ := mq_tb _ (w3 k)
  have hsk := w3 k
  have hmk := w4 k
  have ⟨t1, t2⟩ := hst k hk
  rw [Nat.zero_add] at t1 t2
  have c : (nI k).toNatClampNeg = k := nI_clamp (by omega)
  have e1 : a_state (nI k).toNatClampNeg = nI (st k) := by rw [c, t1]
  have e2 : a_qe (a_state (nI k).toNatClampNeg).toNatClampNeg = nI (mq_Q (st k)) := by rw [e1, nI_clamp (by omega)]; exact (tb _ hsk).1
  have e3 : a_preferred (nI k).toNatClampNeg = nI (mp k) := by rw [c, t2]
  have eA := en_A I
  have e4 : f_encA - nI (mq_Q (st k)) = nI (A - mq_Q (st k)) := by rw [eA]; exact pk_sub (by omega)
  refine And.intro (vp_in_nI (by omega) (by decide)) (And.intro (by rw [e1]; exact vp_in_nI hsk (by decide)) (nm_r e2 (nm_r e4 (And.intro (vp_in_nI (by omega) (by decide)) ?_))))
  rw [e3]
  by_cases hdm : d = mp k
  · refine br_t (by rw [hdm]) ?_
    refine pk_lt (A - mq_Q (st k)) 32768 (fun h => pk_le (mq_Q (st k)) (A - mq_Q (st k)) (fun h2 => ?_) (fun h2 => ?_)) (fun h => ?_)
    · have ep : mq_pre (N, A, s, st, mp) k d = (N + mq_Q (st k), A - mq_Q (st k)) := by
        unfold mq_pre; dsimp only; rw [if_pos hdm, if_neg (by omega)]
      have es : mq_step (N, A, s, st, mp) k d = mq_fin (mq_rn 16 (N + mq_Q (st k)) (A - mq_Q (st k)) s) (mq_am st k) mp := by
        unfold mq_step; rw [ep]; dsimp only; rw [if_pos hdm, if_neg (by omega)]
      have I2 := en_dec I (mq_Q (st k)) (A - mq_Q (st k)) (by omega) (by omega)
      unfold mq_At at K
      rw [es, ep] at K
      exact nm_e (xe_m46 I2 (by omega) hs hk tb hst hsk K)
    · have ep : mq_pre (N, A, s, st, mp) k d = (N, mq_Q (st k)) := by
        unfold mq_pre; dsimp only; rw [if_pos hdm, if_pos (by omega)]
      have es : mq_step (N, A, s, st, mp) k d = mq_fin (mq_rn 16 N (mq_Q (st k)) s) (mq_am st k) mp := by
        unfold mq_step; rw [ep]; dsimp only; rw [if_pos hdm, if_neg (by omega)]
      have I2 := en_dec0 I (mq_Q (st k)) (by omega) (by omega)
      unfold mq_At at K
      rw [es, ep] at K
      exact xe_m46 I2 (by omega) hs hk tb hst hsk K
    · have ep : mq_pre (N, A, s, st, mp) k d = (N + mq_Q (st k), A - mq_Q (st k)) := by
        unfold mq_pre; dsimp only; rw [if_pos hdm, if_neg (by omega)]
      have es : mq_step (N, A, s, st, mp) k d = (N + mq_Q (st k), A - mq_Q (st k), s, st, mp) := by
        unfold mq_step; dsimp only; rw [if_pos hdm, if_pos (by omega)]
      have I2 := en_dec I (mq_Q (st k)) (A - mq_Q (st k)) (by omega) (by omega)
      unfold mq_At at K
      rw [es, ep] at K
      exact nm_e (K _ _ _ _ _ _ _ I2 hst (xl_frr _ _) (xl_frr _ _))
  · refine br_f (fun z => hdm ((nI_eq (by omega) (by omega)).mp z)) ?_
    refine pk_le (mq_Q (st k)) (A - mq_Q (st k)) (fun h2 => ?_) (fun h2 => ?_)
    · have ep : mq_pre (N, A, s, st, mp) k d = (N, mq_Q (st k)) := by
        unfold mq_pre; dsimp only; rw [if_neg hdm, if_neg (by omega)]
      have es : mq_step (N, A, s, st, mp) k d = mq_fin (mq_rn 16 N (mq_Q (st k)) s) (mq_al st k) (mq_sw st mp k) := by
        unfold mq_step; rw [ep]; dsimp only; rw [if_neg hdm]
      have I2 := en_dec0 I (mq_Q (st k)) (by omega) (by omega)
      unfold mq_At at K
      rw [es, ep] at K
      exact xe_l26 I2 (by omega) hs hk tb hst hsk hmk K
    · have ep : mq_pre (N, A, s, st, mp) k d = (N + mq_Q (st k), A - mq_Q (st k)) := by
        unfold mq_pre; dsimp only; rw [if_neg hdm, if_pos (by omega)]
      have es : mq_step (N, A, s, st, mp) k d = mq_fin (mq_rn 16 (N + mq_Q (st k)) (A - mq_Q (st k)) s) (mq_al st k) (mq_sw st mp k) := by
        unfold mq_step; rw [ep]; dsimp only; rw [if_neg hdm]
      have I2 := en_dec I (mq_Q (st k)) (A - mq_Q (st k)) (by omega) (by omega)
      unfold mq_At at K
      rw [es, ep] at K
      exact nm_e (xe_l26 I2 (by omega) hs hk tb hst hsk hmk K)
end
end
section
/-! pixels, contexts, typical rows, and one row coded -/
theorem xi_add {x y : Int32} {a b : Int} (hx : x.toInt = a) (hy : y.toInt = b) (h1 : -1000000 ≤ a + b) (h2 : a + b ≤ 1000000) : (x + y).toInt = a + b := by
  subst hx hy
  rw [Int32.toInt_add]
  exact Int.bmod_eq_of_le (by omega) (by omega)
theorem xi_sub {x y : Int32} {a b : Int} (hx : x.toInt = a) (hy : y.toInt = b) (h1 : -1000000 ≤ a - b) (h2 : a - b ≤ 1000000) : (x - y).toInt = a - b := by
  subst hx hy
  rw [Int32.toInt_sub]
  exact Int.bmod_eq_of_le (by omega) (by omega)
theorem xi_1 : (1 : Int32).toInt = 1 := by decide
theorem xi_2 : (2 : Int32).toInt = 2 := by decide
theorem xi_0 : (0 : Int32).toInt = 0 := by decide
theorem xi_8 : (8 : Int32).toInt = 8 := by decide
theorem xk_2 (a b : Nat) : nI a * 2 + nI b = nI (a * 2 + b) := by
  show nI a * nI 2 + nI b = _
  rw [pk_mul, nI_add]
theorem xk_8 (a b : Nat) : nI a * 8 + nI b = nI (8 * a + b) := by
  show nI a * nI 8 + nI b = _
  rw [pk_mul, nI_add, Nat.mul_comm]
theorem im_abl {R : Nat → Nat} (hR : ∀ v, R v < 65536) (y : Nat) : im_ab R y < 65536 := by
  cases y with
  | zero => exact (by decide : 0 < 65536)
  | succ y => exact hR y
section
variable {f_width f_height f_slots f_bodyLast f_encA f_encC f_encCt f_tapeLength f_stored f_openIndex f_openRows f_decPos f_decA f_decC f_decCt : Int32} {a_qe a_nextMps a_nextLps a_active a_count a_offsetX a_offsetY a_lines a_state a_preferred a_body a_tape a_start : Nat → Int32}
theorem xt_above {post : Int32 → Prop} {side y : Nat} {R : Nat → Nat} (hs : side < 2) (hy : y < 8) (ln : xl_ln a_lines (8 * side) R) (K : post (nI (im_ab R y))) : wpX_lineAbove post (f_width, f_height, f_slots, f_bodyLast, f_encA, f_encC, f_encCt, f_tapeLength, f_stored, f_openIndex, f_openRows, f_decPos, f_decA, f_decC, f_decCt, a_qe, a_nextMps, a_nextLps, a_active, a_count, a_offsetX, a_offsetY, a_lines, a_state, a_preferred, a_body, a_tape, a_start) (nI side) (nI y) := by
  cases y with
  | zero => exact br_t (Int32.le_refl _) K
  | succ y =>
    have e : nI side * 8 + nI (y + 1) - 1 = nI (8 * side + y) := by rw [xk_8]; exact pk_sub (b := 1) (by omega)
    have e2 : a_lines (nI side * 8 + nI (y + 1) - 1).toNatClampNeg = nI (R y) := by rw [e, nI_clamp (by omega)]; exact ln y (by omega)
    refine br_f (nI_nle (by omega) (by omega)) (And.intro (by rw [e]; exact vp_in_nI (by omega) (by decide)) ?_)
    rw [e2]
    exact K
theorem xt_ty {post : Int32 → Prop} {side y : Nat} {R : Nat → Nat} (hs : side < 2) (hy : y < 8) (ln : xl_ln a_lines (8 * side) R) (hR : ∀ v, R v < 65536) (K : post (nI (im_ty R y))) : wpX_isTypical post (f_width, f_height, f_slots, f_bodyLast, f_encA, f_encC, f_encCt, f_tapeLength, f_stored, f_openIndex, f_openRows, f_decPos, f_decA, f_decC, f_decCt, a_qe, a_nextMps, a_nextLps, a_active, a_count, a_offsetX, a_offsetY, a_lines, a_state, a_preferred, a_body, a_tape, a_start) (nI side) (nI y) := by
  have e2 : a_lines (nI side * 8 + nI y).toNatClampNeg = nI (R y) := by rw [xk_8, nI_clamp (by omega)]; exact ln y hy
  have h1 := hR y
  have h2 := im_abl hR y
  refine br_f (nI_pos (by omega)) (And.intro (by rw [xk_8]; exact vp_in_nI (by omega) (by decide)) (xt_above hs hy ln ?_))
  rw [e2]
  refine pk_eq (R y) (im_ab R y) (fun h => ?_) (fun h => ?_)
  · rw [im_ty, if_pos h] at K; exact K
  · rw [im_ty, if_neg h] at K; exact K
theorem xt_bf {post : Int32 → Prop} {side y : Nat} {R : Nat → Nat} (hs : side < 2) (hy : y < 9) (ln : xl_ln a_lines (8 * side) R) (hR : ∀ v, R v < 65536) (K : post (nI (im_bf R y))) : wpX_isTypical post (f_width, f_height, f_slots, f_bodyLast, f_encA, f_encC, f_encCt, f_tapeLength, f_stored, f_openIndex, f_openRows, f_decPos, f_decA, f_decC, f_decCt, a_qe, a_nextMps, a_nextLps, a_active, a_count, a_offsetX, a_offsetY, a_lines, a_state, a_preferred, a_body, a_tape, a_start) (nI side) (nI y - 1) := by
  cases y with
  | zero => exact br_t (by decide) K
  | succ y => rw [nI_pred]; exact xt_ty hs (by omega) ln hR K
theorem xp_px {post : Int32 → Prop} {side w : Nat} {R : Nat → Nat} {p1 p2 : Int32} (hs : side < 2) (hw : w ≤ 16) (ln : xl_ln a_lines (8 * side) R) (hR : ∀ v, R v < 65536) (u v : Int) (hu : p1.toInt = u) (hv : p2.toInt = v) (K : post (nI (im_px w R u v))) : wpX_pixel post (nI w, f_height, f_slots, f_bodyLast, f_encA, f_encC, f_encCt, f_tapeLength, f_stored, f_openIndex, f_openRows, f_decPos, f_decA, f_decC, f_decCt, a_qe, a_nextMps, a_nextLps, a_active, a_count, a_offsetX, a_offsetY, a_lines, a_state, a_preferred, a_body, a_tape, a_start) (nI side) p1 p2 := by
  have Z : ¬ (0 ≤ u ∧ u < w ∧ 0 ≤ v ∧ v < 8) → post 0 := fun z => by
    rw [im_px, if_neg z] at K; exact K
  by_cases h1 : p1 < 0
  · refine br_t h1 (Z ?_)
    rw [Int32.lt_iff_toInt_lt, hu, xi_0] at h1
    omega
  · obtain ⟨i, hi, rfl⟩ := nI_of h1
    rw [nI_toInt hi] at hu
    refine br_f h1 (pk_le w i (fun z => Z (by omega)) (fun z => ?_))
    by_cases h2 : p2 < 0
    · refine br_t h2 (Z ?_)
      rw [Int32.lt_iff_toInt_lt, hv, xi_0] at h2
      omega
    · obtain ⟨j, hj, rfl⟩ := nI_of h2
      rw [nI_toInt hj] at hv
      refine br_f h2 (pk_lt j 8 (fun z2 => And.intro (by rw [xk_8]; exact vp_in_nI (by omega) (by decide)) ?_) (fun z2 => Z (by omega)))
      subst hu hv
      have hRj := hR j
      rw [im_px, if_pos (by omega), Int.toNat_natCast, Int.toNat_natCast] at K
      rw [xk_8, nI_clamp (by omega), ln j z2, pk_shrN (by omega) _ i (s_l i (by omega)), pk_andN (Nat.lt_of_le_of_lt (Nat.div_le_self _ _) (by omega)) 1 (by decide)]
      exact K
theorem xp_cx {post : Int32 → Prop} {side w x y : Nat} {R : Nat → Nat} {ox oy : Int32} (hs : side < 2) (hw : w ≤ 16) (ln : xl_ln a_lines (8 * side) R) (hR : ∀ v, R v < 65536) (hx : x ≤ 16) (hy : y ≤ 8) (eox : a_offsetX side = ox) (eoy : a_offsetY side = oy) (hox : -8 ≤ ox.toInt ∧ ox.toInt ≤ 8) (hoy : -7 ≤ oy.toInt ∧ oy.toInt ≤ 0) (K : post (nI (im_cx w R ox.toInt oy.toInt x y))) : wpX_contextAt post (nI w, f_height, f_slots, f_bodyLast, f_encA, f_encC, f_encCt, f_tapeLength, f_stored, f_openIndex, f_openRows, f_decPos, f_decA, f_decC, f_decCt, a_qe, a_nextMps, a_nextLps, a_active, a_count, a_offsetX, a_offsetY, a_lines, a_state, a_preferred, a_body, a_tape, a_start) (nI side) (nI x) (nI y) := by
  have tx : (nI x).toInt = x := nI_toInt (by omega)
  have ty : (nI y).toInt = y := nI_toInt (by omega)
  have c : (nI side).toNatClampNeg = side := nI_clamp (by omega)
  have vi : vp_in (nI side) 2 := vp_in_nI hs (by decide)
  unfold wpX_contextAt
  refine xp_px hs hw ln hR _ _ (xi_sub tx xi_1 (by omega) (by omega)) (xi_sub ty xi_2 (by omega) (by omega)) ?_
  refine xp_px hs hw ln hR _ _ tx (xi_sub ty xi_2 (by omega) (by omega)) (nm_r (xk_2 _ _) ?_)
  refine xp_px hs hw ln hR _ _ (xi_add tx xi_1 (by omega) (by omega)) (xi_sub ty xi_2 (by omega) (by omega)) (nm_r (xk_2 _ _) ?_)
  refine xp_px hs hw ln hR _ _ (xi_sub tx xi_2 (by omega) (by omega)) (xi_sub ty xi_1 (by omega) (by omega)) (nm_r (xk_2 _ _) ?_)
  refine xp_px hs hw ln hR _ _ (xi_sub tx xi_1 (by omega) (by omega)) (xi_sub ty xi_1 (by omega) (by omega)) (nm_r (xk_2 _ _) ?_)
  refine xp_px hs hw ln hR _ _ tx (xi_sub ty xi_1 (by omega) (by omega)) (nm_r (xk_2 _ _) ?_)
  refine xp_px hs hw ln hR _ _ (xi_add tx xi_1 (by omega) (by omega)) (xi_sub ty xi_1 (by omega) (by omega)) (nm_r (xk_2 _ _) (And.intro vi (And.intro vi ?_)))
  refine xp_px hs hw ln hR ((x : Int) + ox.toInt) ((y : Int) + oy.toInt) (by rw [c, eox]; exact xi_add tx rfl (by omega) (by omega)) (by rw [c, eoy]; exact xi_add ty rfl (by omega) (by omega)) (nm_r (xk_2 _ _) ?_)
  refine xp_px hs hw ln hR _ _ (xi_sub tx xi_2 (by omega) (by omega)) ty (nm_r (xk_2 _ _) ?_)
  refine xp_px hs hw ln hR _ _ (xi_sub tx xi_1 (by omega) (by omega)) ty ?_
  rw [xk_2]
  refine sb_at (congrArg nI ?_) K
  unfold im_cx
  omega
end
section
variable {f_width f_height f_slots f_bodyLast f_encA f_encC f_encCt f_tapeLength f_stored f_openIndex f_openRows f_decPos f_decA f_decC f_decCt : Int32} {a_qe a_nextMps a_nextLps a_active a_count a_offsetX a_offsetY a_lines a_state a_preferred a_body a_tape a_start : Nat → Int32}
theorem xw_loop {post : Int32 → SX → Prop} {H : Nat → Nat → Nat → Prop} {w y : Nat} {R : Nat → Nat} {ox oy : Int32} {σ : mq_S} {sta0 prf0 : Nat → Int32} (hw : w ≤ 16) (hy : y < 8) (tb : xl_tb a_qe a_nextMps a_nextLps) (ln : xl_ln a_lines 0 R) (hR : ∀ v, R v < 65536) (eox : a_offsetX 0 = ox) (eoy : a_offsetY 0 = oy) (hox : -8 ≤ ox.toInt ∧ ox.toInt ≤ 8) (hoy : -7 ≤ oy.toInt ∧ oy.toInt ≤ 0) (hσ : mq_wf σ) (hs : σ.2.2.1 + 256 ≤ 2400)
    (K : ∀ (eA eC eCt eB : Int32) (bd sta prf : Nat → Int32), en_I (fun a b c => H a b c ∨ im_Hr w R ox.toInt oy.toInt y σ w a b c) (im_run w R ox.toInt oy.toInt y σ w).1 (im_run w R ox.toInt oy.toInt y σ w).2.1 (im_run w R ox.toInt oy.toInt y σ w).2.2.1 eA eC eCt eB bd → xl_st sta prf 0 (im_run w R ox.toInt oy.toInt y σ w).2.2.2.1 (im_run w R ox.toInt oy.toInt y σ w).2.2.2.2 → xl_fr 0 sta0 sta → xl_fr 0 prf0 prf → post 0 (nI w, f_height, f_slots, eB, eA, eC, eCt, f_tapeLength, f_stored, f_openIndex, f_openRows, f_decPos, f_decA, f_decC, f_decCt, a_qe, a_nextMps, a_nextLps, a_active, a_count, a_offsetX, a_offsetY, a_lines, sta, prf, bd, a_tape, a_start)) :
    ∀ (d n x : Nat) (f_encA f_encC f_encCt f_bodyLast : Int32) (a_body a_state a_preferred : Nat → Int32), x + d = w → d < n → en_I (fun a b c => H a b c ∨ im_Hr w R ox.toInt oy.toInt y σ x a b c) (im_run w R ox.toInt oy.toInt y σ x).1 (im_run w R ox.toInt oy.toInt y σ x).2.1 (im_run w R ox.toInt oy.toInt y σ x).2.2.1 f_encA f_encC f_encCt f_bodyLast a_body → xl_st a_state a_preferred 0 (im_run w R ox.toInt oy.toInt y σ x).2.2.2.1 (im_run w R ox.toInt oy.toInt y σ x).2.2.2.2 → xl_fr 0 sta0 a_state → xl_fr 0 prf0 a_preferred → wX_encodeRow_40 post (nI y) 0 n (nI x) (nI w) f_height f_slots f_bodyLast f_encA f_encC f_encCt f_tapeLength f_stored f_openIndex f_openRows f_decPos f_decA f_decC f_decCt a_qe a_nextMps a_nextLps a_active a_count a_offsetX a_offsetY a_lines a_state a_preferred a_body a_tape a_start := by
  intro d
  induction d with
  | zero =>
    intro n x f_encA f_encC f_encCt f_bodyLast a_body a_state a_preferred hx hn I hst hf1 hf2
    obtain ⟨n, rfl⟩ : ∃ m, n = m + 1 := ⟨n - 1, by omega⟩
    obtain rfl : x = w := by omega
    exact br_t (Int32.le_refl _) (And.intro rfl (K _ _ _ _ _ _ _ I hst hf1 hf2))
  | succ d ih =>
    intro n x f_encA f_encC f_encCt f_bodyLast a_body a_state a_preferred hx hn I hst hf1 hf2
    obtain ⟨n, rfl⟩ : ∃ m, n = m + 1 := ⟨n - 1, by omega⟩
    have ⟨r1, r2⟩ := im_runw w R ox.toInt oy.toInt y σ hσ x
    have tx : (nI x).toInt = x := nI_toInt (by omega)
    have ty : (nI y).toInt = y := nI_toInt (by omega)
    refine br_f (nI_ge (by omega) (by omega)) ?_
    refine xp_cx (side := 0) (by decide) hw ln hR (by omega) (by omega) eox eoy hox hoy ?_
    refine xp_px (side := 0) (by decide) hw ln hR _ _ tx ty ?_
    refine xe_bit r1 (by omega) (im_cxl _ _ _ _ _ _) (im_px2 _ _ _ _) tb hst I ?_
    intro eA eC eCt eB bd sta prf I' hst' g1 g2
    refine nm_r (nI_1 x) (ih n (x + 1) _ _ _ _ _ _ _ (by omega) (by omega) (en_mono ?_ I') hst' (xl_frt hf1 g1) (xl_frt hf2 g2))
    intro a b c z
    rcases z with z | ⟨x', hx', z⟩
    · exact Or.inl (Or.inl z)
    · by_cases e : x' = x
      · subst e; exact Or.inr z
      · exact Or.inl (Or.inr ⟨x', by omega, z⟩)
theorem xw_27 {post : Int32 → SX → Prop} {w y : Nat} {R : Nat → Nat} {ox oy z0 : Int32} (hw : w ≤ 16) (hy : y < 8) (tb : xl_tb a_qe a_nextMps a_nextLps) (ln : xl_ln a_lines 0 R) (hR : ∀ v, R v < 65536) (eox : a_offsetX 0 = ox) (eoy : a_offsetY 0 = oy) (hox : -8 ≤ ox.toInt ∧ ox.toInt ≤ 8) (hoy : -7 ≤ oy.toInt ∧ oy.toInt ≤ 0)
    (I : en_I (im_H w R ox.toInt oy.toInt y) (im_img w R ox.toInt oy.toInt y).1 (im_img w R ox.toInt oy.toInt y).2.1 (im_img w R ox.toInt oy.toInt y).2.2.1 f_encA f_encC f_encCt f_bodyLast a_body) (hst : xl_st a_state a_preferred 0 (im_img w R ox.toInt oy.toInt y).2.2.2.1 (im_img w R ox.toInt oy.toInt y).2.2.2.2) (hz : z0 = nI (im_fl R y))
    (K : ∀ (eA eC eCt eB : Int32) (bd sta prf : Nat → Int32), en_I (im_H w R ox.toInt oy.toInt (y + 1)) (im_img w R ox.toInt oy.toInt (y + 1)).1 (im_img w R ox.toInt oy.toInt (y + 1)).2.1 (im_img w R ox.toInt oy.toInt (y + 1)).2.2.1 eA eC eCt eB bd → xl_st sta prf 0 (im_img w R ox.toInt oy.toInt (y + 1)).2.2.2.1 (im_img w R ox.toInt oy.toInt (y + 1)).2.2.2.2 → xl_fr 0 a_state sta → xl_fr 0 a_preferred prf → post (nI (im_ty R y)) (nI w, f_height, f_slots, eB, eA, eC, eCt, f_tapeLength, f_stored, f_openIndex, f_openRows, f_decPos, f_decA, f_decC, f_decCt, a_qe, a_nextMps, a_nextLps, a_active, a_count, a_offsetX, a_offsetY, a_lines, sta, prf, bd, a_tape, a_start)) : wX_encodeRow_27 post (nI y) (nI (im_ty R y)) z0 (nI w) f_height f_slots f_bodyLast f_encA f_encC f_encCt f_tapeLength f_stored f_openIndex f_openRows f_decPos f_decA f_decC f_decCt a_qe a_nextMps a_nextLps a_active a_count a_offsetX a_offsetY a_lines a_state a_preferred a_body a_tape a_start := by
  subst hz
  have ⟨r1, r2⟩ := im_imgw hw R ox.toInt oy.toInt y
  have ⟨s1, s2⟩ := mq_stw _ 229 (im_fl R y) r1
  refine xe_bit (k := 229) r1 (by omega) (by decide) (im_fl2 R y) tb hst I ?_
  intro eA eC eCt eB bd sta prf I' hst' g1 g2
  rw [im_img, im_row] at K
  rcases im_ty2 R y with t | t
  · rw [t, if_neg (by decide)] at K
    rw [t]
    refine br_t rfl ⟨w + 1, ?_⟩
    refine xw_loop (H := fun a b c => im_H w R ox.toInt oy.toInt y a b c ∨ mq_At (im_img w R ox.toInt oy.toInt y) 229 (im_fl R y) a b c) (sta0 := a_state) (prf0 := a_preferred) hw hy tb ln hR eox eoy hox hoy s1 (by omega) ?_ w (w + 1) 0 _ _ _ _ _ _ _ (by omega) (by omega) (en_mono ?_ I') hst' g1 g2
    · intro eA eC eCt eB bd sta prf I2 hst2 g3 g4
      refine K _ _ _ _ _ _ _ (en_mono ?_ I2) hst2 g3 g4
      intro a b c z
      obtain ⟨y', hy', z⟩ := z
      by_cases e : y' = y
      · subst e
        rcases z with z | ⟨_, z⟩
        · exact Or.inl (Or.inr z)
        · exact Or.inr z
      · exact Or.inl (Or.inl ⟨y', by omega, z⟩)
    · intro a b c z
      rcases z with z | ⟨x', hx', z⟩
      · exact z
      · exact absurd hx' (by omega)
  · rw [t, if_pos rfl] at K
    rw [t]
    refine br_f (by decide) (And.intro rfl (K _ _ _ _ _ _ _ (en_mono ?_ I') hst' g1 g2))
    intro a b c z
    obtain ⟨y', hy', z⟩ := z
    by_cases e : y' = y
    · subst e
      rcases z with z | ⟨z1, z⟩
      · exact Or.inr z
      · exact absurd z1 (by omega)
    · exact Or.inl ⟨y', by omega, z⟩
theorem xw_row {post : Int32 → SX → Prop} {w y : Nat} {R : Nat → Nat} {ox oy : Int32} (hw : w ≤ 16) (hy : y < 8) (tb : xl_tb a_qe a_nextMps a_nextLps) (ln : xl_ln a_lines 0 R) (hR : ∀ v, R v < 65536) (eox : a_offsetX 0 = ox) (eoy : a_offsetY 0 = oy) (hox : -8 ≤ ox.toInt ∧ ox.toInt ≤ 8) (hoy : -7 ≤ oy.toInt ∧ oy.toInt ≤ 0)
    (I : en_I (im_H w R ox.toInt oy.toInt y) (im_img w R ox.toInt oy.toInt y).1 (im_img w R ox.toInt oy.toInt y).2.1 (im_img w R ox.toInt oy.toInt y).2.2.1 f_encA f_encC f_encCt f_bodyLast a_body) (hst : xl_st a_state a_preferred 0 (im_img w R ox.toInt oy.toInt y).2.2.2.1 (im_img w R ox.toInt oy.toInt y).2.2.2.2)
    (K : ∀ (eA eC eCt eB : Int32) (bd sta prf : Nat → Int32), en_I (im_H w R ox.toInt oy.toInt (y + 1)) (im_img w R ox.toInt oy.toInt (y + 1)).1 (im_img w R ox.toInt oy.toInt (y + 1)).2.1 (im_img w R ox.toInt oy.toInt (y + 1)).2.2.1 eA eC eCt eB bd → xl_st sta prf 0 (im_img w R ox.toInt oy.toInt (y + 1)).2.2.2.1 (im_img w R ox.toInt oy.toInt (y + 1)).2.2.2.2 → xl_fr 0 a_state sta → xl_fr 0 a_preferred prf → post (nI (im_ty R y)) (nI w, f_height, f_slots, eB, eA, eC, eCt, f_tapeLength, f_stored, f_openIndex, f_openRows, f_decPos, f_decA, f_decC, f_decCt, a_qe, a_nextMps, a_nextLps, a_active, a_count, a_offsetX, a_offsetY, a_lines, sta, prf, bd, a_tape, a_start)) : wpX_encodeRow post (nI w, f_height, f_slots, f_bodyLast, f_encA, f_encC, f_encCt, f_tapeLength, f_stored, f_openIndex, f_openRows, f_decPos, f_decA, f_decC, f_decCt, a_qe, a_nextMps, a_nextLps, a_active, a_count, a_offsetX, a_offsetY, a_lines, a_state, a_preferred, a_body, a_tape, a_start) (nI y) := by
  unfold wpX_encodeRow
  refine xt_ty (side := 0) (by decide) hy ln hR ?_
  refine xt_bf (side := 0) (by decide) (by omega) ln hR ?_
  have t1 := im_ty2 R y
  have t2 := im_bf2 R y
  refine pk_eq (im_ty R y) (im_bf R y) (fun h => ?_) (fun h => ?_)
  · exact xw_27 hw hy tb ln hR eox eoy hox hoy I hst (by rw [im_fl, if_pos h]; rfl) K
  · exact xw_27 hw hy tb ln hR eox eoy hox hoy I hst (by rw [im_fl, if_neg h]; rfl) K
end
end
section
/-! the coder's end: two last bytes, a finished stream -/
theorem xf_nor (a b : Nat) : nI a ||| nI b = nI (a ||| b) := by
  apply Int32.toBitVec_inj.1
  show BitVec.ofNat 32 a ||| BitVec.ofNat 32 b = BitVec.ofNat 32 (a ||| b)
  apply BitVec.eq_of_getLsbD_eq
  intro i hi
  simp [hi]
theorem xf_or16 (C : Nat) : C ||| 65535 = 65536 * (C / 65536) + 65535 := by
  apply Nat.eq_of_testBit_eq
  intro i
  have e := Nat.testBit_two_pow_mul_add (C / 2 ^ 16) (b := 2 ^ 16 - 1) (i := 16) (by decide) i
  have e2 := Nat.testBit_two_pow_sub_one 16 i
  have e3 := Nat.testBit_div_two_pow (n := 16) C (i - 16)
  show (C ||| 2 ^ 16 - 1).testBit i = (2 ^ 16 * (C / 2 ^ 16) + (2 ^ 16 - 1)).testBit i
  rw [e, Nat.testBit_or, e2]
  by_cases h : i < 16
  · rw [if_pos h, decide_eq_true h, Bool.or_true]
  · rw [if_neg h, decide_eq_false h, Bool.or_false, e3, Nat.sub_add_cancel (by omega)]
theorem xf_shl {C ct : Nat} (h : ct < 32) (hC : C * 2 ^ ct < 4294967296) : nI C <<< (nI ct &&& 31) = nI (C * 2 ^ ct) := pk_shlN _ ct (s_l ct h) hC
theorem mq_z15 {N a s C ct bl : Nat} {B : Nat → Nat} (h : mq_EP N a s C ct bl B) (hC : C % 32768 = 32767) : ∃ Z, N + 1 = Z * 32768 := by
  obtain ⟨h1, h2, h3, _⟩ := h
  have hp := Nat.two_pow_pos ct
  have e : 134217728 = 32768 * (2 ^ (12 - ct) * 2 ^ ct) := by
    rw [← Nat.pow_add, Nat.sub_add_cancel h3]
  have e2 : N * 2 ^ ct = (mq_mv B bl * 2 ^ (12 - ct) * 32768 + C) * 2 ^ ct := by
    rw [h1, Nat.add_mul, e]
    congr 1
    rw [Nat.mul_assoc, Nat.mul_assoc, ← Nat.mul_assoc (2 ^ (12 - ct)), Nat.mul_comm (2 ^ (12 - ct)) 32768, Nat.mul_assoc 32768]
  have e3 := Nat.eq_of_mul_eq_mul_right hp e2
  refine ⟨mq_mv B bl * 2 ^ (12 - ct) + C / 32768 + 1, ?_⟩
  rw [e3]
  generalize mq_mv B bl * 2 ^ (12 - ct) = z
  omega
/-- a finished stream of n bytes: no 255 at its end, none before a byte above 143 -/
def st_F (n : Nat) (B : Nat → Nat) : Prop := B 0 = 0 ∧ (∀ j, n < j → B j = 255) ∧ (∀ j, j ≤ n → B j ≤ 255) ∧ B n ≠ 255 ∧ (∀ j, j < n → B j = 255 → B (j + 1) ≤ 143) ∧ n ≤ 350
def st_G (H : Nat → Nat → Nat → Prop) (B : Nat → Nat) : Prop := ∀ N0 A0 s0, H N0 A0 s0 → ∀ m e, mq_ml B m = s0 + 15 + e → N0 * 2 ^ e ≤ mq_mv B m ∧ mq_mv B m < (N0 + A0) * 2 ^ e
theorem mq_end {H : Nat → Nat → Nat → Prop} {N ct ct1 a sf C2 ct2 n Z : Nat} {B : Nat → Nat} (hE : mq_EP (N * 2 ^ ct * 2 ^ ct1) a sf C2 ct2 n B) (h2 : ct2 = 7 ∨ ct2 = 8) (hC : C2 * 2 ^ ct2 < 134217728) (hx : 5 ≤ ct + ct1) (hZ : N + 1 = Z * 32768) (hH : ∀ N0 A0 s0, H N0 A0 s0 → mq_Hi N0 A0 s0 (N * 2 ^ ct * 2 ^ ct1) (1 * 2 ^ ct * 2 ^ ct1) sf n B) : st_G H (mq_inf B n) := by
  intro N0 A0 s0 z
  have g := hH N0 A0 s0 z
  have e1 : 1 * 2 ^ ct * 2 ^ ct1 = 2 ^ (ct + ct1) := by rw [Nat.one_mul, ← Nat.pow_add]
  have e2 : N * 2 ^ ct * 2 ^ ct1 + 2 ^ (ct + ct1) = Z * 2 ^ (15 + (ct + ct1)) := by
    rw [Nat.mul_assoc, ← Nat.pow_add, Nat.pow_add 2 15, ← Nat.mul_assoc Z, show Z * 2 ^ 15 = N + 1 from hZ.symm, Nat.add_mul, Nat.one_mul]
  rw [e1] at g
  have p := hE.1
  have l := hE.2.1
  rcases h2 with rfl | rfl
  · exact mq_good (y := 20) (C2 := C2) (by omega) (by omega) (by omega) e2 (by omega) g
  · exact mq_good (y := 19) (C2 := C2) (by omega) (by omega) (by omega) e2 (by omega) g
theorem mq_seal {N a s C ct n : Nat} {B : Nat → Nat} (hE : mq_EP N a s C ct n B) (hn : n ≤ 350) : (B n = 255 → 0 < n ∧ st_F (n - 1) (mq_inf B n)) ∧ (B n ≠ 255 → st_F n (mq_inf B n)) := by
  obtain ⟨_, _, _, _, h5, h6, h7, _, _⟩ := hE
  have i1 : ∀ j, j ≤ n → mq_inf B n j = B j := fun j hj => if_pos hj
  have i2 : ∀ j, ¬ j ≤ n → mq_inf B n j = 255 := fun j hj => if_neg hj
  constructor
  · intro z
    have hn0 : 0 < n := by
      apply Nat.pos_of_ne_zero
      intro e
      rw [e, h5] at z
      exact absurd z (by decide)
    refine ⟨hn0, ?_, ?_, ?_, ?_, ?_, by omega⟩
    · rw [i1 0 (by omega)]; exact h5
    · intro j hj
      by_cases e : j = n
      · rw [e, i1 n (Nat.le_refl _)]; exact z
      · exact i2 j (by omega)
    · intro j hj; rw [i1 j (by omega)]; exact h7 j (by omega)
    · rw [i1 _ (by omega)]
      intro e
      have := h6 (n - 1) (by omega) e
      rw [Nat.sub_add_cancel hn0, z] at this
      omega
    · intro j hj e
      rw [i1 j (by omega)] at e
      rw [i1 (j + 1) (by omega)]
      exact h6 j (by omega) e
  · intro z
    refine ⟨?_, ?_, ?_, ?_, ?_, hn⟩
    · rw [i1 0 (by omega)]; exact h5
    · intro j hj; exact i2 j (by omega)
    · intro j hj; rw [i1 j hj]; exact h7 j hj
    · rw [i1 _ (Nat.le_refl _)]; exact z
    · intro j hj e
      rw [i1 j (by omega)] at e
      rw [i1 (j + 1) (by omega)]
      exact h6 j (by omega) e
section
variable {f_width f_height f_slots f_bodyLast f_encA f_encC f_encCt f_tapeLength f_stored f_openIndex f_openRows f_decPos f_decA f_decC f_decCt : Int32} {a_qe a_nextMps a_nextLps a_active a_count a_offsetX a_offsetY a_lines a_state a_preferred a_body a_tape a_start : Nat → Int32}
theorem xf_40 {post : SX → Prop} {H : Nat → Nat → Nat → Prop} {N s C ct bl : Nat} {B : Nat → Nat} (hE : mq_EP N 1 s C ct bl B) (hct : 1 ≤ ct) (hC : C % 32768 = 32767) (hs : s ≤ 2200) (hB : ∀ j, j ≤ bl → a_body j &&& 255 = nI (B j)) (hH : ∀ N0 A0 s0, H N0 A0 s0 → mq_Hi N0 A0 s0 N 1 s bl B)
    (K : ∀ (eC eCt : Int32) (n : Nat) (B : Nat → Nat) (bd : Nat → Int32), st_F n B → (∀ j, j ≤ n → bd j &&& 255 = nI (B j)) → st_G H B → post (f_width, f_height, f_slots, nI n, f_encA, eC, eCt, f_tapeLength, f_stored, f_openIndex, f_openRows, f_decPos, f_decA, f_decC, f_decCt, a_qe, a_nextMps, a_nextLps, a_active, a_count, a_offsetX, a_offsetY, a_lines, a_state, a_preferred, bd, a_tape, a_start)) : wX_flushCoder_40 post f_width f_height f_slots (nI bl) f_encA (nI C) (nI ct) f_tapeLength f_stored f_openIndex f_openRows f_decPos f_decA f_decC f_decCt a_qe a_nextMps a_nextLps a_active a_count a_offsetX a_offsetY a_lines a_state a_preferred a_body a_tape a_start := by
  obtain ⟨Z, hZ⟩ := mq_z15 hE hC
  have hbl := en_bl hE
  have hc12 := hE.2.2.1
  have hCb := hE.2.2.2.2.2.2.2.1
  have hp1 : 2 ^ ct ≤ 2 ^ 12 := Nat.pow_le_pow_right (by decide) hc12
  have hC4 : C * 2 ^ ct ≤ 150994944 := Nat.le_trans (Nat.mul_le_mul_right _ (by omega)) hCb
  refine nm_r (xf_shl (by omega) (by omega)) ?_
  refine xb_out (H := H) (a := 1 * 2 ^ ct) (mq_t2 (ct := 0) ct (by rw [Nat.zero_add]; exact hE)) (by omega) (by omega) hB (fun _ _ _ z => mq_t2h ct (hH _ _ _ z)) ?_
  intro C1 ct1 B1 bd1 h71 hC1 hE1 hH1 hB1
  have hc1 : ct1 < 32 ∧ 5 ≤ ct + ct1 := by omega
  have hp2 : 2 ^ ct1 ≤ 2 ^ 8 := Nat.pow_le_pow_right (by decide) (by omega)
  have hE1' : mq_EP (N * 2 ^ ct) 1 (s + ct) C1 ct1 (bl + 1) B1 := mq_t1 hE1 0 1 (by have := Nat.two_pow_pos ct; omega) (by decide)
  refine nm_r (xf_shl hc1.1 (by omega)) ?_
  refine xb_out (H := H) (a := 1 * 2 ^ ct1) (mq_t2 (ct := 0) ct1 (by rw [Nat.zero_add]; exact hE1')) (by omega) (by omega) hB1 (fun _ _ _ z => mq_t2h ct1 (hH1 _ _ _ z)) ?_
  intro C2 ct2 B2 bd2 h72 hC2 hE2 hH2 hB2
  have G := mq_end hE2 h72 hC2 hc1.2 hZ hH2
  have ⟨S1, S2⟩ := mq_seal hE2 (by omega)
  have hBn : B2 (bl + 1 + 1) ≤ 255 := hE2.2.2.2.2.2.2.1 _ (Nat.le_refl _)
  have ev : bd2 (nI (bl + 1 + 1)).toNatClampNeg &&& 255 = nI (B2 (bl + 1 + 1)) := by rw [nI_clamp (by omega)]; exact hB2 _ (Nat.le_refl _)
  have lk : ∀ j, j ≤ bl + 1 + 1 → bd2 j &&& 255 = nI (mq_inf B2 (bl + 1 + 1) j) := fun j hj => by
    rw [mq_inf, if_pos hj]; exact hB2 j hj
  refine And.intro (vp_in_nI (by omega) (by decide)) ?_
  rw [ev]
  refine pk_eq (B2 (bl + 1 + 1)) 255 (fun z => ?_) (fun z => ?_)
  · refine nm_r (nI_pred (bl + 1)) (K _ _ _ _ _ (S1 z).2 (fun j hj => lk j (by omega)) G)
  · exact K _ _ _ _ _ (S2 z) lk G
theorem xf_flush {post : SX → Prop} {H : Nat → Nat → Nat → Prop} {N A s : Nat} (I : en_I H N A s f_encA f_encC f_encCt f_bodyLast a_body) (hA : 32768 ≤ A) (hs : s ≤ 2200)
    (K : ∀ (eC eCt : Int32) (n : Nat) (B : Nat → Nat) (bd : Nat → Int32), st_F n B → (∀ j, j ≤ n → bd j &&& 255 = nI (B j)) → st_G H B → post (f_width, f_height, f_slots, nI n, f_encA, eC, eCt, f_tapeLength, f_stored, f_openIndex, f_openRows, f_decPos, f_decA, f_decC, f_decCt, a_qe, a_nextMps, a_nextLps, a_active, a_count, a_offsetX, a_offsetY, a_lines, a_state, a_preferred, bd, a_tape, a_start)) : wpX_flushCoder post (f_width, f_height, f_slots, f_bodyLast, f_encA, f_encC, f_encCt, f_tapeLength, f_stored, f_openIndex, f_openRows, f_decPos, f_decA, f_decC, f_decCt, a_qe, a_nextMps, a_nextLps, a_active, a_count, a_offsetX, a_offsetY, a_lines, a_state, a_preferred, a_body, a_tape, a_start) := by
  obtain ⟨C, ct, bl, B, rfl, rfl, rfl, rfl, h5, h6, h7, h8⟩ := I
  have hCb := en_C h7
  have eo : nI C ||| 65535 = nI (65536 * (C / 65536) + 65535) := (xf_nor C 65535).trans (congrArg nI (xf_or16 C))
  refine nm_r (nI_add C A) (nm_r eo (pk_lt (65536 * (C / 65536) + 65535) (C + A) (fun z => ?_) (fun z => ?_)))
  · have ec : C + (65536 * (C / 65536) + 65535 - C) = 65536 * (C / 65536) + 65535 := by omega
    have E := mq_t1 h7 (65536 * (C / 65536) + 65535 - C) 1 (by omega) (by decide)
    rw [ec] at E
    exact xf_40 E h5 (by omega) hs h6 (fun _ _ _ y => mq_t1h (h8 _ _ _ y) (65536 * (C / 65536) + 65535 - C) 1 (by omega)) K
  · have ec : C + (65536 * (C / 65536) + 65535 - 32768 - C) = 65536 * (C / 65536) + 65535 - 32768 := by omega
    have E := mq_t1 h7 (65536 * (C / 65536) + 65535 - 32768 - C) 1 (by omega) (by decide)
    rw [ec] at E
    refine nm_r (pk_sub (b := 32768) (by omega)) ?_
    exact xf_40 E h5 (by omega) hs h6 (fun _ _ _ y => mq_t1h (h8 _ _ _ y) (65536 * (C / 65536) + 65535 - 32768 - C) 1 (by omega)) K
end
end
section
/-! the tape: an image stored, an image cut off -/
section
variable {f_width f_height f_slots f_bodyLast f_encA f_encC f_encCt f_tapeLength f_stored f_openIndex f_openRows f_decPos f_decA f_decC f_decCt : Int32} {a_qe a_nextMps a_nextLps a_active a_count a_offsetX a_offsetY a_lines a_state a_preferred a_body a_tape a_start : Nat → Int32}
theorem xs_put {post : SX → Prop} {L : Nat} {p0 : Int32} (hL : L < 2048) (K : ∀ tp : Nat → Int32, (∀ j, j ≠ L → tp j = a_tape j) → tp L &&& 255 = p0 &&& 255 → post (f_width, f_height, f_slots, f_bodyLast, f_encA, f_encC, f_encCt, nI (L + 1), f_stored, f_openIndex, f_openRows, f_decPos, f_decA, f_decC, f_decCt, a_qe, a_nextMps, a_nextLps, a_active, a_count, a_offsetX, a_offsetY, a_lines, a_state, a_preferred, a_body, tp, a_start)) : wpX_put post (f_width, f_height, f_slots, f_bodyLast, f_encA, f_encC, f_encCt, nI L, f_stored, f_openIndex, f_openRows, f_decPos, f_decA, f_decC, f_decCt, a_qe, a_nextMps, a_nextLps, a_active, a_count, a_offsetX, a_offsetY, a_lines, a_state, a_preferred, a_body, a_tape, a_start) p0 := by
  refine br_f (nI_ge (b := 2048) hL (by decide)) (And.intro (vp_in_nI hL (by decide)) (nm_r (e' := upd a_tape L (vp_nar .byte p0.toInt8.toInt32)) (by rw [nI_clamp (by omega)]) (nm_r (nI_1 L) (K _ ?_ ?_))))
  · intro j hj; exact pk_un hj
  · rw [pk_us]; exact xb_by2
/-- what a stored image's bytes are, from L on -/
def tp_H (a : Nat → Int32) (L : Nat) (c x y : Int32) : Prop := a L &&& 255 = c &&& 255 ∧ a (L + 1) &&& 255 = x &&& 255 ∧ a (L + 2) &&& 255 = y &&& 255
def tp_B (a : Nat → Int32) (p n : Nat) (b : Nat → Int32) : Prop := ∀ j, j < n → a (p + j) &&& 255 = b (j + 1) &&& 255
theorem xs_end {post : SX → Prop} {L S : Nat} (hL : L + 2 ≤ 2048) (hS : S < 3) (K : ∀ tp : Nat → Int32, (∀ j, j < L → tp j = a_tape j) → tp L &&& 255 = 255 → tp (L + 1) &&& 255 = 172 → post (f_width, f_height, f_slots, f_bodyLast, f_encA, f_encC, f_encCt, nI (L + 2), nI (S + 1), f_openIndex, f_openRows, f_decPos, f_decA, f_decC, f_decCt, a_qe, a_nextMps, a_nextLps, a_active, a_count, a_offsetX, a_offsetY, a_lines, a_state, a_preferred, a_body, tp, upd a_start (S + 1) (nI (L + 2)))) : wpX_put (fun u => match u with | (f_width_90, f_height_90, f_slots_90, f_bodyLast_90, f_encA_90, f_encC_90, f_encCt_90, f_tapeLength_90, f_stored_90, f_openIndex_90, f_openRows_90, f_decPos_90, f_decA_90, f_decC_90, f_decCt_90, a_qe_90, a_nextMps_90, a_nextLps_90, a_active_90, a_count_90, a_offsetX_90, a_offsetY_90, a_lines_90, a_state_90, a_preferred_90, a_body_90, a_tape_90, a_start_90) => (wpX_put (fun u => match u with | (f_width_119, f_height_119, f_slots_119, f_bodyLast_119, f_encA_119, f_encC_119, f_encCt_119, f_tapeLength_119, f_stored_119, f_openIndex_119, f_openRows_119, f_decPos_119, f_decA_119, f_decC_119, f_decCt_119, a_qe_119, a_nextMps_119, a_nextLps_119, a_active_119, a_count_119, a_offsetX_119, a_offsetY_119, a_lines_119, a_state_119, a_preferred_119, a_body_119, a_tape_119, a_start_119) => ((((3 : Int32) ≤ f_stored_119 → (wX_storeImage_92 post f_width_119 f_height_119 f_slots_119 f_bodyLast_119 f_encA_119 f_encC_119 f_encCt_119 f_tapeLength_119 f_stored_119 f_openIndex_119 f_openRows_119 f_decPos_119 f_decA_119 f_decC_119 f_decCt_119 a_qe_119 a_nextMps_119 a_nextLps_119 a_active_119 a_count_119 a_offsetX_119 a_offsetY_119 a_lines_119 a_state_119 a_preferred_119 a_body_119 a_tape_119 a_start_119)) ∧ (¬ (3 : Int32) ≤ f_stored_119 → (∀ f_stored_150 : Int32, f_stored_150 = f_stored_119 + 1 → (wX_storeImage_92 post f_width_119 f_height_119 f_slots_119 f_bodyLast_119 f_encA_119 f_encC_119 f_encCt_119 f_tapeLength_119 f_stored_150 f_openIndex_119 f_openRows_119 f_decPos_119 f_decA_119 f_decC_119 f_decCt_119 a_qe_119 a_nextMps_119 a_nextLps_119 a_active_119 a_count_119 a_offsetX_119 a_offsetY_119 a_lines_119 a_state_119 a_preferred_119 a_body_119 a_tape_119 a_start_119)))))) (f_width_90, f_height_90, f_slots_90, f_bodyLast_90, f_encA_90, f_encC_90, f_encCt_90, f_tapeLength_90, f_stored_90, f_openIndex_90, f_openRows_90, f_decPos_90, f_decA_90, f_decC_90, f_decCt_90, a_qe_90, a_nextMps_90, a_nextLps_90, a_active_90, a_count_90, a_offsetX_90, a_offsetY_90, a_lines_90, a_state_90, a_preferred_90, a_body_90, a_tape_90, a_start_90) 172)) (f_width, f_height, f_slots, f_bodyLast, f_encA, f_encC, f_encCt, nI L, nI S, f_openIndex, f_openRows, f_decPos, f_decA, f_decC, f_decCt, a_qe, a_nextMps, a_nextLps, a_active, a_count, a_offsetX, a_offsetY, a_lines, a_state, a_preferred, a_body, a_tape, a_start) 255 := by
  refine xs_put (by omega) (fun t1 k1 k2 => ?_)
  refine xs_put (by omega) (fun t2 k3 k4 => ?_)
  refine br_f (nI_ge (b := 3) hS (by decide)) (nm_r (nI_1 S) (And.intro (vp_in_nI (by omega) (by decide)) (nm_r (e' := upd a_start (S + 1) (nI (L + 2))) (by rw [nI_clamp (by omega)]) (K t2 ?_ ?_ ?_))))
  · intro j hj; rw [k3 j (by omega), k1 j (by omega)]
  · rw [k3 L (by omega), k2]; decide
  · rw [k4]; decide
theorem xs_loop {post : SX → Prop} {L n S : Nat} {tp0 : Nat → Int32} (hL : L + n + 2 ≤ 2048) (hn : n ≤ 400) (hS : S < 3)
    (K : ∀ tp : Nat → Int32, (∀ j, j < L → tp j = tp0 j) → tp_B tp L n a_body → tp (L + n) &&& 255 = 255 → tp (L + n + 1) &&& 255 = 172 → post (f_width, f_height, f_slots, nI n, f_encA, f_encC, f_encCt, nI (L + n + 2), nI (S + 1), f_openIndex, f_openRows, f_decPos, f_decA, f_decC, f_decCt, a_qe, a_nextMps, a_nextLps, a_active, a_count, a_offsetX, a_offsetY, a_lines, a_state, a_preferred, a_body, tp, upd a_start (S + 1) (nI (L + n + 2)))) :
    ∀ (d m i : Nat) (a_tape : Nat → Int32), i + d = n → d < m → (∀ j, j < L → a_tape j = tp0 j) → tp_B a_tape L i a_body → wX_storeImage_36 post m (nI (i + 1)) f_width f_height f_slots (nI n) f_encA f_encC f_encCt (nI (L + i)) (nI S) f_openIndex f_openRows f_decPos f_decA f_decC f_decCt a_qe a_nextMps a_nextLps a_active a_count a_offsetX a_offsetY a_lines a_state a_preferred a_body a_tape a_start := by
  intro d
  induction d with
  | zero =>
    intro m i a_tape hi hm h1 h2
    obtain ⟨m, rfl⟩ : ∃ q, m = q + 1 := ⟨m - 1, by omega⟩
    obtain rfl : i = n := by omega
    refine br_t (nI_lt (by omega) (by omega)) (xs_end (by omega) hS (fun tp g1 g2 g3 => K tp ?_ ?_ g2 g3))
    · intro j hj; rw [g1 j (by omega), h1 j hj]
    · intro j hj; rw [g1 _ (by omega)]; exact h2 j hj
  | succ d ih =>
    intro m i a_tape hi hm h1 h2
    obtain ⟨m, rfl⟩ : ∃ q, m = q + 1 := ⟨m - 1, by omega⟩
    refine br_f (nI_nlt (by omega) (by omega)) (And.intro (vp_in_nI (by omega) (by decide)) (xs_put (by omega) (fun t1 k1 k2 => nm_r (nI_1 (i + 1)) (ih m (i + 1) t1 (by omega) (by omega) ?_ ?_))))
    · intro j hj; rw [k1 j (by omega), h1 j hj]
    · intro j hj
      by_cases z : j = i
      · subst z
        rw [k2, nI_clamp (by omega)]
      · rw [k1 _ (by omega)]; exact h2 j (by omega)
theorem xs_store {post : SX → Prop} {L n S : Nat} (hL : L + n + 5 ≤ 2048) (hn : n ≤ 400) (hS : S < 3)
    (K : ∀ tp : Nat → Int32, (∀ j, j < L → tp j = a_tape j) → tp_H tp L (a_count 0) (a_offsetX 0 + 8) (-(a_offsetY 0)) → tp_B tp (L + 3) n a_body → tp (L + 3 + n) &&& 255 = 255 → tp (L + 3 + n + 1) &&& 255 = 172 → post (f_width, f_height, f_slots, nI n, f_encA, f_encC, f_encCt, nI (L + 3 + n + 2), nI (S + 1), f_openIndex, f_openRows, f_decPos, f_decA, f_decC, f_decCt, a_qe, a_nextMps, a_nextLps, a_active, a_count, a_offsetX, a_offsetY, a_lines, a_state, a_preferred, a_body, tp, upd a_start (S + 1) (nI (L + 3 + n + 2)))) : wpX_storeImage post (f_width, f_height, f_slots, nI n, f_encA, f_encC, f_encCt, nI L, nI S, f_openIndex, f_openRows, f_decPos, f_decA, f_decC, f_decCt, a_qe, a_nextMps, a_nextLps, a_active, a_count, a_offsetX, a_offsetY, a_lines, a_state, a_preferred, a_body, a_tape, a_start) := by
  unfold wpX_storeImage
  refine xs_put (by omega) (fun t1 k1 k2 => ?_)
  refine xs_put (by omega) (fun t2 k3 k4 => ?_)
  refine xs_put (by omega) (fun t3 k5 k6 => ?_)
  refine ⟨n + 1, ?_⟩
  refine xs_loop (L := L + 3) (n := n) (S := S) (tp0 := t3) (by omega) hn hS (fun tp g1 g2 g3 g4 => K tp ?_ ?_ g2 g3 g4) n (n + 1) 0 t3 (by omega) (by omega) (fun _ _ => rfl) (fun j hj => absurd hj (by omega))
  · intro j hj; rw [g1 j (by omega), k5 j (by omega), k3 j (by omega), k1 j (by omega)]
  · refine ⟨?_, ?_, ?_⟩
    · rw [g1 _ (by omega), k5 _ (by omega), k3 _ (by omega), k2]
    · rw [g1 _ (by omega), k5 _ (by omega), k4]
    · rw [g1 _ (by omega), k6]
end
section
variable {f_width f_height f_slots f_bodyLast f_encA f_encC f_encCt f_tapeLength f_stored f_openIndex f_openRows f_decPos f_decA f_decC f_decCt : Int32} {a_qe a_nextMps a_nextLps a_active a_count a_offsetX a_offsetY a_lines a_state a_preferred a_body a_tape a_start : Nat → Int32}
theorem xc_32 {post : SX → Prop} {c S L : Nat} {s0 : Nat → Int32} (hS : 1 ≤ S ∧ S ≤ 3) (hc : c ≤ L)
    (K : ∀ sa : Nat → Int32, (∀ i, i < S → sa i = s0 (i + 1) - nI c) → post (f_width, f_height, f_slots, f_bodyLast, f_encA, f_encC, f_encCt, nI (L - c), nI (S - 1), f_openIndex, f_openRows, f_decPos, f_decA, f_decC, f_decCt, a_qe, a_nextMps, a_nextLps, a_active, a_count, a_offsetX, a_offsetY, a_lines, a_state, a_preferred, a_body, a_tape, sa)) :
    ∀ (d m i : Nat) (a_start : Nat → Int32), i + d = S → d < m → (∀ j, j < i → a_start j = s0 (j + 1) - nI c) → (∀ j, i ≤ j → a_start j = s0 j) → wX_cutTape_32 post (nI c) f_width f_height f_slots f_bodyLast f_encA f_encC f_encCt (nI L) (nI S) f_openIndex f_openRows f_decPos f_decA f_decC f_decCt m (nI i) a_qe a_nextMps a_nextLps a_active a_count a_offsetX a_offsetY a_lines a_state a_preferred a_body a_tape a_start := by
  intro d
  induction d with
  | zero =>
    intro m i a_start hi hm h1 h2
    obtain ⟨m, rfl⟩ : ∃ q, m = q + 1 := ⟨m - 1, by omega⟩
    obtain rfl : i = S := by omega
    exact br_t (Int32.le_refl _) (nm_r (pk_sub hc) (nm_r (pk_sub (b := 1) hS.1) (K a_start h1)))
  | succ d ih =>
    intro m i a_start hi hm h1 h2
    obtain ⟨m, rfl⟩ : ∃ q, m = q + 1 := ⟨m - 1, by omega⟩
    refine br_f (nI_ge (by omega) (by omega)) (And.intro (by rw [nI_1]; exact vp_in_nI (by omega) (by decide)) (And.intro (vp_in_nI (by omega) (by decide)) (nm_r (e' := upd a_start i (a_start (i + 1) - nI c)) (by rw [nI_1, nI_clamp (by omega), nI_clamp (by omega)]) (nm_r (nI_1 i) (ih m (i + 1) _ (by omega) (by omega) ?_ ?_)))))
    · intro j hj
      by_cases z : j = i
      · subst z; rw [pk_us, h2 _ (by omega)]
      · rw [pk_un z]; exact h1 j (by omega)
    · intro j hj
      rw [pk_un (by omega)]; exact h2 j (by omega)
theorem xc_2 {post : SX → Prop} {c S L : Nat} {t0 : Nat → Int32} (hS : 1 ≤ S ∧ S ≤ 3) (hc : c ≤ L) (hL : L ≤ 2048)
    (K : ∀ tp sa : Nat → Int32, (∀ j, j + c < L → tp j &&& 255 = t0 (j + c) &&& 255) → (∀ i, i < S → sa i = a_start (i + 1) - nI c) → post (f_width, f_height, f_slots, f_bodyLast, f_encA, f_encC, f_encCt, nI (L - c), nI (S - 1), f_openIndex, f_openRows, f_decPos, f_decA, f_decC, f_decCt, a_qe, a_nextMps, a_nextLps, a_active, a_count, a_offsetX, a_offsetY, a_lines, a_state, a_preferred, a_body, tp, sa)) :
    ∀ (d m i : Nat) (a_tape : Nat → Int32), i + d = L → d < m → c ≤ i → (∀ j, j + c < i → a_tape j &&& 255 = t0 (j + c) &&& 255) → (∀ j, i ≤ j + c → a_tape j = t0 j) → wX_cutTape_2 post (nI c) f_width f_height f_slots f_bodyLast f_encA f_encC f_encCt (nI L) (nI S) f_openIndex f_openRows f_decPos f_decA f_decC f_decCt m (nI i) a_qe a_nextMps a_nextLps a_active a_count a_offsetX a_offsetY a_lines a_state a_preferred a_body a_tape a_start := by
  intro d
  induction d with
  | zero =>
    intro m i a_tape hi hm hci h1 h2
    obtain ⟨m, rfl⟩ : ∃ q, m = q + 1 := ⟨m - 1, by omega⟩
    obtain rfl : i = L := by omega
    exact br_t (Int32.le_refl _) ⟨S + 1, xc_32 (s0 := a_start) hS hc (fun sa g => K a_tape sa h1 g) S (S + 1) 0 a_start (by omega) (by omega) (fun j hj => absurd hj (by omega)) (fun _ _ => rfl)⟩
  | succ d ih =>
    intro m i a_tape hi hm hci h1 h2
    obtain ⟨m, rfl⟩ : ∃ q, m = q + 1 := ⟨m - 1, by omega⟩
    refine br_f (nI_ge (by omega) (by omega)) (And.intro (vp_in_nI (by omega) (by decide)) (And.intro (by rw [pk_sub hci]; exact vp_in_nI (by omega) (by decide)) (nm_r (e' := upd a_tape (i - c) (vp_nar .byte (a_tape i))) (by rw [pk_sub hci, nI_clamp (by omega), nI_clamp (by omega)]) (nm_r (nI_1 i) (ih m (i + 1) _ (by omega) (by omega) (by omega) ?_ ?_)))))
    · intro j hj
      by_cases z : j = i - c
      · subst z
        rw [pk_us, xb_by3, h2 i (by omega), Nat.sub_add_cancel hci]
      · rw [pk_un z]; exact h1 j (by omega)
    · intro j hj
      rw [pk_un (by omega)]; exact h2 j (by omega)
theorem xc_cut {post : SX → Prop} {c S L : Nat} (hS : 1 ≤ S ∧ S ≤ 3) (hc : c ≤ L) (hL : L ≤ 2048)
    (K : ∀ tp sa : Nat → Int32, (∀ j, j + c < L → tp j &&& 255 = a_tape (j + c) &&& 255) → (∀ i, i < S → sa i = a_start (i + 1) - nI c) → post (f_width, f_height, f_slots, f_bodyLast, f_encA, f_encC, f_encCt, nI (L - c), nI (S - 1), f_openIndex, f_openRows, f_decPos, f_decA, f_decC, f_decCt, a_qe, a_nextMps, a_nextLps, a_active, a_count, a_offsetX, a_offsetY, a_lines, a_state, a_preferred, a_body, tp, sa)) : wpX_cutTape post (f_width, f_height, f_slots, f_bodyLast, f_encA, f_encC, f_encCt, nI L, nI S, f_openIndex, f_openRows, f_decPos, f_decA, f_decC, f_decCt, a_qe, a_nextMps, a_nextLps, a_active, a_count, a_offsetX, a_offsetY, a_lines, a_state, a_preferred, a_body, a_tape, a_start) (nI c) :=
  ⟨L - c + 1, xc_2 (t0 := a_tape) hS hc hL K (L - c) (L - c + 1) c a_tape (by omega) (by omega) (Nat.le_refl _) (fun j hj => absurd hj (by omega)) (fun _ _ => rfl)⟩
end
end
section
/-! the decoder's registers against a stored stream; one decision read back -/
theorem xd_of (x : Int32) : ∃ r, x = nI r := ⟨x.toBitVec.toNat, by
  apply Int32.toBitVec_inj.mp
  apply BitVec.eq_of_toNat_eq
  show x.toBitVec.toNat = x.toBitVec.toNat % 2 ^ 32
  exact (Nat.mod_eq_of_lt x.toBitVec.isLt).symm⟩
theorem xd_shl (n k : Nat) (s : Int32) (hs : (s.toBitVec.smod 32).toNat = k) : nI n <<< s = nI (n * 2 ^ k) := by
  apply Int32.toBitVec_inj.mp
  apply BitVec.eq_of_toNat_eq
  rw [pk_shl _ _ k hs]
  show (n % 2 ^ 32) * 2 ^ k % 2 ^ 32 = (n * 2 ^ k) % 2 ^ 32
  rw [Nat.mul_mod, Nat.mod_mod, ← Nat.mul_mod]
theorem xd_ac (a b c : Int32) : a + b + c = a + c + b := by
  rw [Int32.add_assoc, Int32.add_comm b c, ← Int32.add_assoc]
/-- m bytes are loaded, the place is i, of a stored stream of n bytes -/
def de_P (n m i : Nat) : Prop := (m = i + 1 ∧ i ≤ n) ∨ (i = n ∧ n + 1 ≤ m)
def tp_S (a : Nat → Int32) (p n : Nat) (B : Nat → Nat) : Prop := (∀ j, j < n → a (p + j) &&& 255 = nI (B (j + 1))) ∧ a (p + n) &&& 255 = 255 ∧ a (p + n + 1) &&& 255 = 172
def de_I (B : Nat → Nat) (n p N s : Nat) (dP dC dCt : Int32) : Prop := ∃ m ct i, dP = nI (p + i) ∧ dCt = nI ct ∧ ct ≤ 8 ∧ de_P n m i ∧ mq_ml B m = s + ct + 15 ∧ dC + nI (N * 65536) = nI (mq_mv B m * 2 ^ (16 - ct))
theorem de_dbl {dC : Int32} {N M c : Nat} (hc : c + 1 ≤ 8) (h : dC + nI (N * 65536) = nI (M * 2 ^ (16 - (c + 1)))) : dC <<< ((1 : Int32) &&& 31) + nI (N * 2 * 65536) = nI (M * 2 ^ (16 - c)) := by
  obtain ⟨r, rfl⟩ := xd_of dC
  rw [nI_add] at h
  rw [xd_shl r 1 _ (by decide), nI_add]
  have e1 : r * 2 ^ 1 + N * 2 * 65536 = (r + N * 65536) * 2 := by omega
  have e2 : M * 2 ^ (16 - c) = M * 2 ^ (16 - (c + 1)) * 2 := by
    rw [show 16 - c = 16 - (c + 1) + 1 by omega, Nat.pow_succ, Nat.mul_assoc]
  rw [e1, e2, ← pk_mul, ← pk_mul, h]
theorem de_sub {B : Nat → Nat} {n p N s q : Nat} {dP dC dCt : Int32} (I : de_I B n p N s dP dC dCt) : de_I B n p (N + q) s dP (dC - nI q <<< ((16 : Int32) &&& 31)) dCt := by
  obtain ⟨m, ct, i, h1, h2, h3, h4, h5, h6⟩ := I
  refine ⟨m, ct, i, h1, h2, h3, h4, h5, ?_⟩
  rw [xd_shl q 16 _ (by decide), Nat.add_mul, ← nI_add, Int32.add_comm (nI (N * 65536)), ← Int32.add_assoc]
  show dC - nI (q * 65536) + nI (q * 65536) + nI (N * 65536) = _
  rw [Int32.sub_add_cancel]
  exact h6
theorem de_rng {B : Nat → Nat} {n p N s N0 A0 : Nat} {dP dC dCt : Int32} (I : de_I B n p N s dP dC dCt) (hN : N ≤ N0) (hu : N0 + A0 ≤ N + 65535) (G : ∀ m e, mq_ml B m = s + 15 + e → N0 * 2 ^ e ≤ mq_mv B m ∧ mq_mv B m < (N0 + A0) * 2 ^ e) : ∃ r, dC = nI r ∧ r < 4294967296 ∧ N0 * 65536 ≤ r + N * 65536 ∧ r + N * 65536 < (N0 + A0) * 65536 := by
  obtain ⟨m, ct, i, h1, h2, h3, h4, h5, h6⟩ := I
  have ⟨g1, g2⟩ := G m ct (by omega)
  have e : 2 ^ ct * 2 ^ (16 - ct) = 65536 := by rw [← Nat.pow_add, show ct + (16 - ct) = 16 by omega]
  have p2 := Nat.two_pow_pos (16 - ct)
  have k1 := Nat.mul_le_mul_right (2 ^ (16 - ct)) g1
  have k2 := Nat.mul_lt_mul_of_pos_right g2 p2
  rw [Nat.mul_assoc, e] at k1 k2
  generalize mq_mv B m * 2 ^ (16 - ct) = M at h6 k1 k2
  refine ⟨M - N * 65536, ?_, by omega, by omega, by omega⟩
  have e0 : nI M - nI (N * 65536) = nI (M - N * 65536) := pk_sub (Nat.le_trans (Nat.mul_le_mul_right _ hN) k1)
  rw [← e0, ← h6, Int32.add_sub_cancel]
section
variable {f_width f_height f_slots f_bodyLast f_encA f_encC f_encCt f_tapeLength f_stored f_openIndex f_openRows f_decPos f_decA f_decC f_decCt : Int32} {a_qe a_nextMps a_nextLps a_active a_count a_offsetX a_offsetY a_lines a_state a_preferred a_body a_tape a_start : Nat → Int32}
theorem xd_at {post : Int32 → Prop} {p L b : Nat} (hp : p < L) (hL : L ≤ 2048) (hb : a_tape p &&& 255 = nI b) (K : post (nI b)) : wpX_tapeAt post (f_width, f_height, f_slots, f_bodyLast, f_encA, f_encC, f_encCt, nI L, f_stored, f_openIndex, f_openRows, f_decPos, f_decA, f_decC, f_decCt, a_qe, a_nextMps, a_nextLps, a_active, a_count, a_offsetX, a_offsetY, a_lines, a_state, a_preferred, a_body, a_tape, a_start) (nI p) := by
  refine br_f (nI_pos (by omega)) (br_t (nI_lt hp (by omega)) (And.intro (vp_in_nI (by omega) (by decide)) ?_))
  rw [nI_clamp (by omega), hb]
  exact K
theorem xd_in {post : SX → Prop} {L p n m i : Nat} {B : Nat → Nat} (hF : st_F n B) (hS : tp_S a_tape p n B) (hL : p + n + 2 ≤ L) (hL2 : L ≤ 2048) (hP : de_P n m i)
    (K : ∀ (dC' : Int32) (ct' i' : Nat), (ct' = 7 ∨ ct' = 8) → mq_ml B (m + 1) = mq_ml B m + ct' → (∀ Z : Int32, f_decC + Z = nI (mq_mv B m * 65536) → dC' + Z = nI (mq_mv B (m + 1) * 2 ^ (16 - ct'))) → de_P n (m + 1) i' → post (f_width, f_height, f_slots, f_bodyLast, f_encA, f_encC, f_encCt, nI L, f_stored, f_openIndex, f_openRows, nI (p + i'), f_decA, dC', nI ct', a_qe, a_nextMps, a_nextLps, a_active, a_count, a_offsetX, a_offsetY, a_lines, a_state, a_preferred, a_body, a_tape, a_start)) : wpX_byteIn post (f_width, f_height, f_slots, f_bodyLast, f_encA, f_encC, f_encCt, nI L, f_stored, f_openIndex, f_openRows, nI (p + i), f_decA, f_decC, f_decCt, a_qe, a_nextMps, a_nextLps, a_active, a_count, a_offsetX, a_offsetY, a_lines, a_state, a_preferred, a_body, a_tape, a_start) := by
  obtain ⟨F1, F2, F3, F4, F5, F6⟩ := hF
  obtain ⟨S1, S2, S3⟩ := hS
  unfold wpX_byteIn
  by_cases hi : i < n
  · have em : m = i + 1 := by rcases hP with ⟨a, b⟩ | ⟨a, b⟩ <;> omega
    subst em
    have b1 : a_tape (p + i) &&& 255 = nI (B (i + 1)) := S1 i hi
    have b2 : a_tape (p + i + 1) &&& 255 = nI (B (i + 1 + 1)) := by
      by_cases z : i + 1 < n
      · exact S1 (i + 1) z
      · have : i + 1 = n := by omega
        rw [F2 (i + 1 + 1) (by omega), Nat.add_assoc, this]
        exact S2
    have l1 := F3 (i + 1) (by omega)
    have l2 : B (i + 1 + 1) ≤ 255 := by
      by_cases z : i + 1 < n
      · exact F3 _ (by omega)
      · rw [F2 _ (by omega)]; decide
    refine xd_at (by omega) hL2 b1 ?_
    rw [nI_1 (p + i)]
    refine xd_at (by omega) hL2 b2 ?_
    refine pk_eq (B (i + 1)) 255 (fun z => ?_) (fun z => ?_)
    · have z1 : i + 1 < n := by
        apply Nat.lt_of_le_of_ne (by omega)
        intro e
        rw [e] at z
        exact F4 z
      have z2 := F5 (i + 1) z1 z
      have ⟨s1, s2⟩ := mq_s7 z z2
      refine br_t (nI_le (b := 143) z2 (by decide)) (br_t (by rw [z]; rfl) (nm_r (nI_1 (p + i)) (nm_e (K _ 7 (i + 1) (Or.inl rfl) s2 ?_ (Or.inl ⟨rfl, by omega⟩)))))
      intro Z hZ
      rw [xd_ac, hZ, xd_shl _ 9 _ (by decide), nI_add, s1]
      exact congrArg nI (by omega)
    · have ⟨s1, s2⟩ := mq_s8 z
      refine br_f (fun y => z ((nI_eq (b := 255) (by omega) (by decide)).mp y)) (nm_r (nI_1 (p + i)) (nm_e (K _ 8 (i + 1) (Or.inr rfl) s2 ?_ (Or.inl ⟨rfl, by omega⟩))))
      intro Z hZ
      rw [xd_ac, hZ, xd_shl _ 8 _ (by decide), nI_add, s1]
      exact congrArg nI (by omega)
  · have em : i = n ∧ n < m := by rcases hP with ⟨a, b⟩ | ⟨a, b⟩ <;> omega
    obtain ⟨rfl, hm⟩ := em
    have z1 := F2 m hm
    have z2 := F2 (m + 1) (by omega)
    have ⟨s1, s2⟩ := mq_s9 z1 (by rw [z2]; decide)
    refine xd_at (b := 255) (by omega) hL2 S2 ?_
    rw [nI_1 (p + i)]
    refine xd_at (b := 172) (by omega) hL2 S3 ?_
    refine br_t rfl (br_f (by decide) (nm_e (K _ 8 i (Or.inr rfl) s2 ?_ (Or.inr ⟨rfl, by omega⟩))))
    intro Z hZ
    rw [xd_ac, hZ, s1]
    show nI _ + nI 65280 = _
    rw [nI_add]
    exact congrArg nI (by omega)
theorem xd_start {post : SX → Prop} {L p n : Nat} {B : Nat → Nat} (hF : st_F n B) (hS : tp_S a_tape p n B) (hL : p + n + 2 ≤ L) (hL2 : L ≤ 2048)
    (K : ∀ dP dC dCt : Int32, de_I B n p 0 0 dP dC dCt → post (f_width, f_height, f_slots, f_bodyLast, f_encA, f_encC, f_encCt, nI L, f_stored, f_openIndex, f_openRows, dP, 32768, dC, dCt, a_qe, a_nextMps, a_nextLps, a_active, a_count, a_offsetX, a_offsetY, a_lines, a_state, a_preferred, a_body, a_tape, a_start)) : wpX_startDecoder post (f_width, f_height, f_slots, f_bodyLast, f_encA, f_encC, f_encCt, nI L, f_stored, f_openIndex, f_openRows, f_decPos, f_decA, f_decC, f_decCt, a_qe, a_nextMps, a_nextLps, a_active, a_count, a_offsetX, a_offsetY, a_lines, a_state, a_preferred, a_body, a_tape, a_start) (nI p) := by
  have b1 : a_tape p &&& 255 = nI (B 1) := by
    by_cases z : 0 < n
    · exact hS.1 0 z
    · have e : n = 0 := by omega
      subst e
      rw [hF.2.1 1 (by decide)]
      exact hS.2.1
  have ⟨s1, s2⟩ := mq_s8 (B := B) (m := 0) (by rw [hF.1]; decide)
  have s1' : mq_mv B 1 = B 1 := by rw [s1, mq_mv, Nat.zero_mul, Nat.zero_add]
  have s2' : mq_ml B 1 = 8 := by rw [s2, mq_ml]
  unfold wpX_startDecoder
  refine xd_at (by omega) hL2 b1 (nm_r (xd_shl (B 1) 16 _ (by decide)) ?_)
  refine xd_in (p := p) (i := 0) (m := 1) hF hS hL hL2 (Or.inl ⟨rfl, Nat.zero_le _⟩) ?_
  intro dC' ct' i' h7 hml hZ hP'
  have hZ0 := hZ 0 (by rw [Int32.add_zero, s1'])
  rw [Int32.add_zero] at hZ0
  subst hZ0
  have hml' : mq_ml B 2 = 8 + ct' := by rw [← s2']; exact hml
  refine nm_r (xd_shl _ 7 _ (by decide)) (nm_r (pk_sub (b := 7) (by omega)) (K _ _ _ ⟨2, ct' - 7, i', rfl, rfl, by omega, hP', by omega, ?_⟩))
  rw [Nat.zero_mul, nI_0, Int32.add_zero]
  refine congrArg nI ?_
  rw [Nat.mul_assoc, ← Nat.pow_add, show 16 - ct' + 7 = 16 - (ct' - 7) by omega]
theorem xd_loop {post : SX → Prop} {L p n : Nat} {B : Nat → Nat} (hF : st_F n B) (hS : tp_S a_tape p n B) (hL : p + n + 2 ≤ L) (hL2 : L ≤ 2048) : ∀ (f k x1 N A s : Nat) (f_decA f_decPos f_decC f_decCt : Int32), x1 + f = 16 → f < k → f_decA = nI A → A < 65536 → de_I B n p N s f_decPos f_decC f_decCt → (∀ dA dP dC dCt : Int32, dA = nI (mq_rn f N A s).2.1 → de_I B n p (mq_rn f N A s).1 (mq_rn f N A s).2.2 dP dC dCt → post (f_width, f_height, f_slots, f_bodyLast, f_encA, f_encC, f_encCt, nI L, f_stored, f_openIndex, f_openRows, dP, dA, dC, dCt, a_qe, a_nextMps, a_nextLps, a_active, a_count, a_offsetX, a_offsetY, a_lines, a_state, a_preferred, a_body, a_tape, a_start)) → wX_renormDecoder_2 post k (nI x1) f_width f_height f_slots f_bodyLast f_encA f_encC f_encCt (nI L) f_stored f_openIndex f_openRows f_decPos f_decA f_decC f_decCt a_qe a_nextMps a_nextLps a_active a_count a_offsetX a_offsetY a_lines a_state a_preferred a_body a_tape a_start := by
  intro f
  induction f with
  | zero =>
    intro k x1 N A s f_decA f_decPos f_decC f_decCt hx hk e hA I K
    obtain ⟨k, rfl⟩ : ∃ m, k = m + 1 := ⟨k - 1, by omega⟩
    exact br_t (nI_le (a := 16) (by omega) (by omega)) (K _ _ _ _ e I)
  | succ f ih =>
    intro k x1 N A s f_decA f_decPos f_decC f_decCt hx hk e hA I K
    obtain ⟨k, rfl⟩ : ∃ m, k = m + 1 := ⟨k - 1, by omega⟩
    subst e
    refine br_f (nI_ge (b := 16) (by omega) (by decide)) (pk_le 32768 A (fun hA2 => ?_) (fun hA2 => ?_))
    · rw [mq_rn, if_pos hA2] at K
      exact K _ _ _ _ rfl I
    · rw [mq_rn, if_neg (by omega)] at K
      obtain ⟨m, ct, i, rfl, rfl, h3, h4, h5, h6⟩ := I
      refine pk_eq ct 0 (fun z => ?_) (fun z => ?_)
      · subst z
        refine xd_in hF hS hL hL2 h4 ?_
        intro dC' ct' i' h7 hml hZ hP'
        obtain ⟨c, rfl⟩ : ∃ c, ct' = c + 1 := ⟨ct' - 1, by omega⟩
        have h8 := hZ _ h6
        refine nm_r (xb_dbl (by omega)) (nm_e (nm_r (nI_pred c) (nm_r (nI_1 x1) (ih k (x1 + 1) (N * 2) (A * 2) (s + 1) _ _ _ _ (by omega) (by omega) rfl (by omega) ⟨m + 1, c, i', rfl, rfl, by omega, hP', by omega, de_dbl (by omega) h8⟩ K))))
      · obtain ⟨c, rfl⟩ : ∃ c, ct = c + 1 := ⟨ct - 1, by omega⟩
        refine nm_r (xb_dbl (by omega)) (nm_e (nm_r (nI_pred c) (nm_r (nI_1 x1) (ih k (x1 + 1) (N * 2) (A * 2) (s + 1) _ _ _ _ (by omega) (by omega) rfl (by omega) ⟨m, c, i, rfl, rfl, by omega, h4, by omega, de_dbl h3 h6⟩ K))))
end
section
variable {f_width f_height f_slots f_bodyLast f_encA f_encC f_encCt f_tapeLength f_stored f_openIndex f_openRows f_decPos f_decA f_decC f_decCt : Int32} {a_qe a_nextMps a_nextLps a_active a_count a_offsetX a_offsetY a_lines a_state a_preferred a_body a_tape a_start : Nat → Int32}
theorem xd_133 {post : Int32 → SX → Prop} {x4 : Int32} {L p n N A s : Nat} {B : Nat → Nat} (hF : st_F n B) (hS : tp_S a_tape p n B) (hL : p + n + 2 ≤ L) (hL2 : L ≤ 2048) (e : f_decA = nI A) (hA : A < 65536) (I : de_I B n p N s f_decPos f_decC f_decCt) (K : ∀ dA dP dC dCt : Int32, dA = nI (mq_rn 16 N A s).2.1 → de_I B n p (mq_rn 16 N A s).1 (mq_rn 16 N A s).2.2 dP dC dCt → post x4 (f_width, f_height, f_slots, f_bodyLast, f_encA, f_encC, f_encCt, nI L, f_stored, f_openIndex, f_openRows, dP, dA, dC, dCt, a_qe, a_nextMps, a_nextLps, a_active, a_count, a_offsetX, a_offsetY, a_lines, a_state, a_preferred, a_body, a_tape, a_start)) : wX_decodeBit_133 post x4 f_width f_height f_slots f_bodyLast f_encA f_encC f_encCt (nI L) f_stored f_openIndex f_openRows f_decPos f_decA f_decC f_decCt a_qe a_nextMps a_nextLps a_active a_count a_offsetX a_offsetY a_lines a_state a_preferred a_body a_tape a_start := by
  unfold wX_decodeBit_133
  refine ⟨17, ?_⟩
  exact xd_loop hF hS hL hL2 16 17 0 N A s _ _ _ _ (by decide) (by decide) e hA I K
theorem xd_m {post : Int32 → SX → Prop} {x4 x5 x6 : Int32} {L p n N A s k : Nat} {B st mp : Nat → Nat} (hF : st_F n B) (hS : tp_S a_tape p n B) (hL : p + n + 2 ≤ L) (hL2 : L ≤ 2048) (hk : k < 1024) (tb : xl_tb a_qe a_nextMps a_nextLps) (hst : xl_st a_state a_preferred 1024 st mp) (hsk : st k < 46) (e : f_decA = nI A) (hA : A < 65536) (I : de_I B n p N s f_decPos f_decC f_decCt) (hz : x5 = x6)
    (K : ∀ (dA dP dC dCt : Int32) (sta prf : Nat → Int32), dA = nI (mq_rn 16 N A s).2.1 → de_I B n p (mq_rn 16 N A s).1 (mq_rn 16 N A s).2.2 dP dC dCt → xl_st sta prf 1024 (mq_am st k) mp → xl_fr 1024 a_state sta → xl_fr 1024 a_preferred prf → post x4 (f_width, f_height, f_slots, f_bodyLast, f_encA, f_encC, f_encCt, nI L, f_stored, f_openIndex, f_openRows, dP, dA, dC, dCt, a_qe, a_nextMps, a_nextLps, a_active, a_count, a_offsetX, a_offsetY, a_lines, sta, prf, a_body, a_tape, a_start)) : wX_decodeBit_107 post (nI (1024 + k)) x4 x5 x6 f_width f_height f_slots f_bodyLast f_encA f_encC f_encCt (nI L) f_stored f_openIndex f_openRows f_decPos f_decA f_decC f_decCt a_qe a_nextMps a_nextLps a_active a_count a_offsetX a_offsetY a_lines a_state a_preferred a_body a_tape a_start := by
  refine br_t hz (xa_mps (o := 1024) (by decide) hk tb hst hsk ?_)
  intro sta h1 h2
  exact xd_133 hF hS hL hL2 e hA I (fun dA dP dC dCt g1 g2 => K dA dP dC dCt sta _ g1 g2 h1 h2 (xl_frr _ _))
theorem xd_l {post : Int32 → SX → Prop} {x4 x4' x5 x6 : Int32} {L p n N A s k : Nat} {B st mp : Nat → Nat} (hF : st_F n B) (hS : tp_S a_tape p n B) (hL : p + n + 2 ≤ L) (hL2 : L ≤ 2048) (hk : k < 1024) (tb : xl_tb a_qe a_nextMps a_nextLps) (hst : xl_st a_state a_preferred 1024 st mp) (hsk : st k < 46) (hm : mp k < 2) (e : f_decA = nI A) (hA : A < 65536) (I : de_I B n p N s f_decPos f_decC f_decCt) (hz : ¬ x5 = x6) (e4 : 1 - x4 = x4')
    (K : ∀ (dA dP dC dCt : Int32) (sta prf : Nat → Int32), dA = nI (mq_rn 16 N A s).2.1 → de_I B n p (mq_rn 16 N A s).1 (mq_rn 16 N A s).2.2 dP dC dCt → xl_st sta prf 1024 (mq_al st k) (mq_sw st mp k) → xl_fr 1024 a_state sta → xl_fr 1024 a_preferred prf → post x4' (f_width, f_height, f_slots, f_bodyLast, f_encA, f_encC, f_encCt, nI L, f_stored, f_openIndex, f_openRows, dP, dA, dC, dCt, a_qe, a_nextMps, a_nextLps, a_active, a_count, a_offsetX, a_offsetY, a_lines, sta, prf, a_body, a_tape, a_start)) : wX_decodeBit_107 post (nI (1024 + k)) x4 x5 x6 f_width f_height f_slots f_bodyLast f_encA f_encC f_encCt (nI L) f_stored f_openIndex f_openRows f_decPos f_decA f_decC f_decCt a_qe a_nextMps a_nextLps a_active a_count a_offsetX a_offsetY a_lines a_state a_preferred a_body a_tape a_start := by
  refine br_f hz (nm_r e4 (xa_lps (o := 1024) (by decide) hk tb hst hsk hm ?_))
  intro sta prf h1 h2 h3
  exact xd_133 hF hS hL hL2 e hA I (fun dA dP dC dCt g1 g2 => K dA dP dC dCt sta prf g1 g2 h1 h2 h3)
theorem xd_bit {post : Int32 → SX → Prop} {σ : mq_S} {k d L p n : Nat} {B : Nat → Nat} (hF : st_F n B) (hS : tp_S a_tape p n B) (hL : p + n + 2 ≤ L) (hL2 : L ≤ 2048) (hw : mq_wf σ) (hk : k < 1024) (hd : d < 2) (tb : xl_tb a_qe a_nextMps a_nextLps) (hst : xl_st a_state a_preferred 1024 σ.2.2.2.1 σ.2.2.2.2) (eA : f_decA = nI σ.2.1) (I : de_I B n p σ.1 σ.2.2.1 f_decPos f_decC f_decCt)
    (G : ∀ m e, mq_ml B m = σ.2.2.1 + 15 + e → (mq_pre σ k d).1 * 2 ^ e ≤ mq_mv B m ∧ mq_mv B m < ((mq_pre σ k d).1 + (mq_pre σ k d).2) * 2 ^ e)
    (K : ∀ (dA dP dC dCt : Int32) (sta prf : Nat → Int32), dA = nI (mq_step σ k d).2.1 → de_I B n p (mq_step σ k d).1 (mq_step σ k d).2.2.1 dP dC dCt → xl_st sta prf 1024 (mq_step σ k d).2.2.2.1 (mq_step σ k d).2.2.2.2 → xl_fr 1024 a_state sta → xl_fr 1024 a_preferred prf → post (nI d) (f_width, f_height, f_slots, f_bodyLast, f_encA, f_encC, f_encCt, nI L, f_stored, f_openIndex, f_openRows, dP, dA, dC, dCt, a_qe, a_nextMps, a_nextLps, a_active, a_count, a_offsetX, a_offsetY, a_lines, sta, prf, a_body, a_tape, a_start)) : wpX_decodeBit post (f_width, f_height, f_slots, f_bodyLast, f_encA, f_encC, f_encCt, nI L, f_stored, f_openIndex, f_openRows, f_decPos, f_decA, f_decC, f_decCt, a_qe, a_nextMps, a_nextLps, a_active, a_count, a_offsetX, a_offsetY, a_lines, a_state, a_preferred, a_body, a_tape, a_start) (nI k) := by
  obtain ⟨N, A, s, st, mp⟩ := σ
  obtain ⟨w1, w2, w3, w4⟩ := hw
  dsimp only at w1 w2 w3 w4 hst eA I G
  have ⟨q1, q2, _⟩ := mq_tb _ (w3 k)
  have hsk := w3 k
  have hmk := w4 k
  have ⟨t1, t2⟩ := hst k hk
  have c : (nI (1024 + k)).toNatClampNeg = 1024 + k := nI_clamp (by omega)
  have e1 : a_state (nI (1024 + k)).toNatClampNeg = nI (st k) := by rw [c, t1]
  have e2 : a_qe (a_state (nI (1024 + k)).toNatClampNeg).toNatClampNeg = nI (mq_Q (st k)) := by rw [e1, nI_clamp (by omega)]; exact (tb _ hsk).1
  have e3 : a_preferred (nI (1024 + k)).toNatClampNeg = nI (mp k) := by rw [c, t2]
  have e4 : f_decA - nI (mq_Q (st k)) = nI (A - mq_Q (st k)) := by rw [eA]; exact pk_sub (by omega)
  have e5 : ∀ r, r < 4294967296 → ((nI r).toUInt32 >>> ((16 : Int32).toUInt32 &&& Int32.toUInt32 31)).toInt32 = nI (r / 65536) := fun r hr => pk_ushrN hr 16 16 (by decide)
  refine nm_r (nI_add 1024 k) (And.intro (vp_in_nI (by omega) (by decide)) (And.intro (by rw [e1]; exact vp_in_nI hsk (by decide)) (nm_r e2 (And.intro (vp_in_nI (by omega) (by decide)) (nm_r e3 (nm_r e4 ?_))))))
  by_cases hdm : d = mp k
  · by_cases hx : A - mq_Q (st k) < mq_Q (st k)
    · have ep : mq_pre (N, A, s, st, mp) k d = (N, mq_Q (st k)) := by
        unfold mq_pre; dsimp only; rw [if_pos hdm, if_pos hx]
      have es : mq_step (N, A, s, st, mp) k d = mq_fin (mq_rn 16 N (mq_Q (st k)) s) (mq_am st k) mp := by
        unfold mq_step; rw [ep]; dsimp only; rw [if_pos hdm, if_neg (by omega)]
      rw [ep] at G
      rw [es, hdm] at K
      obtain ⟨r, rfl, r1, r2, r3⟩ := de_rng I (N0 := N) (A0 := mq_Q (st k)) (by omega) (by omega) G
      rw [e5 r r1]
      refine br_f (nI_ge (by omega) (by omega)) (br_f (nI_ge (by omega) (by omega)) (br_f (by decide) ?_))
      exact xd_m hF hS hL hL2 hk tb hst hsk rfl (by omega) I rfl K
    · have ep : mq_pre (N, A, s, st, mp) k d = (N + mq_Q (st k), A - mq_Q (st k)) := by
        unfold mq_pre; dsimp only; rw [if_pos hdm, if_neg hx]
      rw [ep] at G
      obtain ⟨r, rfl, r1, r2, r3⟩ := de_rng I (N0 := N + mq_Q (st k)) (A0 := A - mq_Q (st k)) (by omega) (by omega) G
      rw [e5 r r1]
      refine br_t (nI_le (by omega) (by omega)) (br_t (nI_le (by omega) (by omega)) (br_t rfl (nm_e ?_)))
      refine pk_lt (A - mq_Q (st k)) 32768 (fun h => ?_) (fun h => ?_)
      · have es : mq_step (N, A, s, st, mp) k d = mq_fin (mq_rn 16 (N + mq_Q (st k)) (A - mq_Q (st k)) s) (mq_am st k) mp := by
          unfold mq_step; rw [ep]; dsimp only; rw [if_pos hdm, if_neg (by omega)]
        rw [es, hdm] at K
        exact xd_m hF hS hL hL2 hk tb hst hsk rfl (by omega) (de_sub I) rfl K
      · have es : mq_step (N, A, s, st, mp) k d = (N + mq_Q (st k), A - mq_Q (st k), s, st, mp) := by
          unfold mq_step; dsimp only; rw [if_pos hdm, if_pos (by omega)]
        rw [es, hdm] at K
        exact K _ _ _ _ _ _ rfl (de_sub I) hst (xl_frr _ _) (xl_frr _ _)
  · have e6 : (1 : Int32) - nI (mp k) = nI d := by
      have : d = 1 - mp k := by omega
      rw [this]; exact pk_sub (a := 1) (by omega)
    by_cases hx : A - mq_Q (st k) < mq_Q (st k)
    · have ep : mq_pre (N, A, s, st, mp) k d = (N + mq_Q (st k), A - mq_Q (st k)) := by
        unfold mq_pre; dsimp only; rw [if_neg hdm, if_pos hx]
      have es : mq_step (N, A, s, st, mp) k d = mq_fin (mq_rn 16 (N + mq_Q (st k)) (A - mq_Q (st k)) s) (mq_al st k) (mq_sw st mp k) := by
        unfold mq_step; rw [ep]; dsimp only; rw [if_neg hdm]
      rw [ep] at G
      rw [es] at K
      obtain ⟨r, rfl, r1, r2, r3⟩ := de_rng I (N0 := N + mq_Q (st k)) (A0 := A - mq_Q (st k)) (by omega) (by omega) G
      rw [e5 r r1]
      refine br_t (nI_le (by omega) (by omega)) (br_f (nI_ge (by omega) (by omega)) (br_t rfl (nm_e (br_t (nI_lt (b := 32768) (by omega) (by decide)) ?_))))
      exact xd_l hF hS hL hL2 hk tb hst hsk hmk rfl (by omega) (de_sub I) (by decide) e6 K
    · have ep : mq_pre (N, A, s, st, mp) k d = (N, mq_Q (st k)) := by
        unfold mq_pre; dsimp only; rw [if_neg hdm, if_neg hx]
      have es : mq_step (N, A, s, st, mp) k d = mq_fin (mq_rn 16 N (mq_Q (st k)) s) (mq_al st k) (mq_sw st mp k) := by
        unfold mq_step; rw [ep]; dsimp only; rw [if_neg hdm]
      rw [ep] at G
      rw [es] at K
      obtain ⟨r, rfl, r1, r2, r3⟩ := de_rng I (N0 := N) (A0 := mq_Q (st k)) (by omega) (by omega) G
      rw [e5 r r1]
      refine br_f (nI_ge (by omega) (by omega)) (br_t (nI_le (by omega) (by omega)) (br_f (by decide) ?_))
      exact xd_l hF hS hL hL2 hk tb hst hsk hmk rfl (by omega) I (by decide) e6 K
end
end
section
/-! rows read back -/
def de_R (R : Nat → Nat) (y x : Nat) : Nat → Nat := fun v => if v < y then R v else if v = y then R y % 2 ^ x else 0
theorem de_Rl {R : Nat → Nat} (hR : ∀ v, R v < 65536) (y x : Nat) : ∀ v, de_R R y x v < 65536 := by
  intro v
  unfold de_R
  by_cases h : v < y
  · rw [if_pos h]; exact hR v
  · rw [if_neg h]
    by_cases h2 : v = y
    · rw [if_pos h2]; exact Nat.lt_of_le_of_lt (Nat.mod_le _ _) (hR y)
    · rw [if_neg h2]; decide
theorem de_Rlo (R : Nat → Nat) {y x v : Nat} (h : v < y) : de_R R y x v = R v := if_pos h
theorem de_Req (R : Nat → Nat) (y x : Nat) : de_R R y x y = R y % 2 ^ x := by
  unfold de_R
  rw [if_neg (Nat.lt_irrefl _), if_pos rfl]
theorem de_Rhi (R : Nat → Nat) {y x v : Nat} (h : y < v) : de_R R y x v = 0 := by
  unfold de_R
  rw [if_neg (by omega), if_neg (by omega)]
theorem de_Rn {R : Nat → Nat} {w y : Nat} (h : R y < 2 ^ w) (v : Nat) : de_R R y w v = de_R R (y + 1) 0 v := by
  rcases Nat.lt_trichotomy v y with z | z | z
  · rw [de_Rlo R z, de_Rlo R (by omega)]
  · subst z
    rw [de_Req, de_Rlo R (by omega), Nat.mod_eq_of_lt h]
  · rw [de_Rhi R z]
    by_cases e : v = y + 1
    · subst e
      rw [de_Req, Nat.pow_zero, Nat.mod_one]
    · rw [de_Rhi R (by omega)]
theorem de_bit {r x u : Nat} (h : u < x) : r % 2 ^ x / 2 ^ u % 2 = r / 2 ^ u % 2 := by
  have e := Nat.testBit_mod_two_pow r x u
  rw [decide_eq_true h, Bool.true_and, Nat.testBit_eq_decide_div_mod_eq, Nat.testBit_eq_decide_div_mod_eq, decide_eq_decide] at e
  have a := Nat.mod_lt (r % 2 ^ x / 2 ^ u) (show 2 > 0 by decide)
  have b := Nat.mod_lt (r / 2 ^ u) (show 2 > 0 by decide)
  generalize r % 2 ^ x / 2 ^ u % 2 = s at *
  generalize r / 2 ^ u % 2 = t at *
  omega
theorem de_px (w : Nat) (R : Nat → Nat) {x y : Nat} {u v : Int} (h : v < y ∨ (v = y ∧ u < x)) : im_px w (de_R R y x) u v = im_px w R u v := by
  rcases h with h | ⟨h1, h2⟩
  · exact im_pxc w (fun i hi => de_Rlo R (by omega))
  · unfold im_px
    by_cases z : 0 ≤ u ∧ u < w ∧ 0 ≤ v ∧ v < 8
    · rw [if_pos z, if_pos z, h1, Int.toNat_natCast, de_Req]
      exact de_bit (by omega)
    · rw [if_neg z, if_neg z]
theorem de_cx (w : Nat) (R : Nat → Nat) {ax ay : Int} (hl : ay < 0 ∨ (ay = 0 ∧ ax < 0)) (x y : Nat) : im_cx w (de_R R y x) ax ay x y = im_cx w R ax ay x y := by
  unfold im_cx
  rw [de_px w R (u := (x : Int) - 1) (v := (y : Int) - 2) (by omega), de_px w R (u := x) (v := (y : Int) - 2) (by omega), de_px w R (u := (x : Int) + 1) (v := (y : Int) - 2) (by omega), de_px w R (u := (x : Int) - 2) (v := (y : Int) - 1) (by omega), de_px w R (u := (x : Int) - 1) (v := (y : Int) - 1) (by omega), de_px w R (u := x) (v := (y : Int) - 1) (by omega), de_px w R (u := (x : Int) + 1) (v := (y : Int) - 1) (by omega), de_px w R (u := (x : Int) + ax) (v := (y : Int) + ay) (by omega), de_px w R (u := (x : Int) - 2) (v := y) (by omega), de_px w R (u := (x : Int) - 1) (v := y) (by omega)]
theorem de_or {r x d : Nat} (hd : d = r / 2 ^ x % 2) : r % 2 ^ x ||| d * 2 ^ x = r % 2 ^ (x + 1) := by
  have h : r % 2 ^ x < 2 ^ x := Nat.mod_lt _ (Nat.two_pow_pos x)
  rw [Nat.mod_pow_succ, ← hd, Nat.or_comm, Nat.mul_comm d, ← Nat.two_pow_add_eq_or_of_lt h, Nat.add_comm]
theorem im_fl0 {R : Nat → Nat} {y : Nat} : (im_bf R y = im_fl R y → im_ty R y = 0) ∧ (im_bf R y ≠ im_fl R y → im_ty R y = 1) := by
  have a := im_ty2 R y
  have b := im_bf2 R y
  unfold im_fl
  by_cases h : im_ty R y = im_bf R y
  · rw [if_pos h]; omega
  · rw [if_neg h]; omega
/-- the decoder stands behind y rows of the image -/
def de_D (w : Nat) (R : Nat → Nat) (ox oy : Int) (B : Nat → Nat) (n p y : Nat) (dA dP dC dCt : Int32) (sta prf lns cnt : Nat → Int32) : Prop :=
  dA = nI (im_img w R ox oy y).2.1 ∧ de_I B n p (im_img w R ox oy y).1 (im_img w R ox oy y).2.2.1 dP dC dCt ∧ xl_st sta prf 1024 (im_img w R ox oy y).2.2.2.1 (im_img w R ox oy y).2.2.2.2 ∧ xl_ln lns 8 (de_R R y 0) ∧ cnt 1 = nI y
section
variable {f_width f_height f_slots f_bodyLast f_encA f_encC f_encCt f_tapeLength f_stored f_openIndex f_openRows f_decPos f_decA f_decC f_decCt : Int32} {a_qe a_nextMps a_nextLps a_active a_count a_offsetX a_offsetY a_lines a_state a_preferred a_body a_tape a_start : Nat → Int32}
theorem xv_loop {post : SX → Prop} {w y cn L p n : Nat} {R B : Nat → Nat} {ox oy : Int32} {σ : mq_S} {sta0 prf0 ln0 : Nat → Int32} (hF : st_F n B) (hS : tp_S a_tape p n B) (hL : p + n + 2 ≤ L) (hL2 : L ≤ 2048) (hw : w ≤ 16) (hy : y < 8) (hyc : y < cn) (tb : xl_tb a_qe a_nextMps a_nextLps) (hR : ∀ v, R v < 65536) (hRw : R y < 2 ^ w) (eox : a_offsetX 1 = ox) (eoy : a_offsetY 1 = oy) (hox : -8 ≤ ox.toInt ∧ ox.toInt ≤ 8) (hoy : -7 ≤ oy.toInt ∧ oy.toInt ≤ 0) (hl : oy.toInt < 0 ∨ (oy.toInt = 0 ∧ ox.toInt < 0)) (hσ : mq_wf σ) (eσ : σ = mq_step (im_img w R ox.toInt oy.toInt y) 229 (im_fl R y)) (ht : im_ty R y = 0) (G : im_G w R ox.toInt oy.toInt cn B)
    (K : ∀ (dA dP dC dCt : Int32) (sta prf lns : Nat → Int32), dA = nI (im_run w R ox.toInt oy.toInt y σ w).2.1 → de_I B n p (im_run w R ox.toInt oy.toInt y σ w).1 (im_run w R ox.toInt oy.toInt y σ w).2.2.1 dP dC dCt → xl_st sta prf 1024 (im_run w R ox.toInt oy.toInt y σ w).2.2.2.1 (im_run w R ox.toInt oy.toInt y σ w).2.2.2.2 → xl_ln lns 8 (de_R R (y + 1) 0) → (∀ j, j < 8 → lns j = ln0 j) → xl_fr 1024 sta0 sta → xl_fr 1024 prf0 prf → post (nI w, f_height, f_slots, f_bodyLast, f_encA, f_encC, f_encCt, nI L, f_stored, f_openIndex, f_openRows, dP, dA, dC, dCt, a_qe, a_nextMps, a_nextLps, a_active, upd a_count 1 (nI (y + 1)), a_offsetX, a_offsetY, lns, sta, prf, a_body, a_tape, a_start)) :
    ∀ (d m x : Nat) (f_decA f_decPos f_decC f_decCt : Int32) (a_state a_preferred a_lines : Nat → Int32), x + d = w → d < m → f_decA = nI (im_run w R ox.toInt oy.toInt y σ x).2.1 → de_I B n p (im_run w R ox.toInt oy.toInt y σ x).1 (im_run w R ox.toInt oy.toInt y σ x).2.2.1 f_decPos f_decC f_decCt → xl_st a_state a_preferred 1024 (im_run w R ox.toInt oy.toInt y σ x).2.2.2.1 (im_run w R ox.toInt oy.toInt y σ x).2.2.2.2 → xl_ln a_lines 8 (de_R R y x) → (∀ j, j < 8 → a_lines j = ln0 j) → xl_fr 1024 sta0 a_state → xl_fr 1024 prf0 a_preferred → wX_decodeRow_71 post (nI y) (nI (8 + y)) m (nI x) (nI w) f_height f_slots f_bodyLast f_encA f_encC f_encCt (nI L) f_stored f_openIndex f_openRows f_decPos f_decA f_decC f_decCt a_qe a_nextMps a_nextLps a_active a_count a_offsetX a_offsetY a_lines a_state a_preferred a_body a_tape a_start := by
  intro d
  induction d with
  | zero =>
    intro m x f_decA f_decPos f_decC f_decCt a_state a_preferred a_lines hx hm eA I hst ln hl0 hf1 hf2
    obtain ⟨m, rfl⟩ : ∃ q, m = q + 1 := ⟨m - 1, by omega⟩
    obtain rfl : x = w := by omega
    refine br_t (Int32.le_refl _) (nm_r (e' := upd a_count 1 (nI (y + 1))) (by rw [nI_1]) (K _ _ _ _ _ _ _ eA I hst ?_ hl0 hf1 hf2))
    intro v hv
    rw [ln v hv, de_Rn hRw]
  | succ d ih =>
    intro m x f_decA f_decPos f_decC f_decCt a_state a_preferred a_lines hx hm eA I hst ln hl0 hf1 hf2
    obtain ⟨m, rfl⟩ : ∃ q, m = q + 1 := ⟨m - 1, by omega⟩
    have ⟨r1, r2⟩ := im_runw w R ox.toInt oy.toInt y σ hσ x
    refine br_f (nI_ge (by omega) (by omega)) ?_
    refine xp_cx (side := 1) (by decide) hw ln (de_Rl hR y x) (by omega) (by omega) eox eoy hox hoy ?_
    rw [de_cx w R hl]
    refine xd_bit (d := im_px w R x y) hF hS hL hL2 r1 (im_cxl _ _ _ _ _ _) (im_px2 _ _ _ _) tb hst eA I ?_ ?_
    · intro m e he
      refine G _ _ _ ⟨y, hyc, Or.inr ⟨ht, x, by omega, ?_⟩⟩ m e he
      rw [← eσ]
      exact ⟨rfl, rfl, rfl⟩
    · intro dA dP dC dCt sta prf eA' I' hst' g1 g2
      have vi : vp_in (nI (8 + y)) 16 := vp_in_nI (by omega) (by decide)
      have hpx : im_px w R x y = R y / 2 ^ x % 2 := by
        rw [im_px, if_pos (by omega), Int.toNat_natCast, Int.toNat_natCast]
      have ev : a_lines (nI (8 + y)).toNatClampNeg ||| nI (im_px w R x y) <<< (nI x &&& 31) = nI (R y % 2 ^ (x + 1)) := by
        rw [nI_clamp (by omega), ln y hy, de_Req, xd_shl _ x _ (s_l x (by omega)), xf_nor]
        exact congrArg nI (de_or hpx)
      refine And.intro vi (And.intro vi (nm_r (e' := upd a_lines (8 + y) (nI (R y % 2 ^ (x + 1)))) (by rw [ev, nI_clamp (by omega)]) (nm_r (nI_1 x) (ih m (x + 1) _ _ _ _ _ _ _ (by omega) (by omega) eA' I' hst' ?_ ?_ (xl_frt hf1 g1) (xl_frt hf2 g2)))))
      · intro v hv
        by_cases z : v = y
        · subst z; rw [pk_us, de_Req]
        · rw [pk_un (by omega), ln v hv]
          rcases Nat.lt_or_ge v y with z2 | z2
          · rw [de_Rlo R z2, de_Rlo R z2]
          · rw [de_Rhi R (by omega), de_Rhi R (by omega)]
      · intro j hj
        rw [pk_un (by omega)]; exact hl0 j hj
theorem xv_32 {post : SX → Prop} {w y cn L p n : Nat} {R B : Nat → Nat} {ox oy x2 z0 : Int32} {sta0 prf0 : Nat → Int32} (hF : st_F n B) (hS : tp_S a_tape p n B) (hL : p + n + 2 ≤ L) (hL2 : L ≤ 2048) (hw : w ≤ 16) (hy : y < 8) (hyc : y < cn) (tb : xl_tb a_qe a_nextMps a_nextLps) (hR : ∀ v, R v < 65536) (hRw : R y < 2 ^ w) (eox : a_offsetX 1 = ox) (eoy : a_offsetY 1 = oy) (hox : -8 ≤ ox.toInt ∧ ox.toInt ≤ 8) (hoy : -7 ≤ oy.toInt ∧ oy.toInt ≤ 0) (hl : oy.toInt < 0 ∨ (oy.toInt = 0 ∧ ox.toInt < 0)) (G : im_G w R ox.toInt oy.toInt cn B)
    (e2 : x2 = nI (im_bf R y)) (e0 : z0 = nI (im_fl R y)) (eA : f_decA = nI (mq_step (im_img w R ox.toInt oy.toInt y) 229 (im_fl R y)).2.1) (I : de_I B n p (mq_step (im_img w R ox.toInt oy.toInt y) 229 (im_fl R y)).1 (mq_step (im_img w R ox.toInt oy.toInt y) 229 (im_fl R y)).2.2.1 f_decPos f_decC f_decCt) (hst : xl_st a_state a_preferred 1024 (mq_step (im_img w R ox.toInt oy.toInt y) 229 (im_fl R y)).2.2.2.1 (mq_step (im_img w R ox.toInt oy.toInt y) 229 (im_fl R y)).2.2.2.2) (ln : xl_ln a_lines 8 (de_R R y 0)) (hf1 : xl_fr 1024 sta0 a_state) (hf2 : xl_fr 1024 prf0 a_preferred)
    (K : ∀ (dA dP dC dCt : Int32) (sta prf lns cnt : Nat → Int32), de_D w R ox.toInt oy.toInt B n p (y + 1) dA dP dC dCt sta prf lns cnt → (∀ j, j < 8 → lns j = a_lines j) → xl_fr 1024 sta0 sta → xl_fr 1024 prf0 prf → cnt 0 = a_count 0 → post (nI w, f_height, f_slots, f_bodyLast, f_encA, f_encC, f_encCt, nI L, f_stored, f_openIndex, f_openRows, dP, dA, dC, dCt, a_qe, a_nextMps, a_nextLps, a_active, cnt, a_offsetX, a_offsetY, lns, sta, prf, a_body, a_tape, a_start)) : wX_decodeRow_32 post (nI y) x2 z0 (nI w) f_height f_slots f_bodyLast f_encA f_encC f_encCt (nI L) f_stored f_openIndex f_openRows f_decPos f_decA f_decC f_decCt a_qe a_nextMps a_nextLps a_active a_count a_offsetX a_offsetY a_lines a_state a_preferred a_body a_tape a_start := by
  subst e2 e0
  have ⟨i1, i2⟩ := im_imgw hw R ox.toInt oy.toInt y
  have ⟨s1, s2⟩ := mq_stw _ 229 (im_fl R y) i1
  have c8 : (nI (8 + y)).toNatClampNeg = 8 + y := nI_clamp (by omega)
  have vi : vp_in (nI (8 + y)) 16 := vp_in_nI (by omega) (by decide)
  have b2 := im_bf2 R y
  have f2 := im_fl2 R y
  have t2 := im_ty2 R y
  have ei : im_img w R ox.toInt oy.toInt (y + 1) = im_row w R ox.toInt oy.toInt y (im_img w R ox.toInt oy.toInt y) := rfl
  refine nm_r (nI_add 8 y) (pk_eq (im_bf R y) (im_fl R y) (fun h => ?_) (fun h => ?_))
  · have ht := (im_fl0 (R := R) (y := y)).1 h
    have er : im_row w R ox.toInt oy.toInt y (im_img w R ox.toInt oy.toInt y) = im_run w R ox.toInt oy.toInt y (mq_step (im_img w R ox.toInt oy.toInt y) 229 (im_fl R y)) w := by
      rw [im_row, ht, if_neg (by decide)]
    refine And.intro vi (nm_r (e' := upd a_lines (8 + y) (nI 0)) (by rw [c8]; rfl) ⟨w + 1, ?_⟩)
    refine xv_loop (ln0 := a_lines) (sta0 := sta0) (prf0 := prf0) hF hS hL hL2 hw hy hyc tb hR hRw eox eoy hox hoy hl s1 rfl ht G ?_ w (w + 1) 0 _ _ _ _ _ _ _ (by omega) (by omega) eA I hst ?_ ?_ hf1 hf2
    · intro dA dP dC dCt sta prf lns k1 k2 k3 k4 k5 k6 k7
      refine K _ _ _ _ _ _ _ _ ?_ k5 k6 k7 (pk_un (by decide))
      unfold de_D
      rw [ei, er]
      exact ⟨k1, k2, k3, k4, pk_us⟩
    · intro v hv
      by_cases z : v = y
      · subst z; rw [pk_us, de_Req, Nat.pow_zero, Nat.mod_one]
      · rw [pk_un (by omega)]; exact ln v hv
    · intro j hj; exact pk_un (by omega)
  · have ht := (im_fl0 (R := R) (y := y)).2 h
    have er : im_row w R ox.toInt oy.toInt y (im_img w R ox.toInt oy.toInt y) = mq_step (im_img w R ox.toInt oy.toInt y) 229 (im_fl R y) := by
      rw [im_row, ht, if_pos rfl]
    have ea : im_ab (de_R R y 0) y = R y := by
      have e1 : R y = im_ab R y := by
        unfold im_ty at ht
        by_cases z : R y = im_ab R y
        · exact z
        · rw [if_neg z] at ht; exact absurd ht (by decide)
      rw [e1]
      cases y with
      | zero => rfl
      | succ y => exact de_Rlo R (by omega)
    refine xt_above (side := 1) (by decide) hy ln ?_
    rw [ea]
    refine And.intro vi (nm_r (e' := upd a_lines (8 + y) (nI (R y))) (by rw [c8]) (nm_r (e' := upd a_count 1 (nI (y + 1))) (by rw [nI_1]) (K _ _ _ _ _ _ _ _ ?_ ?_ hf1 hf2 (pk_un (by decide)))))
    · unfold de_D
      rw [ei, er]
      refine ⟨eA, I, hst, ?_, pk_us⟩
      intro v hv
      by_cases z : v = y
      · subst z; rw [pk_us, de_Rlo R (by omega)]
      · rw [pk_un (by omega), ln v hv]
        rcases Nat.lt_or_ge v y with z2 | z2
        · rw [de_Rlo R z2, de_Rlo R (by omega)]
        · rw [de_Rhi R (by omega)]
          by_cases z3 : v = y + 1
          · rw [z3, de_Req, Nat.pow_zero, Nat.mod_one]
          · rw [de_Rhi R (by omega)]
    · intro j hj; exact pk_un (by omega)
theorem xv_row {post : SX → Prop} {w y cn L p n : Nat} {R B : Nat → Nat} {ox oy : Int32} (hF : st_F n B) (hS : tp_S a_tape p n B) (hL : p + n + 2 ≤ L) (hL2 : L ≤ 2048) (hw : w ≤ 16) (hy : y < 8) (hyc : y < cn) (tb : xl_tb a_qe a_nextMps a_nextLps) (hR : ∀ v, R v < 65536) (hRw : R y < 2 ^ w) (eox : a_offsetX 1 = ox) (eoy : a_offsetY 1 = oy) (hox : -8 ≤ ox.toInt ∧ ox.toInt ≤ 8) (hoy : -7 ≤ oy.toInt ∧ oy.toInt ≤ 0) (hl : oy.toInt < 0 ∨ (oy.toInt = 0 ∧ ox.toInt < 0)) (G : im_G w R ox.toInt oy.toInt cn B)
    (D : de_D w R ox.toInt oy.toInt B n p y f_decA f_decPos f_decC f_decCt a_state a_preferred a_lines a_count)
    (K : ∀ (dA dP dC dCt : Int32) (sta prf lns cnt : Nat → Int32), de_D w R ox.toInt oy.toInt B n p (y + 1) dA dP dC dCt sta prf lns cnt → (∀ j, j < 8 → lns j = a_lines j) → xl_fr 1024 a_state sta → xl_fr 1024 a_preferred prf → cnt 0 = a_count 0 → post (nI w, f_height, f_slots, f_bodyLast, f_encA, f_encC, f_encCt, nI L, f_stored, f_openIndex, f_openRows, dP, dA, dC, dCt, a_qe, a_nextMps, a_nextLps, a_active, cnt, a_offsetX, a_offsetY, lns, sta, prf, a_body, a_tape, a_start)) : wpX_decodeRow post (nI w, f_height, f_slots, f_bodyLast, f_encA, f_encC, f_encCt, nI L, f_stored, f_openIndex, f_openRows, f_decPos, f_decA, f_decC, f_decCt, a_qe, a_nextMps, a_nextLps, a_active, a_count, a_offsetX, a_offsetY, a_lines, a_state, a_preferred, a_body, a_tape, a_start) := by
  obtain ⟨eA, I, hst, ln, ec⟩ := D
  have ⟨i1, i2⟩ := im_imgw hw R ox.toInt oy.toInt y
  unfold wpX_decodeRow
  refine nm_r ec ?_
  refine xt_bf (side := 1) (by decide) (by omega) ln (de_Rl hR y 0) ?_
  rw [im_bfc (R := de_R R y 0) (R' := R) (fun i hi => de_Rlo R hi)]
  refine xd_bit (k := 229) (d := im_fl R y) hF hS hL hL2 i1 (by decide) (im_fl2 R y) tb hst eA I ?_ ?_
  · intro m e he
    exact G _ _ _ ⟨y, hyc, Or.inl ⟨rfl, rfl, rfl⟩⟩ m e he
  · intro dA dP dC dCt sta prf eA' I' hst' g1 g2
    have f2 := im_fl2 R y
    refine pk_eq (im_fl R y) 1 (fun h => ?_) (fun h => ?_)
    · exact xv_32 hF hS hL hL2 hw hy hyc tb hR hRw eox eoy hox hoy hl G rfl (by rw [h]; rfl) eA' I' hst' ln g1 g2 K
    · exact xv_32 hF hS hL hL2 hw hy hyc tb hR hRw eox eoy hox hoy hl G rfl (by rw [show im_fl R y = 0 by omega]; rfl) eA' I' hst' ln g1 g2 K
theorem xv_dec {post : Int32 → SX → Prop} {w y t cn L p n : Nat} {R B : Nat → Nat} {ox oy : Int32} {sta0 prf0 ln0 cnt0 : Nat → Int32} (hF : st_F n B) (hS : tp_S a_tape p n B) (hL : p + n + 2 ≤ L) (hL2 : L ≤ 2048) (hw : w ≤ 16) (hcn : cn ≤ 8) (hyc : y + t ≤ cn) (tb : xl_tb a_qe a_nextMps a_nextLps) (hR : ∀ v, R v < 65536) (hRw : ∀ v, R v < 2 ^ w) (eox : a_offsetX 1 = ox) (eoy : a_offsetY 1 = oy) (hox : -8 ≤ ox.toInt ∧ ox.toInt ≤ 8) (hoy : -7 ≤ oy.toInt ∧ oy.toInt ≤ 0) (hl : oy.toInt < 0 ∨ (oy.toInt = 0 ∧ ox.toInt < 0)) (G : im_G w R ox.toInt oy.toInt cn B)
    (K : ∀ (dA dP dC dCt : Int32) (sta prf lns cnt : Nat → Int32), de_D w R ox.toInt oy.toInt B n p (y + t) dA dP dC dCt sta prf lns cnt → (∀ j, j < 8 → lns j = ln0 j) → xl_fr 1024 sta0 sta → xl_fr 1024 prf0 prf → cnt 0 = cnt0 0 → post (nI t) (nI w, f_height, f_slots, f_bodyLast, f_encA, f_encC, f_encCt, nI L, f_stored, f_openIndex, f_openRows, dP, dA, dC, dCt, a_qe, a_nextMps, a_nextLps, a_active, cnt, a_offsetX, a_offsetY, lns, sta, prf, a_body, a_tape, a_start)) :
    ∀ (d m i : Nat) (f_decA f_decPos f_decC f_decCt : Int32) (a_state a_preferred a_lines a_count : Nat → Int32), i + d = t → d < m → de_D w R ox.toInt oy.toInt B n p (y + i) f_decA f_decPos f_decC f_decCt a_state a_preferred a_lines a_count → (∀ j, j < 8 → a_lines j = ln0 j) → xl_fr 1024 sta0 a_state → xl_fr 1024 prf0 a_preferred → a_count 0 = cnt0 0 → wX_decode_45 post (nI t) m (nI i) (nI w) f_height f_slots f_bodyLast f_encA f_encC f_encCt (nI L) f_stored f_openIndex f_openRows f_decPos f_decA f_decC f_decCt a_qe a_nextMps a_nextLps a_active a_count a_offsetX a_offsetY a_lines a_state a_preferred a_body a_tape a_start := by
  intro d
  induction d with
  | zero =>
    intro m i f_decA f_decPos f_decC f_decCt a_state a_preferred a_lines a_count hi hm D h1 h2 h3 h4
    obtain ⟨m, rfl⟩ : ∃ q, m = q + 1 := ⟨m - 1, by omega⟩
    obtain rfl : i = t := by omega
    exact br_t (Int32.le_refl _) (K _ _ _ _ _ _ _ _ D h1 h2 h3 h4)
  | succ d ih =>
    intro m i f_decA f_decPos f_decC f_decCt a_state a_preferred a_lines a_count hi hm D h1 h2 h3 h4
    obtain ⟨m, rfl⟩ : ∃ q, m = q + 1 := ⟨m - 1, by omega⟩
    refine br_f (nI_ge (by omega) (by omega)) ?_
    refine xv_row hF hS hL hL2 hw (by omega) (by omega) tb hR (hRw _) eox eoy hox hoy hl G D ?_
    intro dA dP dC dCt sta prf lns cnt D' k1 k2 k3 k4
    exact nm_r (nI_1 i) (ih m (i + 1) _ _ _ _ _ _ _ _ (by omega) (by omega) D' (fun j hj => (k1 j hj).trans (h1 j hj)) (xl_frt h2 k2) (xl_frt h3 k3) (k4.trans h4))
end
end
section
/-! the reference's walks -/
theorem yb_ext {a b w : Nat} (ha : a < 2 ^ w) (hb : b < 2 ^ w) (h : ∀ x, x < w → a / 2 ^ x % 2 = b / 2 ^ x % 2) : a = b := by
  apply Nat.eq_of_testBit_eq
  intro i
  rcases Nat.lt_or_ge i w with z | z
  · rw [Nat.testBit_eq_decide_div_mod_eq, Nat.testBit_eq_decide_div_mod_eq, h i z]
  · have p : 2 ^ w ≤ 2 ^ i := Nat.pow_le_pow_right (by decide) z
    rw [Nat.testBit_lt_two_pow (Nat.lt_of_lt_of_le ha p), Nat.testBit_lt_two_pow (Nat.lt_of_lt_of_le hb p)]
theorem yp_16 {w r : Nat} (hw : w ≤ 16) (h : r < 2 ^ w) : r < 65536 := Nat.lt_of_lt_of_le h (Nat.pow_le_pow_right (n := 2) (by decide) hw)
theorem yp_ab {w : Nat} {R : Nat → Nat} {x y : Nat} (hx : x < w) (hy : y ≤ 8) : im_px w R x ((y : Int) - 1) = im_ab R y / 2 ^ x % 2 := by
  cases y with
  | zero =>
    rw [im_px, if_neg (by omega), im_ab, Nat.zero_div]
  | succ y =>
    rw [im_px, if_pos (by omega), Int.toNat_natCast, im_ab, show ((y + 1 : Nat) : Int) - 1 = (y : Int) by omega, Int.toNat_natCast]
theorem yp_at {w : Nat} {R : Nat → Nat} {x y : Nat} (hx : x < w) (hy : y < 8) : im_px w R x y = R y / 2 ^ x % 2 := by
  rw [im_px, if_pos (by omega), Int.toNat_natCast, Int.toNat_natCast]
section
variable {f_w f_h f_s f_images f_coding f_openAt f_decoded : Int32} {b_lines b_count b_offX b_offY : Nat → Int32}
theorem yp_px {post : Int32 → Prop} {p w : Nat} {R : Nat → Nat} {p1 p2 : Int32} (hp : p < 4) (hw : w ≤ 16) (u v : Int) (ln : ∀ j : Nat, (j : Int) = v → j < 8 → b_lines (8 * p + j) = nI (R j) ∧ R j < 65536) (hu : p1.toInt = u) (hv : p2.toInt = v) (K : post (nI (im_px w R u v))) : wpY_pixel post (nI w, f_h, f_s, f_images, f_coding, f_openAt, f_decoded, b_lines, b_count, b_offX, b_offY) (nI p) p1 p2 := by
  have Z : ¬ (0 ≤ u ∧ u < w ∧ 0 ≤ v ∧ v < 8) → post 0 := fun z => by
    rw [im_px, if_neg z] at K; exact K
  by_cases h1 : p1 < 0
  · refine br_t h1 (Z ?_)
    rw [Int32.lt_iff_toInt_lt, hu, xi_0] at h1
    omega
  · obtain ⟨i, hi, rfl⟩ := nI_of h1
    rw [nI_toInt hi] at hu
    refine br_f h1 (pk_le w i (fun z => Z (by omega)) (fun z => ?_))
    by_cases h2 : p2 < 0
    · refine br_t h2 (Z ?_)
      rw [Int32.lt_iff_toInt_lt, hv, xi_0] at h2
      omega
    · obtain ⟨j, hj, rfl⟩ := nI_of h2
      rw [nI_toInt hj] at hv
      refine br_f h2 (pk_lt j 8 (fun z2 => And.intro (by rw [xk_8]; exact vp_in_nI (by omega) (by decide)) ?_) (fun z2 => Z (by omega)))
      have ⟨l1, hRj⟩ := ln j hv z2
      subst hu hv
      rw [im_px, if_pos (by omega), Int.toNat_natCast, Int.toNat_natCast] at K
      rw [xk_8, nI_clamp (by omega), l1, pk_shrN (by omega) _ i (s_l i (by omega)), pk_andN (Nat.lt_of_le_of_lt (Nat.div_le_self _ _) (by omega)) 1 (by decide)]
      exact K
theorem yt_loop {post : Int32 → Prop} {p w y : Nat} {R : Nat → Nat} (hp : p < 4) (hw : w ≤ 16) (hy : y < 8) (ln : ∀ j, j ≤ y → b_lines (8 * p + j) = nI (R j)) (hR : ∀ v, R v < 2 ^ w) (K : post (nI (im_ty R y))) : ∀ (d m x : Nat), x + d = w → d < m → (∀ i, i < x → R y / 2 ^ i % 2 = im_ab R y / 2 ^ i % 2) → wY_typical_2 post (nI p) (nI y) (nI w) f_h f_s f_images f_coding f_openAt f_decoded b_lines b_count b_offX b_offY m (nI x) := by
  have ln' : ∀ j : Nat, ∀ v : Int, v ≤ y → (j : Int) = v → j < 8 → b_lines (8 * p + j) = nI (R j) ∧ R j < 65536 := fun j v h1 h2 h3 => ⟨ln j (by omega), yp_16 hw (hR j)⟩
  have hab : im_ab R y < 2 ^ w := by
    cases y with
    | zero => exact Nat.two_pow_pos w
    | succ y => exact hR y
  intro d
  induction d with
  | zero =>
    intro m x hx hm I
    obtain ⟨m, rfl⟩ : ∃ q, m = q + 1 := ⟨m - 1, by omega⟩
    obtain rfl : x = w := by omega
    refine br_t (Int32.le_refl _) ?_
    rw [im_ty, if_pos (yb_ext (hR y) hab I)] at K
    exact K
  | succ d ih =>
    intro m x hx hm I
    obtain ⟨m, rfl⟩ : ∃ q, m = q + 1 := ⟨m - 1, by omega⟩
    have tx : (nI x).toInt = x := nI_toInt (by omega)
    have ty : (nI y).toInt = y := nI_toInt (by omega)
    refine br_f (nI_ge (by omega) (by omega)) ?_
    refine yp_px hp hw _ _ (fun j h1 h2 => ln' j y (by omega) h1 h2) tx ty ?_
    refine yp_px hp hw _ _ (fun j h1 h2 => ln' j ((y : Int) - 1) (by omega) h1 h2) tx (xi_sub ty xi_1 (by omega) (by omega)) ?_
    rw [yp_at (by omega) hy, yp_ab (by omega) (by omega)]
    have a := Nat.mod_lt (R y / 2 ^ x) (show 2 > 0 by decide)
    have b := Nat.mod_lt (im_ab R y / 2 ^ x) (show 2 > 0 by decide)
    refine pk_eq _ _ (fun h => nm_r (nI_1 x) (ih m (x + 1) (by omega) (by omega) ?_)) (fun h => ?_) rfl rfl (by omega) (by omega)
    · intro i hi
      by_cases z : i = x
      · rw [z]; exact h
      · exact I i (by omega)
    · rw [im_ty, if_neg (fun e => h (by rw [e]))] at K
      exact K
theorem yt_ty {post : Int32 → Prop} {p w y : Nat} {R : Nat → Nat} (hp : p < 4) (hw : w ≤ 16) (hy : y < 8) (ln : ∀ j, j ≤ y → b_lines (8 * p + j) = nI (R j)) (hR : ∀ v, R v < 2 ^ w) (K : post (nI (im_ty R y))) : wpY_typical post (nI w, f_h, f_s, f_images, f_coding, f_openAt, f_decoded, b_lines, b_count, b_offX, b_offY) (nI p) (nI y) :=
  ⟨w + 1, yt_loop hp hw hy ln hR K w (w + 1) 0 (by omega) (by omega) (fun i hi => absurd hi (by omega))⟩
/-- place i of the one holds what place j of the other holds -/
def yl_p (bl bc bx bz cl cc cx cz : Nat → Int32) (i j : Nat) : Prop := (∀ y, y < 8 → bl (8 * i + y) = cl (8 * j + y)) ∧ bc i = cc j ∧ bx i = cx j ∧ bz i = cz j
theorem yc_loop {post : SY → Prop} {a b : Nat} {l0 : Nat → Int32} (ha : a < 4) (hb : b < 4) (hab : a ≠ b)
    (K : ∀ bl : Nat → Int32, (∀ y, y < 8 → bl (8 * b + y) = l0 (8 * a + y)) → (∀ j, (j < 8 * b ∨ 8 * b + 8 ≤ j) → bl j = l0 j) → post (f_w, f_h, f_s, f_images, f_coding, f_openAt, f_decoded, bl, upd b_count b (b_count a), upd b_offX b (b_offX a), upd b_offY b (b_offY a))) :
    ∀ (d m i : Nat) (b_lines : Nat → Int32), i + d = 8 → d < m → (∀ y, y < i → b_lines (8 * b + y) = l0 (8 * a + y)) → (∀ j, (j < 8 * b ∨ 8 * b + i ≤ j) → b_lines j = l0 j) → wY_copy_2 post (nI a) (nI b) f_w f_h f_s f_images f_coding f_openAt f_decoded m (nI i) b_lines b_count b_offX b_offY := by
  have va : vp_in (nI a) 4 := vp_in_nI ha (by decide)
  have vb : vp_in (nI b) 4 := vp_in_nI hb (by decide)
  have ca : (nI a).toNatClampNeg = a := nI_clamp (by omega)
  have cb : (nI b).toNatClampNeg = b := nI_clamp (by omega)
  intro d
  induction d with
  | zero =>
    intro m i b_lines hi hm h1 h2
    obtain ⟨m, rfl⟩ : ∃ q, m = q + 1 := ⟨m - 1, by omega⟩
    obtain rfl : i = 8 := by omega
    refine br_t (Int32.le_refl _) (And.intro va (And.intro vb (nm_r (e' := upd b_count b (b_count a)) (by rw [ca, cb]) (And.intro va (And.intro vb (nm_r (e' := upd b_offX b (b_offX a)) (by rw [ca, cb]) (And.intro va (And.intro vb (nm_r (e' := upd b_offY b (b_offY a)) (by rw [ca, cb]) (K b_lines h1 h2))))))))))
  | succ d ih =>
    intro m i b_lines hi hm h1 h2
    obtain ⟨m, rfl⟩ : ∃ q, m = q + 1 := ⟨m - 1, by omega⟩
    refine br_f (nI_ge (b := 8) (by omega) (by decide)) (And.intro (by rw [xk_8]; exact vp_in_nI (by omega) (by decide)) (And.intro (by rw [xk_8]; exact vp_in_nI (by omega) (by decide)) (nm_r (e' := upd b_lines (8 * b + i) (l0 (8 * a + i))) (by rw [xk_8, xk_8, nI_clamp (by omega), nI_clamp (by omega), h2 (8 * a + i) (by omega)]) (nm_r (nI_1 i) (ih m (i + 1) _ (by omega) (by omega) ?_ ?_)))))
    · intro y hy
      by_cases z : y = i
      · rw [z, pk_us]
      · rw [pk_un (by omega)]; exact h1 y (by omega)
    · intro j hj
      rw [pk_un (by omega)]; exact h2 j (by omega)
theorem yc_copy {post : SY → Prop} {a b : Nat} (ha : a < 4) (hb : b < 4) (hab : a ≠ b)
    (K : ∀ bl bc bx bz : Nat → Int32, yl_p bl bc bx bz b_lines b_count b_offX b_offY b a → (∀ i, i ≠ b → yl_p bl bc bx bz b_lines b_count b_offX b_offY i i) → post (f_w, f_h, f_s, f_images, f_coding, f_openAt, f_decoded, bl, bc, bx, bz)) : wpY_copy post (f_w, f_h, f_s, f_images, f_coding, f_openAt, f_decoded, b_lines, b_count, b_offX, b_offY) (nI a) (nI b) := by
  refine ⟨9, yc_loop (l0 := b_lines) ha hb hab (fun bl k1 k2 => K bl _ _ _ ⟨k1, pk_us, pk_us, pk_us⟩ (fun i hi => ⟨fun y hy => k2 _ (by omega), pk_un hi, pk_un hi, pk_un hi⟩)) 8 9 0 _ (by omega) (by omega) (fun y hy => absurd hy (by omega)) (fun _ _ => rfl)⟩
theorem yl_t {bl bc bx bz cl cc cx cz dl dc dx dz : Nat → Int32} {i j k : Nat} (h : yl_p bl bc bx bz cl cc cx cz i j) (g : yl_p cl cc cx cz dl dc dx dz j k) : yl_p bl bc bx bz dl dc dx dz i k :=
  ⟨fun y hy => (h.1 y hy).trans (g.1 y hy), h.2.1.trans g.2.1, h.2.2.1.trans g.2.2.1, h.2.2.2.trans g.2.2.2⟩
theorem yl_r (bl bc bx bz : Nat → Int32) (i : Nat) : yl_p bl bc bx bz bl bc bx bz i i := ⟨fun _ _ => rfl, rfl, rfl, rfl⟩
theorem yk_loop {post : Int32 → SY → Prop} {S : Nat} {l0 c0 x0 z0 : Nat → Int32} (hS : 1 ≤ S ∧ S ≤ 3)
    (K : ∀ bl bc bx bz : Nat → Int32, (∀ i, i + 1 < S → yl_p bl bc bx bz l0 c0 x0 z0 i (i + 1)) → yl_p bl bc bx bz l0 c0 x0 z0 3 3 → ((f_openAt < 0 → post 0 (f_w, f_h, f_s, nI (S - 1), f_coding, f_openAt, f_decoded, bl, bc, bx, bz)) ∧ (¬ f_openAt < 0 → post 0 (f_w, f_h, f_s, nI (S - 1), f_coding, f_openAt - 1, f_decoded, bl, bc, bx, bz)))) :
    ∀ (d m q : Nat) (b_lines b_count b_offX b_offY : Nat → Int32), q + d = S → d < m → 1 ≤ q → (∀ i, i + 1 < q → yl_p b_lines b_count b_offX b_offY l0 c0 x0 z0 i (i + 1)) → (∀ i, q ≤ i + 1 → yl_p b_lines b_count b_offX b_offY l0 c0 x0 z0 i i) → wY_take_11 post m (nI q) f_w f_h f_s (nI S) f_coding f_openAt f_decoded b_lines b_count b_offX b_offY := by
  intro d
  induction d with
  | zero =>
    intro m q b_lines b_count b_offX b_offY hq hm h1 g1 g2
    obtain ⟨m, rfl⟩ : ∃ q, m = q + 1 := ⟨m - 1, by omega⟩
    obtain rfl : q = S := by omega
    have k := K b_lines b_count b_offX b_offY g1 (g2 3 (by omega))
    exact br_t (Int32.le_refl _) (nm_r (pk_sub (b := 1) h1) ⟨k.1, fun z => nm_e (k.2 z)⟩)
  | succ d ih =>
    intro m q b_lines b_count b_offX b_offY hq hm h1 g1 g2
    obtain ⟨m, rfl⟩ : ∃ q, m = q + 1 := ⟨m - 1, by omega⟩
    refine br_f (nI_ge (by omega) (by omega)) ?_
    rw [show nI q - 1 = nI (q - 1) from pk_sub (b := 1) h1]
    refine yc_copy (by omega) (by omega) (by omega) ?_
    intro bl bc bx bz k1 k2
    refine nm_r (nI_1 q) (ih m (q + 1) _ _ _ _ (by omega) (by omega) (by omega) ?_ ?_)
    · intro i hi
      by_cases z : i = q - 1
      · rw [z, Nat.sub_add_cancel h1]
        exact yl_t k1 (g2 q (by omega))
      · exact yl_t (k2 i z) (g1 i (by omega))
    · intro i hi
      exact yl_t (k2 i (by omega)) (g2 i (by omega))
end
end
section
/-! the relation -/
def rl_lg (ox oy : Int32) : Prop := (-8 ≤ ox.toInt ∧ ox.toInt ≤ 8) ∧ (-7 ≤ oy.toInt ∧ oy.toInt ≤ 0) ∧ (oy.toInt < 0 ∨ (oy.toInt = 0 ∧ ox.toInt < 0))
def rl_K (w h sl S : Nat) (f_width f_height f_slots f_stored f_w f_h f_s f_images : Int32) : Prop :=
  f_width = nI w ∧ f_w = nI w ∧ f_height = nI h ∧ f_h = nI h ∧ f_slots = nI sl ∧ f_s = nI sl ∧ f_stored = nI S ∧ f_images = nI S ∧ 4 ≤ w ∧ w ≤ 16 ∧ 1 ≤ h ∧ h ≤ 8 ∧ 1 ≤ sl ∧ sl ≤ 3 ∧ S ≤ sl
/-- image i of the reference lies at p on the tape, with n bytes B -/
def rl_im (w : Nat) (tape bl bc bx bz : Nat → Int32) (i p cn n : Nat) (R B : Nat → Nat) : Prop :=
  bc i = nI cn ∧ 1 ≤ cn ∧ cn ≤ 8 ∧ (∀ v, v < cn → bl (8 * i + v) = nI (R v)) ∧ (∀ v, R v < 2 ^ w) ∧ rl_lg (bx i) (bz i) ∧ tape p &&& 255 = nI cn ∧ tape (p + 1) &&& 255 = bx i + 8 ∧ tape (p + 2) &&& 255 = -(bz i) ∧ st_F n B ∧ tp_S tape (p + 3) n B ∧ im_G w R (bx i).toInt (bz i).toInt cn B
def rl_T (w S : Nat) (ps nn cc : Nat → Nat) (RR BB : Nat → Nat → Nat) (tl : Int32) (tape start bl bc bx bz : Nat → Int32) : Prop :=
  ps 0 = 0 ∧ (∀ i, i < S → ps (i + 1) = ps i + nn i + 5) ∧ tl = nI (ps S) ∧ (∀ i, i ≤ S → start i = nI (ps i)) ∧ ∀ i, i < S → rl_im w tape bl bc bx bz i (ps i) (cc i) (nn i) (RR i) (BB i)
/-- the image that is being coded -/
def rl_C (w h sl S : Nat) (act cod cnt ox oy bcnt box boy eA eC eCt eB : Int32) (lns sta prf body bl : Nat → Int32) : Prop :=
  (act = 0 ∧ cod = 0) ∨ (act = 1 ∧ cod = 1 ∧ S < sl ∧ ∃ (cy : Nat) (R : Nat → Nat), cy ≤ h ∧ cnt = nI cy ∧ bcnt = nI cy ∧ box = ox ∧ boy = oy ∧ rl_lg ox oy ∧ (∀ v, v < cy → bl (24 + v) = nI (R v)) ∧ (∀ v, R v < 2 ^ w) ∧ (∀ v, cy ≤ v → R v = 0) ∧ xl_ln lns 0 R ∧
    en_I (im_H w R ox.toInt oy.toInt cy) (im_img w R ox.toInt oy.toInt cy).1 (im_img w R ox.toInt oy.toInt cy).2.1 (im_img w R ox.toInt oy.toInt cy).2.2.1 eA eC eCt eB body ∧ xl_st sta prf 0 (im_img w R ox.toInt oy.toInt cy).2.2.2.1 (im_img w R ox.toInt oy.toInt cy).2.2.2.2)
/-- the image that is being read -/
def rl_D (w S : Nat) (ps nn cc : Nat → Nat) (RR BB : Nat → Nat → Nat) (act opn dcd oidx orow ox oy dA dP dC dCt : Int32) (bx bz sta prf lns cnt : Nat → Int32) : Prop :=
  (act = 0 ∧ opn = -1) ∨ (act = 1 ∧ ∃ o y, o < S ∧ opn = nI o ∧ oidx = nI o ∧ orow = nI (cc o) ∧ y ≤ cc o ∧ dcd = nI y ∧ ox = bx o ∧ oy = bz o ∧ de_D w (RR o) (bx o).toInt (bz o).toInt (BB o) (nn o) (ps o + 3) y dA dP dC dCt sta prf lns cnt)
/-- the relation -/
def i_Rel (k : Nat) (u : SX) (v : SY) : Prop := match u, v with
  | (f_width, f_height, f_slots, f_bodyLast, f_encA, f_encC, f_encCt, f_tapeLength, f_stored, f_openIndex, f_openRows, f_decPos, f_decA, f_decC, f_decCt, a_qe, a_nextMps, a_nextLps, a_active, a_count, a_offsetX, a_offsetY, a_lines, a_state, a_preferred, a_body, a_tape, a_start), (f_w, f_h, f_s, f_images, f_coding, f_openAt, f_decoded, b_lines, b_count, b_offX, b_offY) => ∃ (w h sl S : Nat) (ps nn cc : Nat → Nat) (RR BB : Nat → Nat → Nat),
    rl_K w h sl S f_width f_height f_slots f_stored f_w f_h f_s f_images ∧ xl_tb a_qe a_nextMps a_nextLps ∧
    rl_T w S ps nn cc RR BB f_tapeLength a_tape a_start b_lines b_count b_offX b_offY ∧
    rl_C w h sl S (a_active 0) f_coding (a_count 0) (a_offsetX 0) (a_offsetY 0) (b_count 3) (b_offX 3) (b_offY 3) f_encA f_encC f_encCt f_bodyLast a_lines a_state a_preferred a_body b_lines ∧
    rl_D w S ps nn cc RR BB (a_active 1) f_openAt f_decoded f_openIndex f_openRows (a_offsetX 1) (a_offsetY 1) f_decA f_decPos f_decC f_decCt b_offX b_offY a_state a_preferred a_lines a_count
theorem i_up {k : Nat} {u : SX} {v : SY} (h : i_Rel k u v) : i_Rel (k + 4) u v := h
theorem rl_ps {w S : Nat} {ps nn cc : Nat → Nat} {RR BB : Nat → Nat → Nat} {tl : Int32} {tape start bl bc bx bz : Nat → Int32} (h : rl_T w S ps nn cc RR BB tl tape start bl bc bx bz) : ∀ i, i ≤ S → ps i ≤ 355 * i := by
  obtain ⟨h1, h2, h3, h4, h5⟩ := h
  intro i
  induction i with
  | zero => intro _; rw [h1]; exact Nat.zero_le _
  | succ i ih =>
    intro hi
    have a := ih (by omega)
    have b := h2 i (by omega)
    have c := (h5 i (by omega)).2.2.2.2.2.2.2.2.2.1.2.2.2.2.2
    omega
theorem rl_pm {w S : Nat} {ps nn cc : Nat → Nat} {RR BB : Nat → Nat → Nat} {tl : Int32} {tape start bl bc bx bz : Nat → Int32} (h : rl_T w S ps nn cc RR BB tl tape start bl bc bx bz) : ∀ d i, i + d ≤ S → ps i + 5 * d ≤ ps (i + d) := by
  intro d
  induction d with
  | zero => intro i _; exact Nat.le_refl _
  | succ d ih =>
    intro i hi
    have a := ih i (by omega)
    have b := h.2.1 (i + d) (by omega)
    rw [← Nat.add_assoc, b]
    omega
theorem rl_pe {w S : Nat} {ps nn cc : Nat → Nat} {RR BB : Nat → Nat → Nat} {tl : Int32} {tape start bl bc bx bz : Nat → Int32} (h : rl_T w S ps nn cc RR BB tl tape start bl bc bx bz) {i : Nat} (hi : i < S) : ps i + nn i + 5 ≤ ps S := by
  have a := rl_pm h (S - (i + 1)) (i + 1) (by omega)
  have b := h.2.1 i hi
  rw [show i + 1 + (S - (i + 1)) = S by omega] at a
  omega
/-- one side, as the queries see it -/
def rl_sd (w : Nat) (v1 : Int32) (u : SX) (v : SY) (lns cnt ofx ofy bl bx bz : Nat → Int32) : Prop :=
  (∃ e : Int32, (e = -1 ∨ e = -2) ∧ (∀ post : Int32 → Prop, post e → wpX_checkSide post u v1) ∧ (∀ post : Int32 → Prop, post e → wpY_place post v v1)) ∨
  (∃ (side p c : Nat) (R : Nat → Nat), v1 = nI side ∧ side < 2 ∧ p < 4 ∧ (∀ post : Int32 → Prop, post 0 → wpX_checkSide post u v1) ∧ (∀ post : Int32 → Prop, post (nI p) → wpY_place post v v1) ∧ (∀ post : Int32 → Prop, post (nI c) → wpY_rows post v v1) ∧ cnt side = nI c ∧ c ≤ 8 ∧ ofx side = bx p ∧ ofy side = bz p ∧ rl_lg (bx p) (bz p) ∧ xl_ln lns (8 * side) R ∧ (∀ v, v < c → bl (8 * p + v) = nI (R v)) ∧ ∀ v, R v < 2 ^ w)
section
variable {f_width f_height f_slots f_bodyLast f_encA f_encC f_encCt f_tapeLength f_stored f_openIndex f_openRows f_decPos f_decA f_decC f_decCt : Int32} {a_qe a_nextMps a_nextLps a_active a_count a_offsetX a_offsetY a_lines a_state a_preferred a_body a_tape a_start : Nat → Int32}
variable {f_w f_h f_s f_images f_coding f_openAt f_decoded : Int32} {b_lines b_count b_offX b_offY : Nat → Int32}
theorem rl_side {k : Nat} (I : i_Rel k (f_width, f_height, f_slots, f_bodyLast, f_encA, f_encC, f_encCt, f_tapeLength, f_stored, f_openIndex, f_openRows, f_decPos, f_decA, f_decC, f_decCt, a_qe, a_nextMps, a_nextLps, a_active, a_count, a_offsetX, a_offsetY, a_lines, a_state, a_preferred, a_body, a_tape, a_start) (f_w, f_h, f_s, f_images, f_coding, f_openAt, f_decoded, b_lines, b_count, b_offX, b_offY)) (v1 : Int32) : ∃ w, 4 ≤ w ∧ w ≤ 16 ∧ f_width = nI w ∧ f_w = nI w ∧ rl_sd w v1 (f_width, f_height, f_slots, f_bodyLast, f_encA, f_encC, f_encCt, f_tapeLength, f_stored, f_openIndex, f_openRows, f_decPos, f_decA, f_decC, f_decCt, a_qe, a_nextMps, a_nextLps, a_active, a_count, a_offsetX, a_offsetY, a_lines, a_state, a_preferred, a_body, a_tape, a_start) (f_w, f_h, f_s, f_images, f_coding, f_openAt, f_decoded, b_lines, b_count, b_offX, b_offY) a_lines a_count a_offsetX a_offsetY b_lines b_offX b_offY := by
  obtain ⟨w, h, sl, S, ps, nn, cc, RR, BB, hK, tb, hT, hC, hD⟩ := I
  obtain ⟨k1, k2, k3, k4, k5, k6, k7, k8, k9, k10, k11, k12, k13, k14, k15⟩ := hK
  refine ⟨w, k9, k10, k1, k2, ?_⟩
  by_cases h0 : v1 = 0
  · subst h0
    have vi : vp_in (0 : Int32) 2 := vp_in_nI (n := 0) (by decide) (by decide)
    rcases hC with ⟨c1, c2⟩ | ⟨c1, c2, c3, cy, R, c4, c5, c6, c7, c8, c9, c10, c11, c12, c13, c14, c15⟩
    · refine Or.inl ⟨-1, Or.inl rfl, fun post hp => ?_, fun post hp => ?_⟩
      · exact br_t rfl (And.intro vi (br_t c1 hp))
      · exact br_t rfl (br_t rfl (br_t c2 hp))
    · refine Or.inr ⟨0, 3, cy, R, rfl, by decide, by decide, fun post hp => ?_, fun post hp => ?_, fun post hp => ?_, c5, by omega, c7.symm, c8.symm, ?_, c13, c10, c11⟩
      · exact br_t rfl (And.intro vi (br_f (fun z => absurd (c1.symm.trans z) (by decide)) hp))
      · exact br_t rfl (br_t rfl (br_f (by rw [c2]; decide) hp))
      · exact br_t rfl (br_t rfl (br_f (by rw [c2]; decide) (br_t (by decide) (br_t rfl (by rw [c6]; exact hp)))))
      · rw [c7, c8]; exact c9
  · by_cases h1 : v1 = 1
    · subst h1
      have vi : vp_in (1 : Int32) 2 := vp_in_nI (n := 1) (by decide) (by decide)
      rcases hD with ⟨d1, d2⟩ | ⟨d1, o, y, d2, d3, d4, d5, d6, d7, d8, d9, d10⟩
      · refine Or.inl ⟨-1, Or.inl rfl, fun post hp => ?_, fun post hp => ?_⟩
        · exact br_f (by decide) (br_t rfl (And.intro vi (br_t d1 hp)))
        · exact br_f (by decide) (br_t rfl (br_f (by decide) (br_t (by rw [d2]; decide) hp)))
      · have im := hT.2.2.2.2 o d2
        obtain ⟨m1, m2, m3, m4, m5, m6, _⟩ := im
        obtain ⟨e1, e2, e3, e4, e5⟩ := d10
        refine Or.inr ⟨1, o, y, de_R (RR o) y 0, rfl, by decide, by omega, fun post hp => ?_, fun post hp => ?_, fun post hp => ?_, e5, by omega, d8, d9, m6, e4, ?_, ?_⟩
        · exact br_f (by decide) (br_t rfl (And.intro vi (br_f (fun z => absurd (d1.symm.trans z) (by decide)) hp)))
        · exact br_f (by decide) (br_t rfl (br_f (by decide) (br_f (by rw [d3]; exact nI_pos (by omega)) (by rw [d3]; exact hp))))
        · refine br_f (by decide) (br_t rfl (br_f (by decide) (br_f (by rw [d3]; exact nI_pos (by omega)) (br_t (by rw [d3]; exact nI_pos' (by omega)) (br_f (by decide) ?_)))))
          rw [d7]; exact hp
        · intro v hv
          rw [de_Rlo _ hv]
          exact m4 v (by omega)
        · intro v
          have p2 := Nat.two_pow_pos w
          rcases Nat.lt_trichotomy v y with z | z | z
          · rw [de_Rlo _ z]; exact m5 v
          · rw [z, de_Req, Nat.pow_zero, Nat.mod_one]; exact p2
          · rw [de_Rhi _ z]; exact p2
    · refine Or.inl ⟨-2, Or.inr rfl, fun post hp => ?_, fun post hp => ?_⟩
      · exact br_f h0 (br_f h1 hp)
      · exact br_f h0 (br_f h1 hp)
end
theorem rl_e {e : Int32} (h : e = -1 ∨ e = -2) : ¬ e = 0 ∧ ¬ 0 ≤ e := by
  rcases h with rfl | rfl <;> decide
end
section
/-! the queries -/
theorem i_vc_rows {k : Nat} {u : SX} {v : SY} (I : i_Rel k u v) (hk : k + 4 ≤ 2051) (v1 : Int32) : wpX_rows (fun r => wpY_rows (fun r' => r' = r ∧ i_Rel (k + 4) u v) v v1) u v1 := by
  obtain ⟨f_width, f_height, f_slots, f_bodyLast, f_encA, f_encC, f_encCt, f_tapeLength, f_stored, f_openIndex, f_openRows, f_decPos, f_decA, f_decC, f_decCt, a_qe, a_nextMps, a_nextLps, a_active, a_count, a_offsetX, a_offsetY, a_lines, a_state, a_preferred, a_body, a_tape, a_start⟩ := u
  obtain ⟨f_w, f_h, f_s, f_images, f_coding, f_openAt, f_decoded, b_lines, b_count, b_offX, b_offY⟩ := v
  obtain ⟨w, w1, w2, rfl, rfl, hs⟩ := rl_side I v1
  unfold wpX_rows
  rcases hs with ⟨e, he, hx, hy⟩ | ⟨side, p, c, R, rfl, s1, s2, hx, hy, hr, s3, s4, s5, s6, s7, s8, s9, s10⟩
  · refine hx _ (br_f (rl_e he).1 ?_)
    unfold wpY_rows
    exact hy _ (br_f (rl_e he).2 ⟨rfl, I⟩)
  · refine hx _ (br_t rfl (And.intro (vp_in_nI s1 (by decide)) ?_))
    refine hr _ ⟨?_, I⟩
    rw [nI_clamp (by omega), s3]
theorem i_vc_adaptive {k : Nat} {u : SX} {v : SY} (I : i_Rel k u v) (hk : k + 4 ≤ 2051) (v1 : Int32) : wpX_adaptive (fun r => wpY_adaptive (fun r' => r' = r ∧ i_Rel (k + 4) u v) v v1) u v1 := by
  obtain ⟨f_width, f_height, f_slots, f_bodyLast, f_encA, f_encC, f_encCt, f_tapeLength, f_stored, f_openIndex, f_openRows, f_decPos, f_decA, f_decC, f_decCt, a_qe, a_nextMps, a_nextLps, a_active, a_count, a_offsetX, a_offsetY, a_lines, a_state, a_preferred, a_body, a_tape, a_start⟩ := u
  obtain ⟨f_w, f_h, f_s, f_images, f_coding, f_openAt, f_decoded, b_lines, b_count, b_offX, b_offY⟩ := v
  obtain ⟨w, w1, w2, rfl, rfl, hs⟩ := rl_side I v1
  unfold wpX_adaptive
  rcases hs with ⟨e, he, hx, hy⟩ | ⟨side, p, c, R, rfl, s1, s2, hx, hy, hr, s3, s4, s5, s6, s7, s8, s9, s10⟩
  · refine hx _ (br_f (rl_e he).1 ?_)
    unfold wpY_adaptive
    exact hy _ (br_f (rl_e he).2 ⟨rfl, I⟩)
  · have vi : vp_in (nI side) 2 := vp_in_nI s1 (by decide)
    have vj : vp_in (nI p) 4 := vp_in_nI s2 (by decide)
    refine hx _ (br_t rfl (And.intro vi (And.intro vi ?_)))
    unfold wpY_adaptive
    refine hy _ (br_t (nI_pos' (by omega)) (And.intro vj (And.intro vj ⟨?_, I⟩)))
    rw [nI_clamp (by omega), nI_clamp (by omega), s5, s6]
theorem i_vc_line {k : Nat} {u : SX} {v : SY} (I : i_Rel k u v) (hk : k + 4 ≤ 2051) (v1 : Int32) (v2 : Int32) : wpX_line (fun r => wpY_line (fun r' => r' = r ∧ i_Rel (k + 4) u v) v v1 v2) u v1 v2 := by
  obtain ⟨f_width, f_height, f_slots, f_bodyLast, f_encA, f_encC, f_encCt, f_tapeLength, f_stored, f_openIndex, f_openRows, f_decPos, f_decA, f_decC, f_decCt, a_qe, a_nextMps, a_nextLps, a_active, a_count, a_offsetX, a_offsetY, a_lines, a_state, a_preferred, a_body, a_tape, a_start⟩ := u
  obtain ⟨f_w, f_h, f_s, f_images, f_coding, f_openAt, f_decoded, b_lines, b_count, b_offX, b_offY⟩ := v
  obtain ⟨w, w1, w2, rfl, rfl, hs⟩ := rl_side I v1
  unfold wpX_line wpX_checkRow
  rcases hs with ⟨e, he, hx, hy⟩ | ⟨side, p, c, R, rfl, s1, s2, hx, hy, hr, s3, s4, s5, s6, s7, s8, s9, s10⟩
  · refine hx _ (br_f (rl_e he).1 (br_f (rl_e he).1 ?_))
    unfold wpY_line
    exact hy _ (br_f (rl_e he).2 ⟨rfl, I⟩)
  · have vi : vp_in (nI side) 2 := vp_in_nI s1 (by decide)
    have c1 : a_count (nI side).toNatClampNeg = nI c := by rw [nI_clamp (by omega), s3]
    have hpos : (0 : Int32) ≤ nI p := nI_pos' (by omega)
    refine hx _ (br_t rfl ?_)
    by_cases h0 : v2 < 0
    · refine br_t h0 (br_f (by decide) ?_)
      unfold wpY_line
      exact hy _ (br_t hpos (hr _ (br_t h0 ⟨rfl, I⟩)))
    · obtain ⟨y, hy2, rfl⟩ := nI_of h0
      refine br_f h0 (And.intro vi ?_)
      rw [c1]
      by_cases h1 : y < c
      · have l1 : nI y < nI c := nI_lt h1 (by omega)
        refine br_t l1 (br_t rfl (And.intro (by rw [xk_8]; exact vp_in_nI (by omega) (by decide)) ?_))
        unfold wpY_line
        refine hy _ (br_t hpos (hr _ (br_f h0 (br_t l1 (And.intro (by rw [xk_8]; exact vp_in_nI (by omega) (by decide)) ⟨?_, I⟩)))))
        rw [xk_8, xk_8, nI_clamp (by omega), nI_clamp (by omega), s9 y h1, s8 y (by omega)]
      · have l1 : ¬ nI y < nI c := nI_nlt (by omega) hy2
        refine br_f l1 (br_f (by decide) ?_)
        unfold wpY_line
        exact hy _ (br_t hpos (hr _ (br_f h0 (br_f l1 ⟨rfl, I⟩))))
theorem yk_10 (a1 a2 a3 a4 a5 a6 a7 a8 a9 a10 : Nat) : ((((((((((512 : Int32) * nI a1) + (256 * nI a2)) + (128 * nI a3)) + (64 * nI a4)) + (32 * nI a5)) + (16 * nI a6)) + (8 * nI a7)) + (4 * nI a8)) + (2 * nI a9)) + nI a10 = nI (512 * a1 + 256 * a2 + 128 * a3 + 64 * a4 + 32 * a5 + 16 * a6 + 8 * a7 + 4 * a8 + 2 * a9 + a10) := by
  show ((((((((((nI 512) * nI a1) + (nI 256 * nI a2)) + (nI 128 * nI a3)) + (nI 64 * nI a4)) + (nI 32 * nI a5)) + (nI 16 * nI a6)) + (nI 8 * nI a7)) + (nI 4 * nI a8)) + (nI 2 * nI a9)) + nI a10 = _
  rw [pk_mul, pk_mul, pk_mul, pk_mul, pk_mul, pk_mul, pk_mul, pk_mul, pk_mul, nI_add, nI_add, nI_add, nI_add, nI_add, nI_add, nI_add, nI_add, nI_add]
theorem i_vc_context {k : Nat} {u : SX} {v : SY} (I : i_Rel k u v) (hk : k + 4 ≤ 2051) (v1 : Int32) (v2 : Int32) (v3 : Int32) : wpX_context (fun r => wpY_context (fun r' => r' = r ∧ i_Rel (k + 4) u v) v v1 v2 v3) u v1 v2 v3 := by
  obtain ⟨f_width, f_height, f_slots, f_bodyLast, f_encA, f_encC, f_encCt, f_tapeLength, f_stored, f_openIndex, f_openRows, f_decPos, f_decA, f_decC, f_decCt, a_qe, a_nextMps, a_nextLps, a_active, a_count, a_offsetX, a_offsetY, a_lines, a_state, a_preferred, a_body, a_tape, a_start⟩ := u
  obtain ⟨f_w, f_h, f_s, f_images, f_coding, f_openAt, f_decoded, b_lines, b_count, b_offX, b_offY⟩ := v
  obtain ⟨w, w1, w2, rfl, rfl, hs⟩ := rl_side I v1
  unfold wpX_context wpX_checkRow
  rcases hs with ⟨e, he, hx, hy⟩ | ⟨side, p, c, R, rfl, s1, s2, hx, hy, hr, s3, s4, s5, s6, s7, s8, s9, s10⟩
  · refine hx _ (br_f (rl_e he).1 (br_f (rl_e he).1 ?_))
    unfold wpY_context
    exact hy _ (br_f (rl_e he).2 ⟨rfl, I⟩)
  · have vi : vp_in (nI side) 2 := vp_in_nI s1 (by decide)
    have vj : vp_in (nI p) 4 := vp_in_nI s2 (by decide)
    have c1 : a_count (nI side).toNatClampNeg = nI c := by rw [nI_clamp (by omega), s3]
    have hpos : (0 : Int32) ≤ nI p := nI_pos' (by omega)
    refine hx _ (br_t rfl ?_)
    by_cases h0 : v3 < 0
    · refine br_t h0 (br_f (by decide) ?_)
      unfold wpY_context
      exact hy _ (br_t hpos (hr _ (br_t h0 ⟨rfl, I⟩)))
    · obtain ⟨y, hy2, rfl⟩ := nI_of h0
      refine br_f h0 (And.intro vi ?_)
      rw [c1]
      by_cases h1 : y < c
      · have l1 : nI y < nI c := nI_lt h1 (by omega)
        refine br_t l1 (br_t rfl ?_)
        by_cases h2 : v2 < 0
        · refine br_t h2 ?_
          unfold wpY_context
          exact hy _ (br_t hpos (hr _ (br_f h0 (br_t l1 (br_t h2 ⟨rfl, I⟩)))))
        · obtain ⟨x, hx2, rfl⟩ := nI_of h2
          by_cases h3 : x < w
          · have l3 : nI x < nI w := nI_lt h3 (by omega)
            have tx : (nI x).toInt = x := nI_toInt (by omega)
            have ty : (nI y).toInt = y := nI_toInt (by omega)
            have cp : (nI p).toNatClampNeg = p := nI_clamp (by omega)
            have ln : ∀ (v : Int), v ≤ y → ∀ j : Nat, (j : Int) = v → j < 8 → b_lines (8 * p + j) = nI (R j) ∧ R j < 65536 := fun v hv j h1 h2 => ⟨s9 j (by omega), yp_16 w2 (s10 j)⟩
            obtain ⟨g1, g2, g3⟩ := s7
            refine br_f h2 (br_t l3 ?_)
            refine xp_cx s1 w2 s8 (fun v => yp_16 w2 (s10 v)) (by omega) (by omega) s5 s6 g1 g2 ?_
            unfold wpY_context
            refine hy _ (br_t hpos (hr _ (br_f h0 (br_t l1 (br_f h2 (br_t l3 ?_))))))
            refine yp_px s2 w2 _ _ (ln _ (by omega)) (xi_sub tx xi_1 (by omega) (by omega)) (xi_sub ty xi_2 (by omega) (by omega)) ?_
            refine yp_px s2 w2 _ _ (ln _ (by omega)) tx (xi_sub ty xi_2 (by omega) (by omega)) ?_
            refine yp_px s2 w2 _ _ (ln _ (by omega)) (xi_add tx xi_1 (by omega) (by omega)) (xi_sub ty xi_2 (by omega) (by omega)) ?_
            refine yp_px s2 w2 _ _ (ln _ (by omega)) (xi_sub tx xi_2 (by omega) (by omega)) (xi_sub ty xi_1 (by omega) (by omega)) ?_
            refine yp_px s2 w2 _ _ (ln _ (by omega)) (xi_sub tx xi_1 (by omega) (by omega)) (xi_sub ty xi_1 (by omega) (by omega)) ?_
            refine yp_px s2 w2 _ _ (ln _ (by omega)) tx (xi_sub ty xi_1 (by omega) (by omega)) ?_
            refine yp_px s2 w2 _ _ (ln _ (by omega)) (xi_add tx xi_1 (by omega) (by omega)) (xi_sub ty xi_1 (by omega) (by omega)) ?_
            refine And.intro vj (And.intro vj ?_)
            refine yp_px s2 w2 ((x : Int) + (b_offX p).toInt) ((y : Int) + (b_offY p).toInt) (ln _ (by omega)) (by rw [cp]; exact xi_add tx rfl (by omega) (by omega)) (by rw [cp]; exact xi_add ty rfl (by omega) (by omega)) ?_
            refine yp_px s2 w2 _ _ (ln _ (by omega)) (xi_sub tx xi_2 (by omega) (by omega)) ty ?_
            refine yp_px s2 w2 _ _ (ln _ (by omega)) (xi_sub tx xi_1 (by omega) (by omega)) ty ?_
            exact ⟨yk_10 _ _ _ _ _ _ _ _ _ _, I⟩
          · have l3 : ¬ nI x < nI w := nI_nlt (by omega) hx2
            refine br_f h2 (br_f l3 ?_)
            unfold wpY_context
            exact hy _ (br_t hpos (hr _ (br_f h0 (br_t l1 (br_f h2 (br_f l3 ⟨rfl, I⟩))))))
      · have l1 : ¬ nI y < nI c := nI_nlt (by omega) hy2
        refine br_f l1 (br_f (by decide) ?_)
        unfold wpY_context
        exact hy _ (br_t hpos (hr _ (br_f h0 (br_f l1 ⟨rfl, I⟩))))
def im_rp (R : Nat → Nat) : Nat → Nat
  | 0 => 0
  | y + 1 => im_rp R y + im_ty R y
theorem im_rpl (R : Nat → Nat) : ∀ y, im_rp R y ≤ y := by
  intro y
  induction y with
  | zero => exact Nat.le_refl _
  | succ y ih =>
    have := im_ty2 R y
    rw [im_rp]
    omega
section
variable {f_width f_height f_slots f_bodyLast f_encA f_encC f_encCt f_tapeLength f_stored f_openIndex f_openRows f_decPos f_decA f_decC f_decCt : Int32} {a_qe a_nextMps a_nextLps a_active a_count a_offsetX a_offsetY a_lines a_state a_preferred a_body a_tape a_start : Nat → Int32}
variable {f_w f_h f_s f_images f_coding f_openAt f_decoded : Int32} {b_lines b_count b_offX b_offY : Nat → Int32}
theorem xq_rep {post : Int32 → Prop} {side c : Nat} {R : Nat → Nat} (hs : side < 2) (hc : c ≤ 8) (ec : a_count side = nI c) (ln : xl_ln a_lines (8 * side) R) (hR : ∀ v, R v < 65536) (K : post (nI (im_rp R c))) : ∀ d m i, i + d = c → d < m → wX_repeated_17 post (nI side) f_width f_height f_slots f_bodyLast f_encA f_encC f_encCt f_tapeLength f_stored f_openIndex f_openRows f_decPos f_decA f_decC f_decCt a_qe a_nextMps a_nextLps a_active a_count a_offsetX a_offsetY a_lines a_state a_preferred a_body a_tape a_start m (nI (im_rp R i)) (nI i) := by
  have vi : vp_in (nI side) 2 := vp_in_nI hs (by decide)
  have c1 : a_count (nI side).toNatClampNeg = nI c := by rw [nI_clamp (by omega), ec]
  intro d
  induction d with
  | zero =>
    intro m i hi hm
    obtain ⟨m, rfl⟩ : ∃ q, m = q + 1 := ⟨m - 1, by omega⟩
    obtain rfl : i = c := by omega
    exact And.intro vi (br_t (by rw [c1]; exact Int32.le_refl _) K)
  | succ d ih =>
    intro m i hi hm
    obtain ⟨m, rfl⟩ : ∃ q, m = q + 1 := ⟨m - 1, by omega⟩
    have g := ih m (i + 1) (by omega) (by omega)
    rw [im_rp] at g
    refine And.intro vi (br_f (by rw [c1]; exact nI_ge (by omega) (by omega)) (xt_ty hs (by omega) ln hR ?_))
    rcases im_ty2 R i with t | t
    · rw [t, Nat.add_zero] at g
      rw [t]
      exact br_t rfl (nm_r (nI_1 i) g)
    · rw [t] at g
      rw [t]
      exact br_f (by decide) (nm_r (nI_1 _) (nm_r (nI_1 i) g))
theorem yq_rep {post : Int32 → Prop} {p w c : Nat} {R : Nat → Nat} (hp : p < 4) (hw : w ≤ 16) (hc : c ≤ 8) (ln : ∀ j, j < c → b_lines (8 * p + j) = nI (R j)) (hR : ∀ v, R v < 2 ^ w) (K : post (nI (im_rp R c))) : ∀ d m i, i + d = c → d < m → wY_repeated_24 post (nI p) (nI c) (nI w) f_h f_s f_images f_coding f_openAt f_decoded b_lines b_count b_offX b_offY m (nI (im_rp R i)) (nI i) := by
  intro d
  induction d with
  | zero =>
    intro m i hi hm
    obtain ⟨m, rfl⟩ : ∃ q, m = q + 1 := ⟨m - 1, by omega⟩
    obtain rfl : i = c := by omega
    exact br_t (Int32.le_refl _) K
  | succ d ih =>
    intro m i hi hm
    obtain ⟨m, rfl⟩ : ∃ q, m = q + 1 := ⟨m - 1, by omega⟩
    have g := ih m (i + 1) (by omega) (by omega)
    rw [im_rp] at g
    refine br_f (nI_ge (by omega) (by omega)) (yt_ty hp hw (by omega) (fun j hj => ln j (by omega)) hR ?_)
    rcases im_ty2 R i with t | t
    · rw [t, Nat.add_zero] at g
      rw [t]
      exact br_t rfl (nm_r (nI_1 i) g)
    · rw [t] at g
      rw [t]
      exact br_f (by decide) (nm_r (nI_1 _) (nm_r (nI_1 i) g))
end
theorem i_vc_repeated {k : Nat} {u : SX} {v : SY} (I : i_Rel k u v) (hk : k + 4 ≤ 2051) (v1 : Int32) : wpX_repeated (fun r => wpY_repeated (fun r' => r' = r ∧ i_Rel (k + 4) u v) v v1) u v1 := by
  obtain ⟨f_width, f_height, f_slots, f_bodyLast, f_encA, f_encC, f_encCt, f_tapeLength, f_stored, f_openIndex, f_openRows, f_decPos, f_decA, f_decC, f_decCt, a_qe, a_nextMps, a_nextLps, a_active, a_count, a_offsetX, a_offsetY, a_lines, a_state, a_preferred, a_body, a_tape, a_start⟩ := u
  obtain ⟨f_w, f_h, f_s, f_images, f_coding, f_openAt, f_decoded, b_lines, b_count, b_offX, b_offY⟩ := v
  obtain ⟨w, w1, w2, rfl, rfl, hs⟩ := rl_side I v1
  unfold wpX_repeated
  rcases hs with ⟨e, he, hx, hy⟩ | ⟨side, p, c, R, rfl, s1, s2, hx, hy, hr, s3, s4, s5, s6, s7, s8, s9, s10⟩
  · refine hx _ (br_f (rl_e he).1 ?_)
    unfold wpY_repeated
    exact hy _ (br_f (rl_e he).2 ⟨rfl, I⟩)
  · refine hx _ (br_t rfl ⟨c + 1, xq_rep s1 s4 s3 s8 (fun v => yp_16 w2 (s10 v)) ?_ c (c + 1) 0 (by omega) (by omega)⟩)
    unfold wpY_repeated
    exact hy _ (br_t (nI_pos' (by omega)) (hr _ ⟨c + 1, yq_rep s2 w2 s4 s9 s10 ⟨rfl, I⟩ c (c + 1) 0 (by omega) (by omega)⟩))
theorem i_vc_left {k : Nat} {u : SX} {v : SY} (I : i_Rel k u v) (hk : k + 4 ≤ 2051) : wpX_left (fun r => wpY_left (fun r' => r' = r ∧ i_Rel (k + 4) u v) v) u := by
  obtain ⟨f_width, f_height, f_slots, f_bodyLast, f_encA, f_encC, f_encCt, f_tapeLength, f_stored, f_openIndex, f_openRows, f_decPos, f_decA, f_decC, f_decCt, a_qe, a_nextMps, a_nextLps, a_active, a_count, a_offsetX, a_offsetY, a_lines, a_state, a_preferred, a_body, a_tape, a_start⟩ := u
  obtain ⟨f_w, f_h, f_s, f_images, f_coding, f_openAt, f_decoded, b_lines, b_count, b_offX, b_offY⟩ := v
  have I0 := I
  obtain ⟨w, h, sl, S, ps, nn, cc, RR, BB, hK, tb, hT, hC, hD⟩ := I
  obtain ⟨k1, k2, k3, k4, k5, k6, k7, k8, k9, k10, k11, k12, k13, k14, k15⟩ := hK
  rcases hD with ⟨d1, d2⟩ | ⟨d1, o, y, d2, d3, d4, d5, d6, d7, d8, d9, d10⟩
  · exact br_t d1 (br_f (by rw [d2]; decide) ⟨rfl, I0⟩)
  · obtain ⟨e1, e2, e3, e4, e5⟩ := d10
    have m1 := (hT.2.2.2.2 o d2).1
    refine br_f (by rw [d1]; decide) (br_t (by rw [d3]; exact nI_pos' (by omega)) (And.intro (by rw [d3]; exact vp_in_nI (by omega) (by decide)) ⟨?_, I0⟩))
    rw [d3, nI_clamp (by omega), m1, d5, d7, e5]
theorem i_vc_opened {k : Nat} {u : SX} {v : SY} (I : i_Rel k u v) (hk : k + 4 ≤ 2051) : wpX_opened (fun r => wpY_opened (fun r' => r' = r ∧ i_Rel (k + 4) u v) v) u := by
  obtain ⟨f_width, f_height, f_slots, f_bodyLast, f_encA, f_encC, f_encCt, f_tapeLength, f_stored, f_openIndex, f_openRows, f_decPos, f_decA, f_decC, f_decCt, a_qe, a_nextMps, a_nextLps, a_active, a_count, a_offsetX, a_offsetY, a_lines, a_state, a_preferred, a_body, a_tape, a_start⟩ := u
  obtain ⟨f_w, f_h, f_s, f_images, f_coding, f_openAt, f_decoded, b_lines, b_count, b_offX, b_offY⟩ := v
  have I0 := I
  obtain ⟨w, h, sl, S, ps, nn, cc, RR, BB, hK, tb, hT, hC, hD⟩ := I
  obtain ⟨k1, k2, k3, k4, k5, k6, k7, k8, k9, k10, k11, k12, k13, k14, k15⟩ := hK
  rcases hD with ⟨d1, d2⟩ | ⟨d1, o, y, d2, d3, d4, d5, d6, d7, d8, d9, d10⟩
  · exact br_t d1 (br_f (by rw [d2]; decide) ⟨rfl, I0⟩)
  · exact br_f (by rw [d1]; decide) (br_t (by rw [d3]; exact nI_pos' (by omega)) ⟨d3.trans d4.symm, I0⟩)
theorem i_vc_images {k : Nat} {u : SX} {v : SY} (I : i_Rel k u v) (hk : k + 4 ≤ 2051) : wpX_images (fun r => wpY_images (fun r' => r' = r ∧ i_Rel (k + 4) u v) v) u := by
  obtain ⟨f_width, f_height, f_slots, f_bodyLast, f_encA, f_encC, f_encCt, f_tapeLength, f_stored, f_openIndex, f_openRows, f_decPos, f_decA, f_decC, f_decCt, a_qe, a_nextMps, a_nextLps, a_active, a_count, a_offsetX, a_offsetY, a_lines, a_state, a_preferred, a_body, a_tape, a_start⟩ := u
  obtain ⟨f_w, f_h, f_s, f_images, f_coding, f_openAt, f_decoded, b_lines, b_count, b_offX, b_offY⟩ := v
  have I0 := I
  obtain ⟨w, h, sl, S, ps, nn, cc, RR, BB, hK, tb, hT, hC, hD⟩ := I
  obtain ⟨k1, k2, k3, k4, k5, k6, k7, k8, k9, k10, k11, k12, k13, k14, k15⟩ := hK
  exact ⟨k8.trans k7.symm, I0⟩
/-- the pairs of 255 and a byte above 143 below i -/
def fa_c (t : Nat → Int32) : Nat → Nat
  | 0 => 0
  | i + 1 => if t i &&& 255 = 255 ∧ ¬ t (i + 1) &&& 255 ≤ 143 then fa_c t i + 1 else fa_c t i
theorem fa_l (t : Nat → Int32) : ∀ i, fa_c t i ≤ i := by
  intro i
  induction i with
  | zero => exact Nat.le_refl _
  | succ i ih =>
    rw [fa_c]
    by_cases h : t i &&& 255 = 255 ∧ ¬ t (i + 1) &&& 255 ≤ 143
    · rw [if_pos h]; omega
    · rw [if_neg h]; omega
theorem fa_n {t : Nat → Int32} {p : Nat} : ∀ d, (∀ j, j < d → ¬ (t (p + j) &&& 255 = 255 ∧ ¬ t (p + j + 1) &&& 255 ≤ 143)) → fa_c t (p + d) = fa_c t p := by
  intro d
  induction d with
  | zero => intro _; rfl
  | succ d ih =>
    intro h
    rw [← Nat.add_assoc, fa_c, if_neg (h d (by omega))]
    exact ih (fun j hj => h j (by omega))
theorem fa_im {w i p cn n : Nat} {tape bl bc bx bz : Nat → Int32} {R B : Nat → Nat} (h : rl_im w tape bl bc bx bz i p cn n R B) : fa_c tape (p + n + 5) = fa_c tape p + 1 ∧ fa_c tape (p + n + 5) = fa_c tape (p + n + 4) := by
  obtain ⟨m1, m2, m3, m4, m5, ⟨g1, g2, g3⟩, m7, m8, m9, ⟨F1, F2, F3, F4, F5, F6⟩, ⟨S1, S2, S3⟩, m12⟩ := h
  have a1 : fa_c tape (p + (3 + n)) = fa_c tape p := by
    refine fa_n (3 + n) ?_
    intro j hj z
    obtain ⟨z1, z2⟩ := z
    by_cases j0 : j = 0
    · subst j0
      rw [Nat.add_zero, m7] at z1
      have := (nI_eq (a := cn) (b := 255) (by omega) (by decide)).mp z1
      omega
    · by_cases j1 : j = 1
      · subst j1
        rw [m8] at z1
        have z3 := congrArg Int32.toInt z1
        rw [xi_add rfl xi_8 (by omega) (by omega), show (255 : Int32).toInt = 255 by decide] at z3
        omega
      · by_cases j2 : j = 2
        · subst j2
          rw [m9] at z1
          have z3 := congrArg Int32.toInt z1
          rw [Int32.toInt_neg, show (255 : Int32).toInt = 255 by decide, Int.bmod_eq_of_le (by omega) (by omega)] at z3
          omega
        · obtain ⟨q, rfl⟩ : ∃ q, j = 3 + q := ⟨j - 3, by omega⟩
          have hq : q < n := by omega
          have b1 := F3 (q + 1) (by omega)
          rw [← Nat.add_assoc, S1 q hq] at z1
          have z3 := (nI_eq (a := B (q + 1)) (b := 255) (by omega) (by decide)).mp z1
          by_cases qn : q + 1 = n
          · rw [qn] at z3; exact F4 z3
          · have z4 := F5 (q + 1) (by omega) z3
            apply z2
            have e := S1 (q + 1) (by omega)
            rw [show p + (3 + q) + 1 = p + 3 + (q + 1) by omega, e]
            exact nI_le (b := 143) z4 (by decide)
  have a2 : fa_c tape (p + n + 4) = fa_c tape p + 1 := by
    have z : ¬ tape (p + 3 + n + 1) &&& 255 ≤ 143 := by rw [S3]; decide
    rw [show p + n + 4 = p + (3 + n) + 1 by omega, fa_c, show p + (3 + n) = p + 3 + n by omega, if_pos ⟨S2, z⟩, show p + 3 + n = p + (3 + n) by omega, a1]
  have a3 : fa_c tape (p + n + 5) = fa_c tape (p + n + 4) := by
    rw [show p + n + 5 = p + n + 4 + 1 by omega, fa_c, if_neg]
    intro z
    rw [show p + n + 4 = p + 3 + n + 1 by omega, S3] at z
    exact absurd z.1 (by decide)
  exact ⟨a3.trans a2, a3⟩
theorem fa_all {w S : Nat} {ps nn cc : Nat → Nat} {RR BB : Nat → Nat → Nat} {tl : Int32} {tape start bl bc bx bz : Nat → Int32} (h : rl_T w S ps nn cc RR BB tl tape start bl bc bx bz) : ∀ i, i ≤ S → fa_c tape (ps i) = i := by
  intro i
  induction i with
  | zero => intro _; rw [h.1]; rfl
  | succ i ih =>
    intro hi
    rw [h.2.1 i (by omega), (fa_im (h.2.2.2.2 i (by omega))).1, ih (by omega)]
section
variable {f_width f_height f_slots f_bodyLast f_encA f_encC f_encCt f_tapeLength f_stored f_openIndex f_openRows f_decPos f_decA f_decC f_decCt : Int32} {a_qe a_nextMps a_nextLps a_active a_count a_offsetX a_offsetY a_lines a_state a_preferred a_body a_tape a_start : Nat → Int32}
theorem xq_fa {post : Int32 → Prop} {L : Nat} (hL : L + 1 ≤ 2048) (K : post (nI (fa_c a_tape L) - f_stored)) : ∀ d m i, i + d = L → d < m → wX_faults_4 post f_width f_height f_slots f_bodyLast f_encA f_encC f_encCt (nI (L + 1)) f_stored f_openIndex f_openRows f_decPos f_decA f_decC f_decCt a_qe a_nextMps a_nextLps a_active a_count a_offsetX a_offsetY a_lines a_state a_preferred a_body a_tape a_start m (nI (fa_c a_tape i)) (nI i) := by
  intro d
  induction d with
  | zero =>
    intro m i hi hm
    obtain ⟨m, rfl⟩ : ∃ q, m = q + 1 := ⟨m - 1, by omega⟩
    obtain rfl : i = L := by omega
    exact br_t (by rw [nI_pred]; exact Int32.le_refl _) K
  | succ d ih =>
    intro m i hi hm
    obtain ⟨m, rfl⟩ : ∃ q, m = q + 1 := ⟨m - 1, by omega⟩
    have g := ih m (i + 1) (by omega) (by omega)
    rw [fa_c] at g
    refine br_f (by rw [nI_pred]; exact nI_ge (by omega) (by omega)) (And.intro (vp_in_nI (by omega) (by decide)) ?_)
    rw [nI_1 i, nI_clamp (by omega), nI_clamp (by omega)]
    by_cases h1 : a_tape i &&& 255 = 255
    · refine br_t h1 (And.intro (vp_in_nI (by omega) (by decide)) ?_)
      by_cases h2 : a_tape (i + 1) &&& 255 ≤ 143
      · rw [if_neg (fun z => z.2 h2)] at g
        exact br_t h2 (nm_e g)
      · rw [if_pos ⟨h1, h2⟩] at g
        exact br_f h2 (nm_r (nI_1 _) (nm_e g))
    · rw [if_neg (fun z => h1 z.1)] at g
      exact br_f h1 (nm_e g)
end
theorem i_vc_faults {k : Nat} {u : SX} {v : SY} (I : i_Rel k u v) (hk : k + 4 ≤ 2051) : wpX_faults (fun r => wpY_faults (fun r' => r' = r ∧ i_Rel (k + 4) u v) v) u := by
  obtain ⟨f_width, f_height, f_slots, f_bodyLast, f_encA, f_encC, f_encCt, f_tapeLength, f_stored, f_openIndex, f_openRows, f_decPos, f_decA, f_decC, f_decCt, a_qe, a_nextMps, a_nextLps, a_active, a_count, a_offsetX, a_offsetY, a_lines, a_state, a_preferred, a_body, a_tape, a_start⟩ := u
  obtain ⟨f_w, f_h, f_s, f_images, f_coding, f_openAt, f_decoded, b_lines, b_count, b_offX, b_offY⟩ := v
  have I0 := I
  obtain ⟨w, h, sl, S, ps, nn, cc, RR, BB, hK, tb, hT, hC, hD⟩ := I
  obtain ⟨k1, k2, k3, k4, k5, k6, k7, k8, k9, k10, k11, k12, k13, k14, k15⟩ := hK
  have p1 := rl_ps hT S (Nat.le_refl _)
  have fa := fa_all hT S (Nat.le_refl _)
  have e0 : f_tapeLength = nI (ps S) := hT.2.2.1
  by_cases hS : S = 0
  · have z : ps S = 0 := by rw [hS]; exact hT.1
    refine ⟨1, br_t (by rw [e0, z]; decide) ⟨?_, I0⟩⟩
    rw [k7, hS]
    decide
  · obtain ⟨s, rfl⟩ : ∃ s, S = s + 1 := ⟨S - 1, by omega⟩
    have q1 := hT.2.1 s (by omega)
    have q2 := (fa_im (hT.2.2.2.2 s (by omega))).2
    have q3 : fa_c a_tape (ps s + nn s + 4) = s + 1 := by rw [← q2, ← q1, fa]
    have e1 : f_tapeLength = nI (ps s + nn s + 4 + 1) := by rw [e0, q1]
    subst e1
    refine ⟨ps s + nn s + 4 + 1, xq_fa (L := ps s + nn s + 4) (by omega) ⟨?_, I0⟩ (ps s + nn s + 4) (ps s + nn s + 4 + 1) 0 (by omega) (by omega)⟩
    rw [q3, k7, Int32.sub_self]
end
section
/-! frames: what a call leaves of the relation; a side set anew -/
theorem rl_imt {w i j p p' c cn n : Nat} {R B : Nat → Nat} {tape tape' bl bc bx bz cl cc cx cz : Nat → Int32} (h : rl_im w tape cl cc cx cz j p cn n R B) (hp : p' + c = p) (hpl : yl_p bl bc bx bz cl cc cx cz i j) (ht : ∀ q, p' ≤ q → q < p' + n + 5 → tape' q &&& 255 = tape (q + c) &&& 255) : rl_im w tape' bl bc bx bz i p' cn n R B := by
  obtain ⟨m1, m2, m3, m4, m5, m6, m7, m8, m9, m10, ⟨S1, S2, S3⟩, m12⟩ := h
  obtain ⟨l1, l2, l3, l4⟩ := hpl
  subst hp
  unfold rl_im
  rw [l2, l3, l4]
  refine ⟨m1, m2, m3, fun v hv => (l1 v (by omega)).trans (m4 v hv), m5, m6, ?_, ?_, ?_, m10, ⟨fun q hq => ?_, ?_, ?_⟩, m12⟩
  · rw [ht _ (by omega) (by omega)]; exact m7
  · rw [ht _ (by omega) (by omega), show p' + 1 + c = p' + c + 1 by omega]; exact m8
  · rw [ht _ (by omega) (by omega), show p' + 2 + c = p' + c + 2 by omega]; exact m9
  · rw [ht _ (by omega) (by omega), show p' + 3 + q + c = p' + c + 3 + q by omega]; exact S1 q hq
  · rw [ht _ (by omega) (by omega), show p' + 3 + n + c = p' + c + 3 + n by omega]; exact S2
  · rw [ht _ (by omega) (by omega), show p' + 3 + n + 1 + c = p' + c + 3 + n + 1 by omega]; exact S3
theorem rl_Tf {w S : Nat} {ps nn cc : Nat → Nat} {RR BB : Nat → Nat → Nat} {tl : Int32} {tape start bl bc bx bz cl dc dx dz : Nat → Int32} (h : rl_T w S ps nn cc RR BB tl tape start cl dc dx dz) (hp : ∀ i, i < S → yl_p bl bc bx bz cl dc dx dz i i) : rl_T w S ps nn cc RR BB tl tape start bl bc bx bz :=
  ⟨h.1, h.2.1, h.2.2.1, h.2.2.2.1, fun i hi => rl_imt (c := 0) (h.2.2.2.2 i hi) rfl (hp i hi) (fun _ _ _ => rfl)⟩
theorem rl_Cf {w h sl S S' : Nat} {act cod cnt ox oy bcnt box boy eA eC eCt eB : Int32} {lns sta prf body bl lns' sta' prf' bl' : Nat → Int32} (H : rl_C w h sl S act cod cnt ox oy bcnt box boy eA eC eCt eB lns sta prf body bl) (h8 : h ≤ 8) (hS : S' ≤ S) (hl : ∀ j, j < 8 → lns' j = lns j) (hs : ∀ j, j < 1024 → sta' j = sta j) (hp : ∀ j, j < 1024 → prf' j = prf j) (hb : ∀ v, v < 8 → bl' (24 + v) = bl (24 + v)) : rl_C w h sl S' act cod cnt ox oy bcnt box boy eA eC eCt eB lns' sta' prf' body bl' := by
  rcases H with c | ⟨c1, c2, c3, cy, R, c4, c5, c6, c7, c8, c9, c10, c11, c12, c13, c14, c15⟩
  · exact Or.inl c
  · refine Or.inr ⟨c1, c2, by omega, cy, R, c4, c5, c6, c7, c8, c9, fun v hv => (hb v (by omega)).trans (c10 v hv), c11, c12, fun v hv => ?_, c14, fun k hk => ?_⟩
    · rw [hl _ (by omega)]; exact c13 v hv
    · rw [hs _ (by omega), hp _ (by omega)]; exact c15 k hk
theorem rl_Df {w S : Nat} {ps nn cc : Nat → Nat} {RR BB : Nat → Nat → Nat} {act opn dcd oidx orow ox oy dA dP dC dCt : Int32} {bx bz sta prf lns cnt bx' bz' sta' prf' lns' cnt' : Nat → Int32} (H : rl_D w S ps nn cc RR BB act opn dcd oidx orow ox oy dA dP dC dCt bx bz sta prf lns cnt) (hx : ∀ o, o < S → bx' o = bx o ∧ bz' o = bz o) (hs : ∀ j, 1024 ≤ j → sta' j = sta j) (hp : ∀ j, 1024 ≤ j → prf' j = prf j) (hl : ∀ j, 8 ≤ j → lns' j = lns j) (hc : cnt' 1 = cnt 1) : rl_D w S ps nn cc RR BB act opn dcd oidx orow ox oy dA dP dC dCt bx' bz' sta' prf' lns' cnt' := by
  rcases H with d | ⟨d1, o, y, d2, d3, d4, d5, d6, d7, d8, d9, e1, e2, e3, e4, e5⟩
  · exact Or.inl d
  · have ⟨x1, x2⟩ := hx o d2
    refine Or.inr ⟨d1, o, y, d2, d3, d4, d5, d6, d7, d8.trans x1.symm, d9.trans x2.symm, ?_⟩
    rw [x1, x2]
    refine ⟨e1, e2, fun k hk => ?_, fun v hv => ?_, hc.trans e5⟩
    · rw [hs _ (by omega), hp _ (by omega)]; exact e3 k hk
    · rw [hl _ (by omega)]; exact e4 v hv
theorem rl_Dg {w S S' : Nat} {ps nn cc ps' nn' cc' : Nat → Nat} {RR BB RR' BB' : Nat → Nat → Nat} {act opn dcd oidx orow ox oy dA dP dC dCt : Int32} {bx bz sta prf lns cnt : Nat → Int32} (H : rl_D w S ps nn cc RR BB act opn dcd oidx orow ox oy dA dP dC dCt bx bz sta prf lns cnt) (hS : S ≤ S') (h : ∀ o, o < S → ps' o = ps o ∧ nn' o = nn o ∧ cc' o = cc o ∧ RR' o = RR o ∧ BB' o = BB o) : rl_D w S' ps' nn' cc' RR' BB' act opn dcd oidx orow ox oy dA dP dC dCt bx bz sta prf lns cnt := by
  rcases H with d | ⟨d1, o, y, d2, d3, d4, d5, d6, d7, d8, d9, d10⟩
  · exact Or.inl d
  · have ⟨a1, a2, a3, a4, a5⟩ := h o d2
    refine Or.inr ⟨d1, o, y, by omega, d3, d4, by rw [a3]; exact d5, by rw [a3]; exact d6, d7, d8, d9, ?_⟩
    rw [a1, a2, a4, a5]
    exact d10
theorem rl_b1 : vp_nar .boolean 1 = 1 := rfl
theorem rl_b0 : vp_nar .boolean 0 = 0 := rfl
theorem xk_1024 (a b : Nat) : nI a * 1024 + nI b = nI (1024 * a + b) := by
  show nI a * nI 1024 + nI b = _
  rw [pk_mul, nI_add, Nat.mul_comm]
section
variable {f_width f_height f_slots f_bodyLast f_encA f_encC f_encCt f_tapeLength f_stored f_openIndex f_openRows f_decPos f_decA f_decC f_decCt : Int32} {a_qe a_nextMps a_nextLps a_active a_count a_offsetX a_offsetY a_lines a_state a_preferred a_body a_tape a_start : Nat → Int32}
theorem xz_60 {post : SX → Prop} {side : Nat} {sta0 prf0 : Nat → Int32} (hs : side < 2) (K : ∀ sta prf : Nat → Int32, xl_st sta prf (1024 * side) (fun _ => 0) (fun _ => 0) → xl_fr (1024 * side) sta0 sta → xl_fr (1024 * side) prf0 prf → post (f_width, f_height, f_slots, f_bodyLast, f_encA, f_encC, f_encCt, f_tapeLength, f_stored, f_openIndex, f_openRows, f_decPos, f_decA, f_decC, f_decCt, a_qe, a_nextMps, a_nextLps, a_active, a_count, a_offsetX, a_offsetY, a_lines, sta, prf, a_body, a_tape, a_start)) : ∀ (d m i : Nat) (a_state a_preferred : Nat → Int32), i + d = 1024 → d < m → (∀ k, k < i → a_state (1024 * side + k) = nI 0 ∧ a_preferred (1024 * side + k) = nI 0) → xl_fr (1024 * side) sta0 a_state → xl_fr (1024 * side) prf0 a_preferred → wX_resetSide_60 post (nI side) f_width f_height f_slots f_bodyLast f_encA f_encC f_encCt f_tapeLength f_stored f_openIndex f_openRows f_decPos f_decA f_decC f_decCt m (nI i) a_qe a_nextMps a_nextLps a_active a_count a_offsetX a_offsetY a_lines a_state a_preferred a_body a_tape a_start := by
  intro d
  induction d with
  | zero =>
    intro m i a_state a_preferred hi hm h1 h2 h3
    obtain ⟨m, rfl⟩ : ∃ q, m = q + 1 := ⟨m - 1, by omega⟩
    obtain rfl : i = 1024 := by omega
    exact br_t (Int32.le_refl _) (K _ _ h1 h2 h3)
  | succ d ih =>
    intro m i a_state a_preferred hi hm h1 h2 h3
    obtain ⟨m, rfl⟩ : ∃ q, m = q + 1 := ⟨m - 1, by omega⟩
    have vi : vp_in (nI side * 1024 + nI i) 2048 := by rw [xk_1024]; exact vp_in_nI (by omega) (by decide)
    have c : (nI side * 1024 + nI i).toNatClampNeg = 1024 * side + i := by rw [xk_1024, nI_clamp (by omega)]
    refine br_f (nI_ge (b := 1024) (by omega) (by decide)) (And.intro vi (nm_r (e' := upd a_state (1024 * side + i) (nI 0)) (by rw [c]; rfl) (And.intro vi (nm_r (e' := upd a_preferred (1024 * side + i) (nI 0)) (by rw [c]; rfl) (nm_r (nI_1 i) (ih m (i + 1) _ _ (by omega) (by omega) ?_ (xl_frt h2 (xl_fru (by omega))) (xl_frt h3 (xl_fru (by omega)))))))))
    intro k hk
    by_cases z : k = i
    · rw [z, pk_us, pk_us]; exact ⟨rfl, rfl⟩
    · rw [pk_un (by omega), pk_un (by omega)]; exact h1 k (by omega)
theorem xz_31 {post : SX → Prop} {side : Nat} {ln0 : Nat → Int32} (hs : side < 2) (K : ∀ lns sta prf : Nat → Int32, (∀ v, v < 8 → lns (8 * side + v) = nI 0) → (∀ j, (j < 8 * side ∨ 8 * side + 8 ≤ j) → lns j = ln0 j) → xl_st sta prf (1024 * side) (fun _ => 0) (fun _ => 0) → xl_fr (1024 * side) a_state sta → xl_fr (1024 * side) a_preferred prf → post (f_width, f_height, f_slots, f_bodyLast, f_encA, f_encC, f_encCt, f_tapeLength, f_stored, f_openIndex, f_openRows, f_decPos, f_decA, f_decC, f_decCt, a_qe, a_nextMps, a_nextLps, a_active, a_count, a_offsetX, a_offsetY, lns, sta, prf, a_body, a_tape, a_start)) : ∀ (d m i : Nat) (a_lines : Nat → Int32), i + d = 8 → d < m → (∀ v, v < i → a_lines (8 * side + v) = nI 0) → (∀ j, (j < 8 * side ∨ 8 * side + 8 ≤ j) → a_lines j = ln0 j) → wX_resetSide_31 post (nI side) f_width f_height f_slots f_bodyLast f_encA f_encC f_encCt f_tapeLength f_stored f_openIndex f_openRows f_decPos f_decA f_decC f_decCt m (nI i) a_qe a_nextMps a_nextLps a_active a_count a_offsetX a_offsetY a_lines a_state a_preferred a_body a_tape a_start := by
  intro d
  induction d with
  | zero =>
    intro m i a_lines hi hm h1 h2
    obtain ⟨m, rfl⟩ : ∃ q, m = q + 1 := ⟨m - 1, by omega⟩
    obtain rfl : i = 8 := by omega
    exact br_t (Int32.le_refl _) ⟨1025, xz_60 (sta0 := a_state) (prf0 := a_preferred) hs (fun sta prf k1 k2 k3 => K a_lines sta prf h1 h2 k1 k2 k3) 1024 1025 0 _ _ (by omega) (by omega) (fun k hk => absurd hk (by omega)) (xl_frr _ _) (xl_frr _ _)⟩
  | succ d ih =>
    intro m i a_lines hi hm h1 h2
    obtain ⟨m, rfl⟩ : ∃ q, m = q + 1 := ⟨m - 1, by omega⟩
    have c : (nI side * 8 + nI i).toNatClampNeg = 8 * side + i := by rw [xk_8, nI_clamp (by omega)]
    refine br_f (nI_ge (b := 8) (by omega) (by decide)) (And.intro (by rw [xk_8]; exact vp_in_nI (by omega) (by decide)) (nm_r (e' := upd a_lines (8 * side + i) (nI 0)) (by rw [c]; rfl) (nm_r (nI_1 i) (ih m (i + 1) _ (by omega) (by omega) ?_ ?_))))
    · intro v hv
      by_cases z : v = i
      · rw [z, pk_us]
      · rw [pk_un (by omega)]; exact h1 v (by omega)
    · intro j hj
      rw [pk_un (by omega)]; exact h2 j hj
theorem xz_reset {post : SX → Prop} {side : Nat} {ox oy : Int32} (hs : side < 2) (K : ∀ lns sta prf : Nat → Int32, (∀ v, v < 8 → lns (8 * side + v) = nI 0) → (∀ j, (j < 8 * side ∨ 8 * side + 8 ≤ j) → lns j = a_lines j) → xl_st sta prf (1024 * side) (fun _ => 0) (fun _ => 0) → xl_fr (1024 * side) a_state sta → xl_fr (1024 * side) a_preferred prf → post (f_width, f_height, f_slots, f_bodyLast, f_encA, f_encC, f_encCt, f_tapeLength, f_stored, f_openIndex, f_openRows, f_decPos, f_decA, f_decC, f_decCt, a_qe, a_nextMps, a_nextLps, upd a_active side 1, upd a_count side 0, upd a_offsetX side ox, upd a_offsetY side oy, lns, sta, prf, a_body, a_tape, a_start)) : wpX_resetSide post (f_width, f_height, f_slots, f_bodyLast, f_encA, f_encC, f_encCt, f_tapeLength, f_stored, f_openIndex, f_openRows, f_decPos, f_decA, f_decC, f_decCt, a_qe, a_nextMps, a_nextLps, a_active, a_count, a_offsetX, a_offsetY, a_lines, a_state, a_preferred, a_body, a_tape, a_start) (nI side) ox oy := by
  have vi : vp_in (nI side) 2 := vp_in_nI hs (by decide)
  have c : (nI side).toNatClampNeg = side := nI_clamp (by omega)
  refine And.intro vi (nm_r (e' := upd a_active side 1) (by rw [c, rl_b1]) (And.intro vi (nm_r (e' := upd a_count side 0) (by rw [c]) (And.intro vi (nm_r (e' := upd a_offsetX side ox) (by rw [c]) (And.intro vi (nm_r (e' := upd a_offsetY side oy) (by rw [c]) ⟨9, ?_⟩)))))))
  exact xz_31 (ln0 := a_lines) hs K 8 9 0 _ (by omega) (by omega) (fun v hv => absurd hv (by omega)) (fun _ _ => rfl)
end
end
section
/-! begin, discard, row -/
def bg_ch (v1 v2 : Int32) (A B : Prop) : Prop := (v1 < (-8) → A) ∧ (¬ v1 < (-8) → ((8 < v1 → A) ∧ (¬ 8 < v1 → ((v2 < (-7) → A) ∧ (¬ v2 < (-7) → ((v2 ≤ 0 → ((v2 = 0 → ((v1 ≤ (-1) → B) ∧ (¬ v1 ≤ (-1) → A))) ∧ (¬ v2 = 0 → B))) ∧ (¬ v2 ≤ 0 → A)))))))
theorem bg_m8 : (-8 : Int32).toInt = -8 := by decide
theorem bg_m7 : (-7 : Int32).toInt = -7 := by decide
theorem bg_m1 : (-1 : Int32).toInt = -1 := by decide
section
variable {f_width f_height f_slots f_bodyLast f_encA f_encC f_encCt f_tapeLength f_stored f_openIndex f_openRows f_decPos f_decA f_decC f_decCt : Int32} {a_qe a_nextMps a_nextLps a_active a_count a_offsetX a_offsetY a_lines a_state a_preferred a_body a_tape a_start : Nat → Int32}
theorem bg_lg (v1 v2 : Int32) : ((∀ post : Int32 → Prop, post 0 → wpX_isLegal post (f_width, f_height, f_slots, f_bodyLast, f_encA, f_encC, f_encCt, f_tapeLength, f_stored, f_openIndex, f_openRows, f_decPos, f_decA, f_decC, f_decCt, a_qe, a_nextMps, a_nextLps, a_active, a_count, a_offsetX, a_offsetY, a_lines, a_state, a_preferred, a_body, a_tape, a_start) v1 v2) ∧ ∀ A B : Prop, A → bg_ch v1 v2 A B) ∨ (rl_lg v1 v2 ∧ (∀ post : Int32 → Prop, post 1 → wpX_isLegal post (f_width, f_height, f_slots, f_bodyLast, f_encA, f_encC, f_encCt, f_tapeLength, f_stored, f_openIndex, f_openRows, f_decPos, f_decA, f_decC, f_decCt, a_qe, a_nextMps, a_nextLps, a_active, a_count, a_offsetX, a_offsetY, a_lines, a_state, a_preferred, a_body, a_tape, a_start) v1 v2) ∧ ∀ A B : Prop, B → bg_ch v1 v2 A B) := by
  by_cases h1 : v1 < (-8)
  · exact Or.inl ⟨fun post hp => br_t h1 hp, fun A B a => br_t h1 a⟩
  · by_cases h2 : 8 < v1
    · exact Or.inl ⟨fun post hp => br_f h1 (br_t h2 hp), fun A B a => br_f h1 (br_t h2 a)⟩
    · by_cases h3 : v2 < (-7)
      · exact Or.inl ⟨fun post hp => br_f h1 (br_f h2 (br_t h3 hp)), fun A B a => br_f h1 (br_f h2 (br_t h3 a))⟩
      · by_cases h4 : v2 ≤ 0
        · have g1 := h1
          have g2 := h2
          have g3 := h3
          have g4 := h4
          rw [Int32.lt_iff_toInt_lt, bg_m8] at g1
          rw [Int32.lt_iff_toInt_lt, xi_8] at g2
          rw [Int32.lt_iff_toInt_lt, bg_m7] at g3
          rw [Int32.le_iff_toInt_le, xi_0] at g4
          by_cases h5 : v2 = 0
          · have g5 : v2.toInt = 0 := by rw [h5]; exact xi_0
            by_cases h6 : (-1) < v1
            · have h7 : ¬ v1 ≤ (-1) := by
                rw [Int32.lt_iff_toInt_lt, bg_m1] at h6
                rw [Int32.le_iff_toInt_le, bg_m1]
                omega
              exact Or.inl ⟨fun post hp => br_f h1 (br_f h2 (br_f h3 (br_t h4 (br_t h5 (br_t h6 hp))))), fun A B a => br_f h1 (br_f h2 (br_f h3 (br_t h4 (br_t h5 (br_f h7 a)))))⟩
            · have h7 : v1 ≤ (-1) := by
                rw [Int32.lt_iff_toInt_lt, bg_m1] at h6
                rw [Int32.le_iff_toInt_le, bg_m1]
                omega
              have g6 := h7
              rw [Int32.le_iff_toInt_le, bg_m1] at g6
              exact Or.inr ⟨⟨by omega, by omega, by omega⟩, fun post hp => br_f h1 (br_f h2 (br_f h3 (br_t h4 (br_t h5 (br_f h6 hp))))), fun A B a => br_f h1 (br_f h2 (br_f h3 (br_t h4 (br_t h5 (br_t h7 a)))))⟩
          · have g5 : v2.toInt ≠ 0 := fun z => h5 (Int32.toInt_inj.mp (z.trans xi_0.symm))
            exact Or.inr ⟨⟨by omega, by omega, by omega⟩, fun post hp => br_f h1 (br_f h2 (br_f h3 (br_t h4 (br_f h5 hp)))), fun A B a => br_f h1 (br_f h2 (br_f h3 (br_t h4 (br_f h5 a))))⟩
        · exact Or.inl ⟨fun post hp => br_f h1 (br_f h2 (br_f h3 (br_f h4 hp))), fun A B a => br_f h1 (br_f h2 (br_f h3 (br_f h4 a)))⟩
end
theorem bg_en (H : Nat → Nat → Nat → Prop) (hH : ∀ a b c, ¬ H a b c) (body : Nat → Int32) (hb : body 0 &&& 255 = 0) : en_I H 0 32768 0 32768 0 12 0 body := by
  refine ⟨0, 12, 0, fun _ => 0, rfl, rfl, rfl, rfl, by decide, ?_, ?_, fun a b c z => absurd z (hH a b c)⟩
  · intro j hj
    have : j = 0 := by omega
    rw [this]; exact hb
  · exact ⟨by decide, rfl, by decide, by decide, rfl, fun j hj => absurd hj (by omega), fun _ _ => Nat.zero_le _, by decide, fun _ => by decide⟩
theorem i_vc_begin {k : Nat} {u : SX} {v : SY} (I : i_Rel k u v) (hk : k + 4 ≤ 2051) (v1 : Int32) (v2 : Int32) : wpX_begin (fun r u' => wpY_begin (fun r' v' => r' = r ∧ i_Rel (k + 4) u' v') v v1 v2) u v1 v2 := by
  obtain ⟨f_width, f_height, f_slots, f_bodyLast, f_encA, f_encC, f_encCt, f_tapeLength, f_stored, f_openIndex, f_openRows, f_decPos, f_decA, f_decC, f_decCt, a_qe, a_nextMps, a_nextLps, a_active, a_count, a_offsetX, a_offsetY, a_lines, a_state, a_preferred, a_body, a_tape, a_start⟩ := u
  obtain ⟨f_w, f_h, f_s, f_images, f_coding, f_openAt, f_decoded, b_lines, b_count, b_offX, b_offY⟩ := v
  have I0 := I
  obtain ⟨w, h, sl, S, ps, nn, cc, RR, BB, hK, tb, hT, hC, hD⟩ := I
  have hK0 := hK
  obtain ⟨k1, k2, k3, k4, k5, k6, k7, k8, k9, k10, k11, k12, k13, k14, k15⟩ := hK
  subst k1 k2 k3 k4 k5 k6 k7 k8
  rcases hC with ⟨c1, c2⟩ | ⟨c1, c2, c3⟩
  · by_cases hS : S < sl
    · have l1 : nI S < nI sl := nI_lt hS (by omega)
      rcases bg_lg (f_width := nI w) (f_height := nI h) (f_slots := nI sl) (f_bodyLast := f_bodyLast) (f_encA := f_encA) (f_encC := f_encC) (f_encCt := f_encCt) (f_tapeLength := f_tapeLength) (f_stored := nI S) (f_openIndex := f_openIndex) (f_openRows := f_openRows) (f_decPos := f_decPos) (f_decA := f_decA) (f_decC := f_decC) (f_decCt := f_decCt) (a_qe := a_qe) (a_nextMps := a_nextMps) (a_nextLps := a_nextLps) (a_active := a_active) (a_count := a_count) (a_offsetX := a_offsetX) (a_offsetY := a_offsetY) (a_lines := a_lines) (a_state := a_state) (a_preferred := a_preferred) (a_body := a_body) (a_tape := a_tape) (a_start := a_start) v1 v2 with ⟨hx, hy⟩ | ⟨lg, hx, hy⟩
      · exact br_t c1 (br_t l1 (hx _ (br_t rfl (br_t c2 (br_t l1 (hy _ _ ⟨rfl, I0⟩))))))
      · refine br_t c1 (br_t l1 (hx _ (br_f (by decide) (xz_reset (side := 0) (by decide) ?_))))
        intro lns sta prf z1 z2 z3 z4 z5
        refine nm_e ?_
        refine br_t c2 (br_t l1 (hy _ _ (nm_e (nm_e (nm_e ⟨rfl, ?_⟩)))))
        refine ⟨w, h, sl, S, ps, nn, cc, RR, BB, hK0, tb, rl_Tf hT ?_, Or.inr ⟨pk_us, rfl, hS, 0, fun _ => 0, by omega, pk_us, pk_us, ?_, ?_, ?_, fun v hv => absurd hv (by omega), fun _ => Nat.two_pow_pos w, fun _ _ => rfl, ?_, ?_, ?_⟩, ?_⟩
        · intro i hi
          exact ⟨fun _ _ => rfl, pk_un (by omega), pk_un (by omega), pk_un (by omega)⟩
        · rw [pk_us, pk_us]
        · rw [pk_us, pk_us]
        · rw [pk_us, pk_us]; exact lg
        · intro v hv; exact z1 v hv
        · refine bg_en _ (fun a b c z => ?_) _ (by rw [pk_us]; rfl)
          obtain ⟨y, hy, _⟩ := z
          exact absurd hy (by omega)
        · exact z3
        · refine rl_Df ?_ (fun o ho => ⟨pk_un (by omega), pk_un (by omega)⟩) (fun j hj => z4 j (by omega)) (fun j hj => z5 j (by omega)) (fun j hj => z2 j (by omega)) (pk_un (by decide))
          rw [pk_un (by decide), pk_un (by decide), pk_un (by decide)]
          exact hD
    · have l1 : ¬ nI S < nI sl := nI_nlt (by omega) (by omega)
      exact br_t c1 (br_f l1 (br_t c2 (br_f l1 ⟨rfl, I0⟩)))
  · exact br_f (by rw [c1]; decide) (br_f (by rw [c2]; decide) ⟨rfl, I0⟩)
theorem i_vc_discard {k : Nat} {u : SX} {v : SY} (I : i_Rel k u v) (hk : k + 4 ≤ 2051) : wpX_discard (fun r u' => wpY_discard (fun r' v' => r' = r ∧ i_Rel (k + 4) u' v') v) u := by
  obtain ⟨f_width, f_height, f_slots, f_bodyLast, f_encA, f_encC, f_encCt, f_tapeLength, f_stored, f_openIndex, f_openRows, f_decPos, f_decA, f_decC, f_decCt, a_qe, a_nextMps, a_nextLps, a_active, a_count, a_offsetX, a_offsetY, a_lines, a_state, a_preferred, a_body, a_tape, a_start⟩ := u
  obtain ⟨f_w, f_h, f_s, f_images, f_coding, f_openAt, f_decoded, b_lines, b_count, b_offX, b_offY⟩ := v
  have I0 := I
  obtain ⟨w, h, sl, S, ps, nn, cc, RR, BB, hK, tb, hT, hC, hD⟩ := I
  rcases hC with ⟨c1, c2⟩ | ⟨c1, c2, c3⟩
  · exact br_t c1 (br_t c2 ⟨rfl, I0⟩)
  · refine br_f (by rw [c1]; decide) (nm_e (br_f (by rw [c2]; decide) ⟨rfl, ?_⟩))
    refine ⟨w, h, sl, S, ps, nn, cc, RR, BB, hK, tb, hT, Or.inl ⟨pk_us, rfl⟩, ?_⟩
    rw [pk_un (by decide)]
    exact hD
theorem rw_mask (x : Int32) {w : Nat} (hw : w ≤ 16) : ∃ r, r < 2 ^ w ∧ x &&& (((1 : Int32) <<< (nI w &&& 31)) - 1) = nI r := by
  have hp : 2 ^ w ≤ 2 ^ 16 := Nat.pow_le_pow_right (by decide) hw
  have h0 := Nat.two_pow_pos w
  have e : ((1 : Int32) <<< (nI w &&& 31)) = nI (2 ^ w) := by
    have := xd_shl 1 w (nI w &&& 31) (s_l w (by omega))
    rw [Nat.one_mul] at this
    exact this
  have e2 : nI (2 ^ w) - 1 = nI (2 ^ w - 1) := pk_sub (b := 1) h0
  rw [e, e2]
  exact pk_andE x w (pk_tn (by omega))
theorem i_vc_row {k : Nat} {u : SX} {v : SY} (I : i_Rel k u v) (hk : k + 4 ≤ 2051) (v1 : Int32) : wpX_row (fun r u' => wpY_row (fun r' v' => r' = r ∧ i_Rel (k + 4) u' v') v v1) u v1 := by
  obtain ⟨f_width, f_height, f_slots, f_bodyLast, f_encA, f_encC, f_encCt, f_tapeLength, f_stored, f_openIndex, f_openRows, f_decPos, f_decA, f_decC, f_decCt, a_qe, a_nextMps, a_nextLps, a_active, a_count, a_offsetX, a_offsetY, a_lines, a_state, a_preferred, a_body, a_tape, a_start⟩ := u
  obtain ⟨f_w, f_h, f_s, f_images, f_coding, f_openAt, f_decoded, b_lines, b_count, b_offX, b_offY⟩ := v
  have I0 := I
  obtain ⟨w, h, sl, S, ps, nn, cc, RR, BB, hK, tb, hT, hC, hD⟩ := I
  have hK0 := hK
  obtain ⟨k1, k2, k3, k4, k5, k6, k7, k8, k9, k10, k11, k12, k13, k14, k15⟩ := hK
  subst k1 k2 k3 k4 k5 k6 k7 k8
  rcases hC with ⟨c1, c2⟩ | ⟨c1, c2, c3, cy, R, c4, c5, c6, c7, c8, c9, c10, c11, c12, c13, c14, c15⟩
  · exact br_t c1 (br_t c2 ⟨rfl, I0⟩)
  · have n1 : ¬ a_active 0 = 0 := by rw [c1]; decide
    have n2 : ¬ f_coding = 0 := by rw [c2]; decide
    by_cases hy : cy < h
    · obtain ⟨r, hr, er⟩ := rw_mask v1 k10
      obtain ⟨g1, g2, g3⟩ := c9
      have l1 : nI cy < nI h := nI_lt hy (by omega)
      have ag : ∀ i, i < cy → mq_up R cy r i = R i := fun i hi => mq_un (by omega)
      have hR2 : ∀ v, mq_up R cy r v < 2 ^ w := mq_upl c11 hr
      have ei := im_imgc w (R := mq_up R cy r) (R' := R) (ax := (a_offsetX 0).toInt) g2.2 cy ag
      have J : en_I (im_H w (mq_up R cy r) (a_offsetX 0).toInt (a_offsetY 0).toInt cy) (im_img w (mq_up R cy r) (a_offsetX 0).toInt (a_offsetY 0).toInt cy).1 (im_img w (mq_up R cy r) (a_offsetX 0).toInt (a_offsetY 0).toInt cy).2.1 (im_img w (mq_up R cy r) (a_offsetX 0).toInt (a_offsetY 0).toInt cy).2.2.1 f_encA f_encC f_encCt f_bodyLast a_body := by
        rw [ei]
        exact en_mono (fun a b c z => im_Hc w g2.2 ag z) c14
      have J2 : xl_st a_state a_preferred 0 (im_img w (mq_up R cy r) (a_offsetX 0).toInt (a_offsetY 0).toInt cy).2.2.2.1 (im_img w (mq_up R cy r) (a_offsetX 0).toInt (a_offsetY 0).toInt cy).2.2.2.2 := by
        rw [ei]; exact c15
      have ln2 : xl_ln (upd a_lines cy (nI r)) 0 (mq_up R cy r) := by
        intro v hv
        rw [Nat.zero_add]
        by_cases z : v = cy
        · rw [z, pk_us, mq_us]
        · have q := c13 v hv
          rw [Nat.zero_add] at q
          rw [pk_un z, mq_un z]; exact q
      have e0 : (0 : Int32) + nI cy = nI cy := Int32.zero_add _
      refine br_f n1 (br_t (by rw [c5]; exact l1) (nm_r c5 (And.intro (by rw [e0]; exact vp_in_nI (by omega) (by decide)) (nm_r (e' := upd a_lines cy (nI r)) (by rw [e0, nI_clamp (by omega), er]) (nm_r (e' := upd a_count 0 (nI (cy + 1))) (by rw [nI_1]) ?_)))))
      refine xw_row k10 (by omega) tb ln2 (fun v => yp_16 k10 (hR2 v)) rfl rfl g1 g2 J J2 ?_
      intro eA eC eCt eB bd sta prf J3 J4 f1 f2
      have e24 : (24 : Int32) + nI cy = nI (24 + cy) := nI_add 24 cy
      have Y : ∀ post : Int32 → SY → Prop, post (nI (im_ty (mq_up R cy r) cy)) (nI w, nI h, nI sl, nI S, f_coding, f_openAt, f_decoded, upd b_lines (24 + cy) (nI r), upd b_count 3 (nI (cy + 1)), b_offX, b_offY) → wpY_row post (nI w, nI h, nI sl, nI S, f_coding, f_openAt, f_decoded, b_lines, b_count, b_offX, b_offY) v1 := by
        intro post hp
        refine br_f n2 (nm_r c6 (br_t l1 (And.intro (by rw [e24]; exact vp_in_nI (by omega) (by decide)) (nm_r (e' := upd b_lines (24 + cy) (nI r)) (by rw [e24, nI_clamp (by omega), er]) (nm_r (e' := upd b_count 3 (nI (cy + 1))) (by rw [nI_1]) ?_)))))
        refine yt_ty (p := 3) (y := cy) (R := mq_up R cy r) (by decide) k10 (by omega) ?_ hR2 ?_
        · intro j hj
          show upd b_lines (24 + cy) (nI r) (24 + j) = _
          by_cases z : j = cy
          · rw [z, pk_us, mq_us]
          · rw [pk_un (by omega), mq_un z]; exact c10 j (by omega)
        · rcases im_ty2 (mq_up R cy r) cy with t | t
          · rw [t] at hp ⊢
            exact br_t rfl hp
          · rw [t] at hp ⊢
            exact br_f (by decide) hp
      have fin : i_Rel (k + 4) (nI w, nI h, nI sl, eB, eA, eC, eCt, f_tapeLength, nI S, f_openIndex, f_openRows, f_decPos, f_decA, f_decC, f_decCt, a_qe, a_nextMps, a_nextLps, a_active, upd a_count 0 (nI (cy + 1)), a_offsetX, a_offsetY, upd a_lines cy (nI r), sta, prf, bd, a_tape, a_start) (nI w, nI h, nI sl, nI S, f_coding, f_openAt, f_decoded, upd b_lines (24 + cy) (nI r), upd b_count 3 (nI (cy + 1)), b_offX, b_offY) := by
        refine ⟨w, h, sl, S, ps, nn, cc, RR, BB, hK0, tb, rl_Tf hT ?_, Or.inr ⟨c1, c2, c3, cy + 1, mq_up R cy r, by omega, pk_us, pk_us, c7, c8, ⟨g1, g2, g3⟩, ?_, hR2, ?_, ln2, J3, J4⟩, ?_⟩
        · intro i hi
          exact ⟨fun y hy => pk_un (by omega), pk_un (by omega), rfl, rfl⟩
        · intro v hv
          by_cases z : v = cy
          · rw [z, pk_us, mq_us]
          · rw [pk_un (by omega), mq_un z]; exact c10 v (by omega)
        · intro v hv
          rw [mq_un (by omega)]; exact c12 v (by omega)
        · exact rl_Df hD (fun o ho => ⟨rfl, rfl⟩) (fun j hj => f1 j (by omega)) (fun j hj => f2 j (by omega)) (fun j hj => pk_un (by omega)) (pk_un (by decide))
      rcases im_ty2 (mq_up R cy r) cy with t | t
      · rw [t]
        exact br_t rfl (Y _ ⟨by rw [t]; rfl, fin⟩)
      · rw [t]
        exact br_f (by decide) (Y _ ⟨by rw [t]; rfl, fin⟩)
    · have l1 : ¬ nI cy < nI h := nI_nlt (by omega) (by omega)
      exact br_f n1 (br_f (by rw [c5]; exact l1) (br_f n2 (nm_r c6 (br_f l1 ⟨rfl, I0⟩))))
end
section
/-! seal, take -/
theorem sl_255 {x : Int32} (h0 : 0 ≤ x.toInt) (h1 : x.toInt ≤ 255) : x &&& 255 = x := by
  have h : ¬ x < 0 := by rw [Int32.lt_iff_toInt_lt, xi_0]; omega
  obtain ⟨j, hj, rfl⟩ := nI_of h
  rw [nI_toInt hj] at h1
  rw [pk_andN (by omega) 8 (by decide)]
  exact congrArg nI (Nat.mod_eq_of_lt (by omega))
theorem i_vc_seal {k : Nat} {u : SX} {v : SY} (I : i_Rel k u v) (hk : k + 4 ≤ 2051) : wpX_seal (fun r u' => wpY_seal (fun r' v' => r' = r ∧ i_Rel (k + 4) u' v') v) u := by
  obtain ⟨f_width, f_height, f_slots, f_bodyLast, f_encA, f_encC, f_encCt, f_tapeLength, f_stored, f_openIndex, f_openRows, f_decPos, f_decA, f_decC, f_decCt, a_qe, a_nextMps, a_nextLps, a_active, a_count, a_offsetX, a_offsetY, a_lines, a_state, a_preferred, a_body, a_tape, a_start⟩ := u
  obtain ⟨f_w, f_h, f_s, f_images, f_coding, f_openAt, f_decoded, b_lines, b_count, b_offX, b_offY⟩ := v
  have I0 := I
  obtain ⟨w, h, sl, S, ps, nn, cc, RR, BB, hK, tb, hT, hC, hD⟩ := I
  obtain ⟨k1, k2, k3, k4, k5, k6, k7, k8, k9, k10, k11, k12, k13, k14, k15⟩ := hK
  subst k1 k2 k3 k4 k5 k6 k7 k8
  rcases hC with ⟨c1, c2⟩ | ⟨c1, c2, c3, cy, R, c4, c5, c6, c7, c8, c9, c10, c11, c12, c13, c14, c15⟩
  · exact br_t c1 (br_t c2 ⟨rfl, I0⟩)
  · have n1 : ¬ a_active 0 = 0 := by rw [c1]; decide
    have n2 : ¬ f_coding = 0 := by rw [c2]; decide
    by_cases hz : cy = 0
    · subst hz
      exact br_f n1 (br_t c5 (br_f n2 (br_t c6 ⟨rfl, I0⟩)))
    · have z1 : ¬ a_count 0 = 0 := by rw [c5]; exact nI_ne0 (by omega) (by omega)
      have z2 : ¬ b_count 3 = 0 := by rw [c6]; exact nI_ne0 (by omega) (by omega)
      have ⟨iw, is⟩ := im_imgw k10 R (a_offsetX 0).toInt (a_offsetY 0).toInt cy
      have p1 := rl_ps hT S (Nat.le_refl _)
      have e0 : f_tapeLength = nI (ps S) := hT.2.2.1
      subst e0
      obtain ⟨g1, g2, g3⟩ := c9
      refine br_f n1 (br_f z1 (xf_flush c14 iw.1 (by omega) ?_))
      intro eC eCt n B bd F lk G
      have hn : n ≤ 350 := F.2.2.2.2.2
      refine xs_store (L := ps S) (n := n) (S := S) (by omega) (by omega) (by omega) ?_
      intro tp t1 t2 t3 t4 t5
      refine nm_e (br_f n2 (br_f z2 (yc_copy (a := 3) (b := S) (by decide) (by omega) (by omega) ?_)))
      intro bl bc bx bz y1 y2
      refine nm_r (nI_1 S) ⟨rfl, ?_⟩
      have nS : ∀ i, i < S → i ≠ S := fun i hi => by omega
      refine ⟨w, h, sl, S + 1, mq_up ps (S + 1) (ps S + n + 5), mq_up nn S n, mq_up cc S cy, (fun i => if i = S then R else RR i), (fun i => if i = S then B else BB i), ⟨rfl, rfl, rfl, rfl, rfl, rfl, rfl, rfl, k9, k10, k11, k12, k13, k14, c3⟩, tb, ⟨?_, ?_, ?_, ?_, ?_⟩, Or.inl ⟨pk_us, rfl⟩, ?_⟩
      · rw [mq_un (by omega)]; exact hT.1
      · intro i hi
        by_cases z : i = S
        · subst z
          rw [mq_us, mq_un (by omega), mq_us]
        · rw [mq_un (by omega), mq_un (by omega), mq_un z]; exact hT.2.1 i (by omega)
      · rw [mq_us]
        exact congrArg nI (by omega)
      · intro i hi
        by_cases z : i = S + 1
        · rw [z, pk_us, mq_us]
          exact congrArg nI (by omega)
        · rw [pk_un z, mq_un z]; exact hT.2.2.2.1 i (by omega)
      · intro i hi
        by_cases z : i = S
        · subst z
          dsimp only
          rw [if_pos rfl, if_pos rfl, mq_us, mq_us, mq_un (by omega)]
          obtain ⟨l1, l2, l3, l4⟩ := y1
          obtain ⟨t6, t7, t8⟩ := t2
          have ex : bx i = a_offsetX 0 := l3.trans c7
          have ey : bz i = a_offsetY 0 := l4.trans c8
          unfold rl_im
          rw [ex, ey]
          refine ⟨l2.trans c6, by omega, by omega, fun v hv => (l1 v (by omega)).trans (c10 v hv), c11, ⟨g1, g2, g3⟩, ?_, ?_, ?_, F, ⟨fun j hj => ?_, t4, t5⟩, G⟩
          · rw [t6, c5, pk_andN (by omega) 8 (by decide)]
            exact congrArg nI (Nat.mod_eq_of_lt (by omega))
          · rw [t7]
            have e8 : (a_offsetX 0 + 8).toInt = (a_offsetX 0).toInt + 8 := xi_add rfl xi_8 (by omega) (by omega)
            exact sl_255 (by omega) (by omega)
          · rw [t8]
            have en : (-(a_offsetY 0)).toInt = -(a_offsetY 0).toInt := by
              rw [Int32.toInt_neg]
              exact Int.bmod_eq_of_le (by omega) (by omega)
            exact sl_255 (by omega) (by omega)
          · rw [t3 j hj]; exact lk (j + 1) (by omega)
        · dsimp only
          rw [if_neg z, if_neg z, mq_un (by omega), mq_un z, mq_un z]
          have pe := rl_pe hT (i := i) (by omega)
          exact rl_imt (c := 0) (hT.2.2.2.2 i (by omega)) rfl (y2 i z) (fun q h1 h2 => by rw [t1 q (by omega)]; rfl)
      · refine rl_Dg (S := S) (ps := ps) (nn := nn) (cc := cc) (RR := RR) (BB := BB) (rl_Df (bx := b_offX) (bz := b_offY) (sta := a_state) (prf := a_preferred) (lns := a_lines) (cnt := a_count) ?_ (fun o ho => ⟨(y2 o (nS o ho)).2.2.1, (y2 o (nS o ho)).2.2.2⟩) (fun _ _ => rfl) (fun _ _ => rfl) (fun _ _ => rfl) rfl) (by omega) (fun o ho => ⟨mq_un (by omega), mq_un (nS o ho), mq_un (nS o ho), if_neg (nS o ho), if_neg (nS o ho)⟩)
        rw [pk_un (by decide)]
        exact hD
theorem tk_T {w S : Nat} {ps nn cc : Nat → Nat} {RR BB : Nat → Nat → Nat} {tl : Int32} {tape start bl bc bx bz cl dc dx dz tp sa : Nat → Int32} (hT : rl_T w S ps nn cc RR BB tl tape start cl dc dx dz) (hS : 1 ≤ S) (t1 : ∀ j, j + ps 1 < ps S → tp j &&& 255 = tape (j + ps 1) &&& 255) (t2 : ∀ i, i < S → sa i = start (i + 1) - nI (ps 1)) (hp : ∀ i, i + 1 < S → yl_p bl bc bx bz cl dc dx dz i (i + 1)) : rl_T w (S - 1) (fun i => ps (i + 1) - ps 1) (fun i => nn (i + 1)) (fun i => cc (i + 1)) (fun i => RR (i + 1)) (fun i => BB (i + 1)) (nI (ps S - ps 1)) tp sa bl bc bx bz := by
  have mo : ∀ i, i < S → ps 1 ≤ ps (i + 1) := fun i hi => by
    have := rl_pm hT i 1 (by omega)
    rw [Nat.add_comm 1 i] at this
    omega
  refine ⟨Nat.sub_self _, ?_, ?_, ?_, ?_⟩
  · intro i hi
    have a := hT.2.1 (i + 1) (by omega)
    have b := mo i (by omega)
    dsimp only
    omega
  · dsimp only
    rw [Nat.sub_add_cancel hS]
  · intro i hi
    rw [t2 i (by omega), hT.2.2.2.1 (i + 1) (by omega)]
    exact pk_sub (mo i (by omega))
  · intro i hi
    have a := mo i (by omega)
    have b := rl_pe hT (i := i + 1) (by omega)
    dsimp only
    exact rl_imt (c := ps 1) (hT.2.2.2.2 (i + 1) (by omega)) (by omega) (hp i (by omega)) (fun q h1 h2 => t1 q (by omega))
theorem i_vc_take {k : Nat} {u : SX} {v : SY} (I : i_Rel k u v) (hk : k + 4 ≤ 2051) : wpX_take (fun r u' => wpY_take (fun r' v' => r' = r ∧ i_Rel (k + 4) u' v') v) u := by
  obtain ⟨f_width, f_height, f_slots, f_bodyLast, f_encA, f_encC, f_encCt, f_tapeLength, f_stored, f_openIndex, f_openRows, f_decPos, f_decA, f_decC, f_decCt, a_qe, a_nextMps, a_nextLps, a_active, a_count, a_offsetX, a_offsetY, a_lines, a_state, a_preferred, a_body, a_tape, a_start⟩ := u
  obtain ⟨f_w, f_h, f_s, f_images, f_coding, f_openAt, f_decoded, b_lines, b_count, b_offX, b_offY⟩ := v
  have I0 := I
  obtain ⟨w, h, sl, S, ps, nn, cc, RR, BB, hK, tb, hT, hC, hD⟩ := I
  obtain ⟨k1, k2, k3, k4, k5, k6, k7, k8, k9, k10, k11, k12, k13, k14, k15⟩ := hK
  subst k1 k2 k3 k4 k5 k6 k7 k8
  by_cases hS : S = 0
  · subst hS
    exact br_t rfl (br_t rfl ⟨rfl, I0⟩)
  · have z1 : ¬ nI S = 0 := nI_ne0 (by omega) (by omega)
    have p1 := rl_ps hT S (Nat.le_refl _)
    have e0 : f_tapeLength = nI (ps S) := hT.2.2.1
    have e1 : a_start 1 = nI (ps 1) := hT.2.2.2.1 1 (by omega)
    have p2 : ps 1 ≤ ps S := by
      have := rl_pm hT (S - 1) 1 (by omega)
      rw [show 1 + (S - 1) = S by omega] at this
      omega
    subst e0
    have Y : ∀ post : Int32 → SY → Prop, (∀ bl bc bx bz : Nat → Int32, (∀ i, i + 1 < S → yl_p bl bc bx bz b_lines b_count b_offX b_offY i (i + 1)) → yl_p bl bc bx bz b_lines b_count b_offX b_offY 3 3 → ((f_openAt < 0 → post 0 (nI w, nI h, nI sl, nI (S - 1), f_coding, f_openAt, f_decoded, bl, bc, bx, bz)) ∧ (¬ f_openAt < 0 → post 0 (nI w, nI h, nI sl, nI (S - 1), f_coding, f_openAt - 1, f_decoded, bl, bc, bx, bz)))) → wpY_take post (nI w, nI h, nI sl, nI S, f_coding, f_openAt, f_decoded, b_lines, b_count, b_offX, b_offY) := by
      intro post K
      refine br_f z1 ⟨S, ?_⟩
      exact yk_loop (l0 := b_lines) (c0 := b_count) (x0 := b_offX) (z0 := b_offY) ⟨by omega, by omega⟩ K (S - 1) S 1 _ _ _ _ (by omega) (by omega) (by omega) (fun i hi => absurd hi (by omega)) (fun i hi => yl_r _ _ _ _ i)
    refine br_f z1 (nm_r e1 (xc_cut (c := ps 1) (S := S) (L := ps S) ⟨by omega, by omega⟩ p2 (by omega) ?_))
    intro tp sa t1 t2
    have K' : rl_K w h sl (S - 1) (nI w) (nI h) (nI sl) (nI (S - 1)) (nI w) (nI h) (nI sl) (nI (S - 1)) := ⟨rfl, rfl, rfl, rfl, rfl, rfl, rfl, rfl, k9, k10, k11, k12, k13, k14, by omega⟩
    have C' : ∀ bl bc bx bz : Nat → Int32, yl_p bl bc bx bz b_lines b_count b_offX b_offY 3 3 → rl_C w h sl (S - 1) (a_active 0) f_coding (a_count 0) (a_offsetX 0) (a_offsetY 0) (bc 3) (bx 3) (bz 3) f_encA f_encC f_encCt f_bodyLast a_lines a_state a_preferred a_body bl := by
      intro bl bc bx bz q
      obtain ⟨q1, q2, q3, q4⟩ := q
      rw [q2, q3, q4]
      exact rl_Cf hC k12 (by omega) (fun _ _ => rfl) (fun _ _ => rfl) (fun _ _ => rfl) (fun v hv => q1 v hv)
    rcases hD with ⟨d1, d2⟩ | ⟨d1, o, y, d2, d3, d4, d5, d6, d7, d8, d9, d10⟩
    · refine br_t d1 (Y _ (fun bl bc bx bz q1 q2 => br_t (by rw [d2]; decide) ⟨rfl, ?_⟩))
      exact ⟨w, h, sl, S - 1, _, _, _, _, _, K', tb, tk_T hT (by omega) t1 t2 q1, C' bl bc bx bz q2, Or.inl ⟨d1, d2⟩⟩
    · have n1 : ¬ a_active 1 = 0 := by rw [d1]; decide
      have n3 : ¬ f_openAt < 0 := by rw [d3]; exact nI_pos (by omega)
      cases o with
      | zero =>
        refine br_f n1 (br_t d4 (nm_e (Y _ (fun bl bc bx bz q1 q2 => br_f n3 ⟨rfl, ?_⟩))))
        refine ⟨w, h, sl, S - 1, _, _, _, _, _, K', tb, tk_T hT (by omega) t1 t2 q1, ?_, Or.inl ⟨pk_us, ?_⟩⟩
        · rw [pk_un (by decide)]; exact C' bl bc bx bz q2
        · rw [d3]; decide
      | succ o =>
        refine br_f n1 (br_f (by rw [d4]; exact nI_ne0 (by omega) (by omega)) (nm_e (nm_e (Y _ (fun bl bc bx bz q1 q2 => br_f n3 ⟨rfl, ?_⟩)))))
        refine ⟨w, h, sl, S - 1, _, _, _, _, _, K', tb, tk_T hT (by omega) t1 t2 q1, C' bl bc bx bz q2, Or.inr ⟨d1, o, y, by omega, ?_, ?_, d5, d6, d7, ?_, ?_, ?_⟩⟩
        · rw [d3, nI_pred]
        · rw [d4, nI_pred]
        · rw [d8]; exact (q1 o (by omega)).2.2.1.symm
        · rw [d9]; exact (q1 o (by omega)).2.2.2.symm
        · obtain ⟨f1, f2, f3, f4, f5⟩ := d10
          rw [(q1 o (by omega)).2.2.1, (q1 o (by omega)).2.2.2]
          refine ⟨f1, ?_, f3, f4, f5⟩
          obtain ⟨m, ct, i, h1, h2, h3, h4, h5, h6⟩ := f2
          refine ⟨m, ct, i, ?_, h2, h3, h4, h5, h6⟩
          have mo := rl_pm hT o 1 (by omega)
          rw [Nat.add_comm 1 o] at mo
          rw [h1, pk_sub (by omega)]
          show nI (ps (o + 1) + 3 + i - ps 1) = nI (ps (o + 1) - ps 1 + 3 + i)
          exact congrArg nI (by omega)
end
section
/-! reading back, the constructors -/
section
variable {f_width f_height f_slots f_bodyLast f_encA f_encC f_encCt f_tapeLength f_stored f_openIndex f_openRows f_decPos f_decA f_decC f_decCt : Int32} {a_qe a_nextMps a_nextLps a_active a_count a_offsetX a_offsetY a_lines a_state a_preferred a_body a_tape a_start : Nat → Int32}
theorem xd_atx {post : Int32 → Prop} {p L : Nat} {z : Int32} (hp : p < L) (hL : L ≤ 2048) (hb : a_tape p &&& 255 = z) (K : post z) : wpX_tapeAt post (f_width, f_height, f_slots, f_bodyLast, f_encA, f_encC, f_encCt, nI L, f_stored, f_openIndex, f_openRows, f_decPos, f_decA, f_decC, f_decCt, a_qe, a_nextMps, a_nextLps, a_active, a_count, a_offsetX, a_offsetY, a_lines, a_state, a_preferred, a_body, a_tape, a_start) (nI p) := by
  refine br_f (nI_pos (by omega)) (br_t (nI_lt hp (by omega)) (And.intro (vp_in_nI (by omega) (by decide)) ?_))
  rw [nI_clamp (by omega), hb]
  exact K
end
theorem i_vc_open {k : Nat} {u : SX} {v : SY} (I : i_Rel k u v) (hk : k + 4 ≤ 2051) (v1 : Int32) : wpX_open (fun r u' => wpY_open (fun r' v' => r' = r ∧ i_Rel (k + 4) u' v') v v1) u v1 := by
  obtain ⟨f_width, f_height, f_slots, f_bodyLast, f_encA, f_encC, f_encCt, f_tapeLength, f_stored, f_openIndex, f_openRows, f_decPos, f_decA, f_decC, f_decCt, a_qe, a_nextMps, a_nextLps, a_active, a_count, a_offsetX, a_offsetY, a_lines, a_state, a_preferred, a_body, a_tape, a_start⟩ := u
  obtain ⟨f_w, f_h, f_s, f_images, f_coding, f_openAt, f_decoded, b_lines, b_count, b_offX, b_offY⟩ := v
  have I0 := I
  obtain ⟨w, h, sl, S, ps, nn, cc, RR, BB, hK, tb, hT, hC, hD⟩ := I
  have hK0 := hK
  obtain ⟨k1, k2, k3, k4, k5, k6, k7, k8, k9, k10, k11, k12, k13, k14, k15⟩ := hK
  subst k1 k2 k3 k4 k5 k6 k7 k8
  by_cases h0 : v1 < 0
  · exact br_t h0 (br_t h0 ⟨rfl, I0⟩)
  · obtain ⟨i, hi, rfl⟩ := nI_of h0
    by_cases h1 : i < S
    · have l1 : nI i < nI S := nI_lt h1 (by omega)
      have p1 := rl_ps hT S (Nat.le_refl _)
      have p2 := rl_pe hT h1
      have e0 : f_tapeLength = nI (ps S) := hT.2.2.1
      have e1 : a_start (nI i).toNatClampNeg = nI (ps i) := by rw [nI_clamp hi]; exact hT.2.2.2.1 i (by omega)
      subst e0
      obtain ⟨m1, m2, m3, m4, m5, m6, m7, m8, m9, m10, m11, m12⟩ := hT.2.2.2.2 i h1
      refine br_f h0 (br_t l1 (And.intro (vp_in_nI (by omega) (by decide)) (nm_r e1 ?_)))
      rw [nI_1 (ps i)]
      refine xd_atx (by omega) (by omega) m8 (nm_r (Int32.add_sub_cancel _ _) ?_)
      rw [show nI (ps i) + 2 = nI (ps i + 2) from nI_add (ps i) 2]
      refine xd_atx (by omega) (by omega) m9 (nm_r Int32.neg_neg ?_)
      refine xz_reset (side := 1) (by decide) ?_
      intro lns sta prf z1 z2 z3 z4 z5
      refine xd_atx (by omega) (by omega) m7 ?_
      rw [show nI (ps i) + 3 = nI (ps i + 3) from nI_add (ps i) 3]
      refine xd_start m10 m11 (by omega) (by omega) ?_
      intro dP dC dCt dI
      refine br_f h0 (br_t l1 ⟨rfl, ?_⟩)
      refine ⟨w, h, sl, S, ps, nn, cc, RR, BB, hK0, tb, hT, ?_, Or.inr ⟨pk_us, i, 0, h1, rfl, rfl, rfl, by omega, rfl, pk_us, pk_us, rfl, dI, z3, ?_, pk_us⟩⟩
      · rw [pk_un (by decide), pk_un (by decide), pk_un (by decide), pk_un (by decide)]
        exact rl_Cf hC k12 (Nat.le_refl _) (fun j hj => z2 j (by omega)) (fun j hj => z4 j (by omega)) (fun j hj => z5 j (by omega)) (fun _ _ => rfl)
      · intro v hv
        refine (z1 v hv).trans (congrArg nI ?_)
        by_cases z : v = 0
        · rw [z, de_Req, Nat.pow_zero, Nat.mod_one]
        · rw [de_Rhi _ (by omega)]
    · have l1 : ¬ nI i < nI S := nI_nlt (by omega) hi
      exact br_f h0 (br_f l1 (br_f h0 (br_f l1 ⟨rfl, I0⟩)))
theorem i_vc_decode {k : Nat} {u : SX} {v : SY} (I : i_Rel k u v) (hk : k + 4 ≤ 2051) (v1 : Int32) : wpX_decode (fun r u' => wpY_decode (fun r' v' => r' = r ∧ i_Rel (k + 4) u' v') v v1) u v1 := by
  obtain ⟨f_width, f_height, f_slots, f_bodyLast, f_encA, f_encC, f_encCt, f_tapeLength, f_stored, f_openIndex, f_openRows, f_decPos, f_decA, f_decC, f_decCt, a_qe, a_nextMps, a_nextLps, a_active, a_count, a_offsetX, a_offsetY, a_lines, a_state, a_preferred, a_body, a_tape, a_start⟩ := u
  obtain ⟨f_w, f_h, f_s, f_images, f_coding, f_openAt, f_decoded, b_lines, b_count, b_offX, b_offY⟩ := v
  have I0 := I
  obtain ⟨w, h, sl, S, ps, nn, cc, RR, BB, hK, tb, hT, hC, hD⟩ := I
  have hK0 := hK
  obtain ⟨k1, k2, k3, k4, k5, k6, k7, k8, k9, k10, k11, k12, k13, k14, k15⟩ := hK
  subst k1 k2 k3 k4 k5 k6 k7 k8
  rcases hD with ⟨d1, d2⟩ | ⟨d1, o, y, d2, d3, d4, d5, d6, d7, d8, d9, d10⟩
  · exact br_t d1 (br_f (by rw [d2]; decide) ⟨rfl, I0⟩)
  · have n1 : ¬ a_active 1 = 0 := by rw [d1]; decide
    have n2 : (0 : Int32) ≤ f_openAt := by rw [d3]; exact nI_pos' (by omega)
    by_cases h1 : (1 : Int32) ≤ v1
    · have h0 : ¬ v1 < 0 := by
        rw [Int32.le_iff_toInt_le, xi_1] at h1
        rw [Int32.lt_iff_toInt_lt, xi_0]
        omega
      obtain ⟨q, hq, rfl⟩ := nI_of h0
      have p1 := rl_ps hT S (Nat.le_refl _)
      have p2 := rl_pe hT d2
      have e0 : f_tapeLength = nI (ps S) := hT.2.2.1
      subst e0
      obtain ⟨m1, m2, m3, m4, m5, ⟨g1, g2, g3⟩, m7, m8, m9, m10, m11, m12⟩ := hT.2.2.2.2 o d2
      have ec : a_count 1 = nI y := d10.2.2.2.2
      have er : f_openRows - a_count 1 = nI (cc o - y) := by rw [d5, ec]; exact pk_sub d6
      have eb : b_count f_openAt.toNatClampNeg - f_decoded = nI (cc o - y) := by rw [d3, nI_clamp (by omega), m1, d7]; exact pk_sub d6
      have vi : vp_in f_openAt 4 := by rw [d3]; exact vp_in_nI (by omega) (by decide)
      have X : ∀ (t : Nat) (post : Int32 → SX → Prop), y + t ≤ cc o → (∀ (dA dP dC dCt : Int32) (sta prf lns cnt : Nat → Int32), i_Rel (k + 4) (nI w, nI h, nI sl, f_bodyLast, f_encA, f_encC, f_encCt, nI (ps S), nI S, f_openIndex, f_openRows, dP, dA, dC, dCt, a_qe, a_nextMps, a_nextLps, a_active, cnt, a_offsetX, a_offsetY, lns, sta, prf, a_body, a_tape, a_start) (nI w, nI h, nI sl, nI S, f_coding, f_openAt, nI (y + t), b_lines, b_count, b_offX, b_offY) → post (nI t) (nI w, nI h, nI sl, f_bodyLast, f_encA, f_encC, f_encCt, nI (ps S), nI S, f_openIndex, f_openRows, dP, dA, dC, dCt, a_qe, a_nextMps, a_nextLps, a_active, cnt, a_offsetX, a_offsetY, lns, sta, prf, a_body, a_tape, a_start)) → ∃ m, wX_decode_45 post (nI t) m 0 (nI w) (nI h) (nI sl) f_bodyLast f_encA f_encC f_encCt (nI (ps S)) (nI S) f_openIndex f_openRows f_decPos f_decA f_decC f_decCt a_qe a_nextMps a_nextLps a_active a_count a_offsetX a_offsetY a_lines a_state a_preferred a_body a_tape a_start := by
        intro t post ht K
        refine ⟨t + 1, xv_dec (y := y) (t := t) (cn := cc o) (R := RR o) (B := BB o) (n := nn o) (p := ps o + 3) (sta0 := a_state) (prf0 := a_preferred) (ln0 := a_lines) (cnt0 := a_count) m10 m11 (by omega) (by omega) k10 m3 ht tb (fun v => yp_16 k10 (m5 v)) m5 d8 d9 g1 g2 g3 m12 ?_ t (t + 1) 0 _ _ _ _ _ _ _ _ (by omega) (by omega) d10 (fun _ _ => rfl) (xl_frr _ _) (xl_frr _ _) rfl⟩
        intro dA dP dC dCt sta prf lns cnt D f1 f2 f3 f4
        refine K dA dP dC dCt sta prf lns cnt ⟨w, h, sl, S, ps, nn, cc, RR, BB, hK0, tb, hT, ?_, Or.inr ⟨d1, o, y + t, d2, d3, d4, d5, ht, rfl, d8, d9, D⟩⟩
        rw [f4]
        exact rl_Cf hC k12 (Nat.le_refl _) f1 (fun j hj => f2 j (by omega)) (fun j hj => f3 j (by omega)) (fun _ _ => rfl)
      refine br_f n1 (br_t h1 (nm_r er ?_))
      by_cases hm : cc o - y ≤ q
      · have l1 : nI (cc o - y) ≤ nI q := nI_le hm hq
        refine br_t l1 (X (cc o - y) _ (by omega) (fun dA dP dC dCt sta prf lns cnt fin => ?_))
        refine br_t n2 (br_t h1 (And.intro vi (nm_r eb (br_t l1 (nm_r (e' := nI (y + (cc o - y))) (by rw [d7, nI_add]) ⟨rfl, fin⟩)))))
      · have l1 : ¬ nI (cc o - y) ≤ nI q := nI_ge (by omega) (by omega)
        refine br_f l1 (X q _ (by omega) (fun dA dP dC dCt sta prf lns cnt fin => ?_))
        refine br_t n2 (br_t h1 (And.intro vi (nm_r eb (br_f l1 (nm_r (e' := nI (y + q)) (by rw [d7, nI_add]) ⟨rfl, fin⟩)))))
    · exact br_f n1 (br_f h1 (br_t n2 (br_f h1 ⟨rfl, I0⟩)))
theorem cl_ex (x : Int32) {a b : Nat} (hab : a ≤ b) (hb : b < 2 ^ 31) : ∃ c, a ≤ c ∧ c ≤ b ∧ ∀ P : Int32 → Prop, P (nI c) → ((nI a ≤ x → ((x ≤ nI b → P x) ∧ (¬ x ≤ nI b → P (nI b)))) ∧ (¬ nI a ≤ x → P (nI a))) := by
  by_cases h1 : nI a ≤ x
  · by_cases h2 : x ≤ nI b
    · have h0 : ¬ x < 0 := by
        rw [Int32.le_iff_toInt_le, nI_toInt (by omega)] at h1
        rw [Int32.lt_iff_toInt_lt, xi_0]
        omega
      obtain ⟨j, hj, rfl⟩ := nI_of h0
      exact ⟨j, (nI_leI (by omega) hj).mp h1, (nI_leI hj hb).mp h2, fun P hp => br_t h1 (br_t h2 hp)⟩
    · exact ⟨b, hab, Nat.le_refl _, fun P hp => br_t h1 (br_f h2 hp)⟩
  · exact ⟨a, Nat.le_refl _, hab, fun P hp => br_f h1 hp⟩
def in_T (i : Nat) (a b c : Nat → Int32) : Prop := ∀ j, j < i → a j = nI (mq_Q j) ∧ b j = nI (mq_NM j) ∧ c j = nI (mq_NL j)
section
variable {f_width f_height f_slots f_bodyLast f_encA f_encC f_encCt f_tapeLength f_stored f_openIndex f_openRows f_decPos f_decA f_decC f_decCt : Int32} {a_qe a_nextMps a_nextLps a_active a_count a_offsetX a_offsetY a_lines a_state a_preferred a_body a_tape a_start : Nat → Int32}
theorem in_cl {post : Int32 → Prop} {x : Int32} {a b c : Nat} (hc : ∀ P : Int32 → Prop, P (nI c) → ((nI a ≤ x → ((x ≤ nI b → P x) ∧ (¬ x ≤ nI b → P (nI b)))) ∧ (¬ nI a ≤ x → P (nI a)))) (K : post (nI c)) : wpX_clamp post (f_width, f_height, f_slots, f_bodyLast, f_encA, f_encC, f_encCt, f_tapeLength, f_stored, f_openIndex, f_openRows, f_decPos, f_decA, f_decC, f_decCt, a_qe, a_nextMps, a_nextLps, a_active, a_count, a_offsetX, a_offsetY, a_lines, a_state, a_preferred, a_body, a_tape, a_start) x (nI a) (nI b) := hc post K
theorem in_df {post : SX → Prop} {i : Nat} {q m l : Int32} (hi : i < 46) (h : in_T i a_qe a_nextMps a_nextLps) (e1 : q = nI (mq_Q i)) (e2 : m = nI (mq_NM i)) (e3 : l = nI (mq_NL i)) (K : ∀ a b c : Nat → Int32, in_T (i + 1) a b c → post (f_width, f_height, f_slots, f_bodyLast, f_encA, f_encC, f_encCt, f_tapeLength, f_stored, f_openIndex, f_openRows, f_decPos, f_decA, f_decC, f_decCt, a, b, c, a_active, a_count, a_offsetX, a_offsetY, a_lines, a_state, a_preferred, a_body, a_tape, a_start)) : wpX_define post (f_width, f_height, f_slots, f_bodyLast, f_encA, f_encC, f_encCt, f_tapeLength, f_stored, f_openIndex, f_openRows, f_decPos, f_decA, f_decC, f_decCt, a_qe, a_nextMps, a_nextLps, a_active, a_count, a_offsetX, a_offsetY, a_lines, a_state, a_preferred, a_body, a_tape, a_start) (nI i) q m l := by
  have vi : vp_in (nI i) 46 := vp_in_nI hi (by decide)
  have c : (nI i).toNatClampNeg = i := nI_clamp (by omega)
  refine And.intro vi (nm_r (e' := upd a_qe i q) (by rw [c]) (And.intro vi (nm_r (e' := upd a_nextMps i m) (by rw [c]) (And.intro vi (nm_r (e' := upd a_nextLps i l) (by rw [c]) (K _ _ _ ?_))))))
  intro j hj
  by_cases z : j = i
  · rw [z, pk_us, pk_us, pk_us]; exact ⟨e1, e2, e3⟩
  · rw [pk_un z, pk_un z, pk_un z]; exact h j (by omega)
theorem in_fast {post : SX → Prop} (h0 : in_T 0 a_qe a_nextMps a_nextLps) (K : ∀ a b c : Nat → Int32, in_T 14 a b c → post (f_width, f_height, f_slots, f_bodyLast, f_encA, f_encC, f_encCt, f_tapeLength, f_stored, f_openIndex, f_openRows, f_decPos, f_decA, f_decC, f_decCt, a, b, c, a_active, a_count, a_offsetX, a_offsetY, a_lines, a_state, a_preferred, a_body, a_tape, a_start)) : wpX_fillFastStates post (f_width, f_height, f_slots, f_bodyLast, f_encA, f_encC, f_encCt, f_tapeLength, f_stored, f_openIndex, f_openRows, f_decPos, f_decA, f_decC, f_decCt, a_qe, a_nextMps, a_nextLps, a_active, a_count, a_offsetX, a_offsetY, a_lines, a_state, a_preferred, a_body, a_tape, a_start) := by
  unfold wpX_fillFastStates
  refine in_df (i := 0) (by decide) h0 rfl rfl rfl (fun a0 b0 c0 h1 => ?_)
  refine in_df (i := 1) (by decide) h1 rfl rfl rfl (fun a1 b1 c1 h2 => ?_)
  refine in_df (i := 2) (by decide) h2 rfl rfl rfl (fun a2 b2 c2 h3 => ?_)
  refine in_df (i := 3) (by decide) h3 rfl rfl rfl (fun a3 b3 c3 h4 => ?_)
  refine in_df (i := 4) (by decide) h4 rfl rfl rfl (fun a4 b4 c4 h5 => ?_)
  refine in_df (i := 5) (by decide) h5 rfl rfl rfl (fun a5 b5 c5 h6 => ?_)
  refine in_df (i := 6) (by decide) h6 rfl rfl rfl (fun a6 b6 c6 h7 => ?_)
  refine in_df (i := 7) (by decide) h7 rfl rfl rfl (fun a7 b7 c7 h8 => ?_)
  refine in_df (i := 8) (by decide) h8 rfl rfl rfl (fun a8 b8 c8 h9 => ?_)
  refine in_df (i := 9) (by decide) h9 rfl rfl rfl (fun a9 b9 c9 h10 => ?_)
  refine in_df (i := 10) (by decide) h10 rfl rfl rfl (fun a10 b10 c10 h11 => ?_)
  refine in_df (i := 11) (by decide) h11 rfl rfl rfl (fun a11 b11 c11 h12 => ?_)
  refine in_df (i := 12) (by decide) h12 rfl rfl rfl (fun a12 b12 c12 h13 => ?_)
  refine in_df (i := 13) (by decide) h13 rfl rfl rfl (fun a13 b13 c13 h14 => ?_)
  exact K _ _ _ h14
theorem in_slow {post : SX → Prop} (h14 : in_T 14 a_qe a_nextMps a_nextLps) (K : ∀ a b c : Nat → Int32, in_T 46 a b c → post (f_width, f_height, f_slots, f_bodyLast, f_encA, f_encC, f_encCt, f_tapeLength, f_stored, f_openIndex, f_openRows, f_decPos, f_decA, f_decC, f_decCt, a, b, c, a_active, a_count, a_offsetX, a_offsetY, a_lines, a_state, a_preferred, a_body, a_tape, a_start)) : wpX_fillSlowStates post (f_width, f_height, f_slots, f_bodyLast, f_encA, f_encC, f_encCt, f_tapeLength, f_stored, f_openIndex, f_openRows, f_decPos, f_decA, f_decC, f_decCt, a_qe, a_nextMps, a_nextLps, a_active, a_count, a_offsetX, a_offsetY, a_lines, a_state, a_preferred, a_body, a_tape, a_start) := by
  unfold wpX_fillSlowStates
  refine in_df (i := 14) (by decide) h14 rfl rfl rfl (fun a14 b14 c14 h15 => ?_)
  refine in_df (i := 15) (by decide) h15 rfl rfl rfl (fun a15 b15 c15 h16 => ?_)
  refine in_df (i := 16) (by decide) h16 rfl rfl rfl (fun a16 b16 c16 h17 => ?_)
  refine in_df (i := 17) (by decide) h17 rfl rfl rfl (fun a17 b17 c17 h18 => ?_)
  refine in_df (i := 18) (by decide) h18 rfl rfl rfl (fun a18 b18 c18 h19 => ?_)
  refine in_df (i := 19) (by decide) h19 rfl rfl rfl (fun a19 b19 c19 h20 => ?_)
  refine in_df (i := 20) (by decide) h20 rfl rfl rfl (fun a20 b20 c20 h21 => ?_)
  refine in_df (i := 21) (by decide) h21 rfl rfl rfl (fun a21 b21 c21 h22 => ?_)
  refine in_df (i := 22) (by decide) h22 rfl rfl rfl (fun a22 b22 c22 h23 => ?_)
  refine in_df (i := 23) (by decide) h23 rfl rfl rfl (fun a23 b23 c23 h24 => ?_)
  refine in_df (i := 24) (by decide) h24 rfl rfl rfl (fun a24 b24 c24 h25 => ?_)
  refine in_df (i := 25) (by decide) h25 rfl rfl rfl (fun a25 b25 c25 h26 => ?_)
  refine in_df (i := 26) (by decide) h26 rfl rfl rfl (fun a26 b26 c26 h27 => ?_)
  refine in_df (i := 27) (by decide) h27 rfl rfl rfl (fun a27 b27 c27 h28 => ?_)
  refine in_df (i := 28) (by decide) h28 rfl rfl rfl (fun a28 b28 c28 h29 => ?_)
  refine in_df (i := 29) (by decide) h29 rfl rfl rfl (fun a29 b29 c29 h30 => ?_)
  refine in_df (i := 30) (by decide) h30 rfl rfl rfl (fun a30 b30 c30 h31 => ?_)
  refine in_df (i := 31) (by decide) h31 rfl rfl rfl (fun a31 b31 c31 h32 => ?_)
  refine in_df (i := 32) (by decide) h32 rfl rfl rfl (fun a32 b32 c32 h33 => ?_)
  refine in_df (i := 33) (by decide) h33 rfl rfl rfl (fun a33 b33 c33 h34 => ?_)
  refine in_df (i := 34) (by decide) h34 rfl rfl rfl (fun a34 b34 c34 h35 => ?_)
  refine in_df (i := 35) (by decide) h35 rfl rfl rfl (fun a35 b35 c35 h36 => ?_)
  refine in_df (i := 36) (by decide) h36 rfl rfl rfl (fun a36 b36 c36 h37 => ?_)
  refine in_df (i := 37) (by decide) h37 rfl rfl rfl (fun a37 b37 c37 h38 => ?_)
  refine in_df (i := 38) (by decide) h38 rfl rfl rfl (fun a38 b38 c38 h39 => ?_)
  refine in_df (i := 39) (by decide) h39 rfl rfl rfl (fun a39 b39 c39 h40 => ?_)
  refine in_df (i := 40) (by decide) h40 rfl rfl rfl (fun a40 b40 c40 h41 => ?_)
  refine in_df (i := 41) (by decide) h41 rfl rfl rfl (fun a41 b41 c41 h42 => ?_)
  refine in_df (i := 42) (by decide) h42 rfl rfl rfl (fun a42 b42 c42 h43 => ?_)
  refine in_df (i := 43) (by decide) h43 rfl rfl rfl (fun a43 b43 c43 h44 => ?_)
  refine in_df (i := 44) (by decide) h44 rfl rfl rfl (fun a44 b44 c44 h45 => ?_)
  refine in_df (i := 45) (by decide) h45 rfl rfl rfl (fun a45 b45 c45 h46 => ?_)
  exact K _ _ _ h46
end
theorem i_vc0 (k0 : Int32) (k1 : Int32) (k2 : Int32) : wpX_init (fun u => wpY_init (fun v => i_Rel 3 u v) k0 k1 k2) k0 k1 k2 := by
  obtain ⟨w, w1, w2, hw⟩ := cl_ex k0 (a := 4) (b := 16) (by decide) (by decide)
  obtain ⟨h, h1, h2, hh⟩ := cl_ex k1 (a := 1) (b := 8) (by decide) (by decide)
  obtain ⟨sl, s1, s2, hs⟩ := cl_ex k2 (a := 1) (b := 3) (by decide) (by decide)
  unfold wpX_init
  refine in_cl (a := 4) (b := 16) hw ?_
  refine in_cl (a := 1) (b := 8) hh ?_
  refine in_cl (a := 1) (b := 3) hs ?_
  refine in_fast (fun j hj => absurd hj (by omega)) (fun a b c t1 => ?_)
  refine in_slow t1 (fun a2 b2 c2 t2 => ?_)
  refine hw (fun z => wY_init_75 _ k1 k2 z 0 0 0 0 0 (-1) 0 (fun _ => 0) (fun _ => 0) (fun _ => 0) (fun _ => 0)) ?_
  refine hh (fun z => wY_init_100 _ k2 z (nI w) 0 0 0 0 (-1) 0 (fun _ => 0) (fun _ => 0) (fun _ => 0) (fun _ => 0)) ?_
  refine hs (fun z => i_Rel 3 _ (nI w, nI h, z, 0, 0, -1, 0, (fun _ => 0), (fun _ => 0), (fun _ => 0), (fun _ => 0))) ?_
  exact ⟨w, h, sl, 0, fun _ => 0, fun _ => 0, fun _ => 0, fun _ _ => 0, fun _ _ => 0, ⟨rfl, rfl, rfl, rfl, rfl, rfl, rfl, rfl, w1, w2, h1, h2, s1, s2, Nat.zero_le _⟩, t2, ⟨rfl, fun i hi => absurd hi (by omega), rfl, fun _ _ => rfl, fun i hi => absurd hi (by omega)⟩, Or.inl ⟨rfl, rfl⟩, Or.inl ⟨rfl, rfl⟩⟩
end
