section
/-! pure rows to paste: stores, nI and lN arithmetic, masks, shifts, narrowing, branches by naturals (pk_le, pk_lt, pk_eq), loops (lp1 .. lp16: the measure of the state; rp1 ..: recursion), negatives. Take what you need -/
theorem pk_us {f : Nat → Int32} {k : Nat} {x : Int32} : upd f k x k = x := if_pos rfl
theorem pk_un {f : Nat → Int32} {k j : Nat} {x : Int32} (h : j ≠ k) : upd f k x j = f j := if_neg h
theorem pk_uLs {f : Nat → Int64} {k : Nat} {x : Int64} : vp_updL f k x k = x := if_pos rfl
theorem pk_uLn {f : Nat → Int64} {k j : Nat} {x : Int64} (h : j ≠ k) : vp_updL f k x j = f j := if_neg h
theorem pk_sub {a b : Nat} (h : b ≤ a) : nI a - nI b = nI (a - b) := by
  obtain ⟨c, rfl⟩ : ∃ c, a = c + b := ⟨a - b, by omega⟩
  rw [← nI_add, Int32.add_sub_cancel, Nat.add_sub_cancel]
theorem pk_m1 (n : Nat) : nI (n + 1) + (-1) = nI n := by
  rw [← nI_1, Int32.add_assoc, show (1 : Int32) + (-1) = 0 from rfl, Int32.add_zero]
theorem pk_mul (a b : Nat) : nI a * nI b = nI (a * b) := (Int32.ofNat_mul a b).symm
theorem pk_div {a d : Nat} (ha : a < 2 ^ 31) (h0 : 0 < d) (hd : d < 2 ^ 31) : nI a / nI d = nI (a / d) := by
  apply Int32.toInt_inj.mp
  rw [lg_idiv_nonneg (by rw [nI_toInt ha]; omega) (by rw [nI_toInt hd]; omega), nI_toInt ha, nI_toInt hd, nI_toInt (Nat.lt_of_le_of_lt (Nat.div_le_self a d) ha)]
  first | rfl | exact (Int.natCast_ediv _ _).symm
theorem pk_rem {a d : Nat} (ha : a < 2 ^ 31) (h0 : 0 < d) (hd : d < 2 ^ 31) : nI a - nI a / nI d * nI d = nI (a % d) := by
  rw [pk_div ha h0 hd, pk_mul, pk_sub (Nat.div_mul_le_self a d)]
  exact congrArg nI (by have := Nat.div_add_mod' a d; omega)
theorem pk_sub_toInt {a b : Nat} (ha : a < 2 ^ 30) (hb : b < 2 ^ 30) : (nI a - nI b).toInt = (a : Int) - b := by
  rw [Int32.toInt_sub, nI_toInt (by omega), nI_toInt (by omega)]
  exact Int.bmod_eq_of_le (by omega) (by omega)
theorem pk_sneg {a b : Nat} (hb : b < 2 ^ 30) (h : a < b) : nI a - nI b < 0 := by
  rw [Int32.lt_iff_toInt_lt, pk_sub_toInt (by omega) hb, show (0 : Int32).toInt = 0 from by decide]
  omega
theorem pk_ix (x : Int32) {n : Nat} (hn : n < 2 ^ 31) : x < 0 ∨ nI n ≤ x ∨ ∃ j : Nat, j < n ∧ x = nI j := by
  by_cases h : x < 0
  · exact Or.inl h
  · obtain ⟨j, hj, rfl⟩ := nI_of h
    by_cases h2 : j < n
    · exact Or.inr (Or.inr ⟨j, h2, rfl⟩)
    · exact Or.inr (Or.inl (nI_le (by omega) hj))
theorem pk_le {x y : Int32} {A B : Prop} (a b : Nat) (f : a ≤ b → A) (g : b < a → B) (hx : x = nI a := by rfl) (hy : y = nI b := by rfl) (ha : a < 2 ^ 31 := by omega) (hb : b < 2 ^ 31 := by omega) : (x ≤ y → A) ∧ (¬ x ≤ y → B) := by
  subst hx hy
  rw [nI_leI ha hb]
  exact ⟨f, fun z => g (by omega)⟩
theorem pk_lt {x y : Int32} {A B : Prop} (a b : Nat) (f : a < b → A) (g : b ≤ a → B) (hx : x = nI a := by rfl) (hy : y = nI b := by rfl) (ha : a < 2 ^ 31 := by omega) (hb : b < 2 ^ 31 := by omega) : (x < y → A) ∧ (¬ x < y → B) := by
  subst hx hy
  rw [nI_ltI ha hb]
  exact ⟨f, fun z => g (by omega)⟩
theorem pk_eq {x y : Int32} {A B : Prop} (a b : Nat) (f : a = b → A) (g : a ≠ b → B) (hx : x = nI a := by rfl) (hy : y = nI b := by rfl) (ha : a < 2 ^ 31 := by omega) (hb : b < 2 ^ 31 := by omega) : (x = y → A) ∧ (¬ x = y → B) := by
  subst hx hy
  rw [nI_eq ha hb]
  exact ⟨f, g⟩
theorem pk_in {x : Int32} (n N : Nat) (h : n < N) (hx : x = nI n := by rfl) (hN : N < 2 ^ 31 := by omega) : vp_in x N := by
  subst hx
  exact vp_in_nI h hN
theorem pk_cl {x : Int32} (n : Nat) (hx : x = nI n := by rfl) (h : n < 2 ^ 31 := by omega) : x.toNatClampNeg = n := by
  subst hx
  exact nI_clamp h
theorem pk_tn {n : Nat} (h : n < 2 ^ 32) : (nI n).toBitVec.toNat = n := Nat.mod_eq_of_lt h
theorem pk_and (x : Int32) {m : Int32} (k : Nat) (hm : m.toBitVec.toNat = 2 ^ k - 1) : x &&& m = nI (x.toBitVec.toNat % 2 ^ k) := by
  apply Int32.toBitVec_inj.mp
  apply BitVec.eq_of_toNat_eq
  rw [Int32.toBitVec_and, BitVec.toNat_and, hm, Nat.and_two_pow_sub_one_eq_mod]
  show _ = (BitVec.ofNat 32 _).toNat
  rw [BitVec.toNat_ofNat]
  exact (Nat.mod_eq_of_lt (Nat.lt_of_le_of_lt (Nat.mod_le _ _) x.toBitVec.isLt)).symm
theorem pk_andN {n : Nat} (h : n < 2 ^ 32) {m : Int32} (k : Nat) (hm : m.toBitVec.toNat = 2 ^ k - 1) : nI n &&& m = nI (n % 2 ^ k) := by
  rw [pk_and _ k hm, pk_tn h]
theorem pk_andE (x : Int32) {m : Int32} (k : Nat) (hm : m.toBitVec.toNat = 2 ^ k - 1) : ∃ j : Nat, j < 2 ^ k ∧ x &&& m = nI j := ⟨_, Nat.mod_lt _ (Nat.two_pow_pos k), pk_and x k hm⟩
theorem pk_andIn (x : Int32) {m : Int32} (k : Nat) (hm : m.toBitVec.toNat = 2 ^ k - 1) (hk : k ≤ 30) : vp_in (x &&& m) (2 ^ k) := by
  obtain ⟨j, hj, e⟩ := pk_andE x k hm
  rw [e]
  exact vp_in_nI hj (Nat.lt_of_le_of_lt (Nat.pow_le_pow_right (by decide) hk) (by decide))
theorem pk_least (P : Nat → Prop) (h : ∃ k, P k) : ∃ k, P k ∧ ∀ j, j < k → ¬ P j := by
  obtain ⟨k, hk⟩ := h
  induction k using Nat.strongRecOn with
  | ind k ih =>
    by_cases e : ∃ j, j < k ∧ P j
    · obtain ⟨j, hj, pj⟩ := e
      exact ih j hj pj
    · exact ⟨k, hk, fun j hj pj => e ⟨j, hj, pj⟩⟩
theorem ek_if {c d A B : Prop} (e : c ↔ d) (f : d → A) (g : ¬ d → B) : (c → A) ∧ (¬ c → B) :=
  ⟨fun z => f (e.mp z), fun z => g (fun y => z (e.mpr y))⟩
theorem ek_v {α : Sort _} {P : α → Prop} {a b : α} (e : a = b) (h : P b) : P a := e ▸ h
/-! ===== lN n to 2^64: shifts, and, or, masks, one bit ===== -/
theorem wb_tb (n : Nat) : (lN n).toBitVec = BitVec.ofNat 64 n := rfl
theorem wb_inj {a b : Int64} (h : a.toBitVec = b.toBitVec) : a = b := Int64.toBitVec_inj.mp h
theorem wb_tn {n : Nat} (h : n < 2 ^ 64) : (lN n).toBitVec.toNat = n := by rw [wb_tb, BitVec.toNat_ofNat, Nat.mod_eq_of_lt h]
theorem wb_of (x : Int64) : ∃ n, n < 2 ^ 64 ∧ x = lN n := ⟨x.toBitVec.toNat, x.toBitVec.isLt, wb_inj (by rw [wb_tb]; simp)⟩
theorem wb_of32 (x : Int32) : ∃ n, n < 2 ^ 32 ∧ x = nI n := ⟨x.toBitVec.toNat, x.toBitVec.isLt, Int32.toBitVec_inj.mp (by show _ = BitVec.ofNat 32 _; simp)⟩
theorem wb_c : ∀ k, k < 64 → ((nI k).toInt64 &&& 63) = lN k := by decide +kernel
theorem wb_cu : ∀ k, k < 64 → ((nI k).toInt64.toUInt64 &&& Int64.toUInt64 63) = UInt64.ofNat k := by decide +kernel
theorem wb_sm : ∀ k, k < 64 → (BitVec.ofNat 64 k).smod 64 = BitVec.ofNat 64 k := by decide +kernel
theorem wb_pw {a b : Nat} (h : a ≤ b) : 2 ^ b = 2 ^ a * 2 ^ (b - a) := by rw [← Nat.pow_add]; congr 1; omega
theorem wb_lt2 {a b : Nat} (h : a < b) : 2 ^ a < 2 ^ b := Nat.pow_lt_pow_right (by decide) h
theorem wb_mod (n : Nat) : lN n = lN (n % 2 ^ 64) := wb_inj (by rw [wb_tb, wb_tb]; apply BitVec.eq_of_toNat_eq; rw [BitVec.toNat_ofNat, BitVec.toNat_ofNat, Nat.mod_mod])
theorem wb_shr {n k : Nat} (hn : n < 2 ^ 64) (hk : k < 64) : ((lN n).toUInt64 >>> ((nI k).toInt64.toUInt64 &&& Int64.toUInt64 63)).toInt64 = lN (n / 2 ^ k) := by
  rw [wb_cu k hk]
  apply wb_inj
  apply BitVec.eq_of_toNat_eq
  show ((lN n).toUInt64 >>> UInt64.ofNat k).toNat = (BitVec.ofNat 64 _).toNat
  have h1 : (UInt64.ofNat k).toNat = k := by
    show (BitVec.ofNat 64 k).toNat = k
    rw [BitVec.toNat_ofNat, Nat.mod_eq_of_lt (by omega)]
  have h2 : (lN n).toUInt64.toNat = n := wb_tn hn
  rw [UInt64.toNat_shiftRight, h1, h2, Nat.mod_eq_of_lt hk, Nat.shiftRight_eq_div_pow, BitVec.toNat_ofNat, Nat.mod_eq_of_lt (Nat.lt_of_le_of_lt (Nat.div_le_self _ _) hn)]
theorem wb_shl (n : Nat) {k : Nat} (hk : k < 64) : lN n <<< ((nI k).toInt64 &&& 63) = lN (n * 2 ^ k) := by
  rw [wb_c k hk]
  apply wb_inj
  rw [Int64.toBitVec_shiftLeft, wb_tb, wb_tb, wb_tb, wb_sm k hk]
  apply BitVec.eq_of_toNat_eq
  rw [BitVec.shiftLeft_eq', BitVec.toNat_shiftLeft, BitVec.toNat_ofNat, BitVec.toNat_ofNat, BitVec.toNat_ofNat, Nat.mod_eq_of_lt (show k < 2 ^ 64 by omega), Nat.shiftLeft_eq, Nat.mul_mod, Nat.mod_mod, ← Nat.mul_mod]
theorem wb_and {a b : Nat} (ha : a < 2 ^ 64) (hb : b < 2 ^ 64) : lN a &&& lN b = lN (a &&& b) := by
  apply wb_inj
  rw [Int64.toBitVec_and, wb_tb, wb_tb, wb_tb]
  apply BitVec.eq_of_toNat_eq
  rw [BitVec.toNat_and, BitVec.toNat_ofNat, BitVec.toNat_ofNat, BitVec.toNat_ofNat, Nat.mod_eq_of_lt ha, Nat.mod_eq_of_lt hb, Nat.mod_eq_of_lt (Nat.and_lt_two_pow _ hb)]
theorem wb_or {a b : Nat} (ha : a < 2 ^ 64) (hb : b < 2 ^ 64) : lN a ||| lN b = lN (a ||| b) := by
  apply wb_inj
  rw [Int64.toBitVec_or, wb_tb, wb_tb, wb_tb]
  apply BitVec.eq_of_toNat_eq
  rw [BitVec.toNat_or, BitVec.toNat_ofNat, BitVec.toNat_ofNat, BitVec.toNat_ofNat, Nat.mod_eq_of_lt ha, Nat.mod_eq_of_lt hb, Nat.mod_eq_of_lt (Nat.or_lt_two_pow ha hb)]
theorem wb_mask {n k : Nat} (hn : n < 2 ^ 64) (hk : k < 64) : lN n &&& lN (2 ^ k - 1) = lN (n % 2 ^ k) := by
  rw [wb_and hn (by have := wb_lt2 hk; omega), Nat.and_two_pow_sub_one_eq_mod]
theorem wb_a1 {n : Nat} (hn : n < 2 ^ 64) : lN n &&& 1 = lN (n % 2) := wb_mask (k := 1) hn (by decide)
theorem wb_bit {n k : Nat} (hn : n < 2 ^ 64) (hk : k < 64) : ((lN n).toUInt64 >>> ((nI k).toInt64.toUInt64 &&& Int64.toUInt64 63)).toInt64 &&& 1 = lN (n / 2 ^ k % 2) := by
  rw [wb_shr hn hk, wb_a1 (Nat.lt_of_le_of_lt (Nat.div_le_self _ _) hn)]
end
section
/-! an Int64 as a set of bits -/
def ub_t (x : Int64) (i : Nat) : Prop := x.toBitVec.getLsbD i = true
theorem ub_ext {x y : Int64} (h : ∀ i, ub_t x i ↔ ub_t y i) : x = y := by
  apply Int64.toBitVec_inj.mp
  apply BitVec.eq_of_getLsbD_eq
  intro i _
  exact Bool.eq_iff_iff.mpr (h i)
theorem ub_or (x y : Int64) (i : Nat) : ub_t (x ||| y) i ↔ ub_t x i ∨ ub_t y i := by
  unfold ub_t
  rw [Int64.toBitVec_or, BitVec.getLsbD_or, Bool.or_eq_true]
theorem ub_and (x y : Int64) (i : Nat) : ub_t (x &&& y) i ↔ ub_t x i ∧ ub_t y i := by
  unfold ub_t
  rw [Int64.toBitVec_and, BitVec.getLsbD_and, Bool.and_eq_true]
theorem ub_lt {x : Int64} {i : Nat} (h : ub_t x i) : i < 64 := by
  rcases Nat.lt_or_ge i 64 with z | z
  · exact z
  · unfold ub_t at h
    rw [BitVec.getLsbD_of_ge _ _ z] at h
    exact absurd h (by decide)
theorem ub_0 (i : Nat) : ¬ ub_t 0 i := by
  intro h
  have e : (0 : Int64).toBitVec = 0#64 := rfl
  unfold ub_t at h
  rw [e, BitVec.getLsbD_zero] at h
  exact absurd h (by decide)
theorem ub_m1 {i : Nat} (hi : i < 64) : (-1 : Int64).toBitVec.getLsbD i = true := by
  have ha : (-1 : Int64).toBitVec = BitVec.allOnes 64 := by decide
  rw [ha, BitVec.getLsbD_allOnes]
  exact decide_eq_true hi
theorem ub_not (x : Int64) {i : Nat} (hi : i < 64) : ub_t (x ^^^ (-1)) i ↔ ¬ ub_t x i := by
  unfold ub_t
  rw [Int64.toBitVec_xor, BitVec.getLsbD_xor, ub_m1 hi]
  cases x.toBitVec.getLsbD i <;> simp
theorem ub_andn (x y : Int64) (i : Nat) : ub_t (x &&& (y ^^^ (-1))) i ↔ ub_t x i ∧ ¬ ub_t y i := by
  rw [ub_and]
  constructor
  · intro h
    exact ⟨h.1, (ub_not y (ub_lt h.1)).mp h.2⟩
  · intro h
    exact ⟨h.1, (ub_not y (ub_lt h.1)).mpr h.2⟩
theorem ub_eq0 (x : Int64) : x = 0 ↔ ∀ i, ¬ ub_t x i := by
  constructor
  · intro h i
    rw [h]
    exact ub_0 i
  · intro h
    exact ub_ext fun i => ⟨fun z => absurd z (h i), fun z => absurd z (ub_0 i)⟩
theorem ub_ne0 {x : Int64} (h : ¬ x = 0) : ∃ i, ub_t x i := by
  rcases Classical.em (∃ i, ub_t x i) with z | z
  · exact z
  · exact absurd ((ub_eq0 x).mpr fun i hi => z ⟨i, hi⟩) h
theorem ub_lN {n : Nat} (i : Nat) : ub_t (lN n) i ↔ i < 64 ∧ n.testBit i = true := by
  unfold ub_t
  rw [wb_tb, BitVec.getLsbD_ofNat, Bool.and_eq_true, decide_eq_true_eq]
theorem ub_shl (x : Int64) {k : Nat} (hk : k < 64) (i : Nat) : ub_t (x <<< ((nI k).toInt64 &&& 63)) i ↔ i < 64 ∧ k ≤ i ∧ ub_t x (i - k) := by
  unfold ub_t
  rw [wb_c k hk, Int64.toBitVec_shiftLeft, wb_tb, wb_sm k hk, BitVec.shiftLeft_eq', BitVec.getLsbD_shiftLeft, BitVec.toNat_ofNat, Nat.mod_eq_of_lt (show k < 2 ^ 64 by omega)]
  simp only [Bool.and_eq_true, decide_eq_true_eq, Bool.not_eq_true', decide_eq_false_iff_not, Nat.not_lt]
  exact and_assoc
theorem ub_shr (x : Int64) {k : Nat} (hk : k < 64) (i : Nat) : ub_t ((x.toUInt64 >>> ((nI k).toInt64.toUInt64 &&& Int64.toUInt64 63)).toInt64) i ↔ ub_t x (k + i) := by
  have e : ((x.toUInt64 >>> ((nI k).toInt64.toUInt64 &&& Int64.toUInt64 63)).toInt64).toBitVec = x.toBitVec >>> k := by
    rw [wb_cu k hk]
    apply BitVec.eq_of_toNat_eq
    show (x.toUInt64 >>> UInt64.ofNat k).toNat = _
    have h1 : (UInt64.ofNat k).toNat = k := by
      show (BitVec.ofNat 64 k).toNat = k
      rw [BitVec.toNat_ofNat, Nat.mod_eq_of_lt (by omega)]
    rw [UInt64.toNat_shiftRight, h1, Nat.mod_eq_of_lt hk, BitVec.toNat_ushiftRight]
    rfl
  unfold ub_t
  rw [e, BitVec.getLsbD_ushiftRight]
theorem ub_one {p : Nat} (hp : p < 64) (i : Nat) : ub_t ((1 : Int64) <<< ((nI p).toInt64 &&& 63)) i ↔ i = p := by
  rw [ub_shl _ hp]
  have h1 : ∀ j, ub_t 1 j ↔ j = 0 := by
    intro j
    rw [show (1 : Int64) = lN 1 from rfl, ub_lN, Nat.testBit_one_eq_true_iff_self_eq_zero]
    omega
  rw [h1]
  omega
theorem ub_full {n : Nat} (hn : n < 64) (i : Nat) : ub_t (((1 : Int64) <<< ((nI n).toInt64 &&& 63)) - 1) i ↔ i < n := by
  have e : ((1 : Int64) <<< ((nI n).toInt64 &&& 63)) - 1 = lN (2 ^ n - 1) := by
    rw [show (1 : Int64) <<< ((nI n).toInt64 &&& 63) = lN (1 * 2 ^ n) from wb_shl 1 hn, Nat.one_mul]
    exact lN_sub (Nat.two_pow_pos n)
  rw [e, ub_lN, Nat.testBit_two_pow_sub_one, decide_eq_true_eq]
  omega
theorem ub_low (x : Int64) (i : Nat) : ub_t (x &&& (-x)) i ↔ ub_t x i ∧ ∀ j, j < i → ¬ ub_t x j := by
  rw [ub_and]
  constructor
  · intro h
    have h2 := h.2
    have h1 := h.1
    unfold ub_t at h1 h2
    rw [Int64.toBitVec_neg, BitVec.getLsbD_neg, h1] at h2
    refine ⟨h.1, fun j hj hx => ?_⟩
    have hd : decide (∃ j, j < i ∧ x.toBitVec.getLsbD j = true) = true := decide_eq_true ⟨j, hj, hx⟩
    rw [decide_eq_true (ub_lt h.1), hd] at h2
    exact absurd h2 (by decide)
  · intro h
    refine ⟨h.1, ?_⟩
    have h1 := h.1
    unfold ub_t at h1 ⊢
    rw [Int64.toBitVec_neg, BitVec.getLsbD_neg, h1]
    have hd : decide (∃ j, j < i ∧ x.toBitVec.getLsbD j = true) = false := decide_eq_false fun ⟨j, hj, hx⟩ => h.2 j hj hx
    rw [hd, Bool.and_false]
    rfl
theorem ub_two (x : Int64) (i : Nat) : ub_t (x &&& (x - 1)) i ↔ ub_t x i ∧ ∃ j, j < i ∧ ub_t x j := by
  rw [ub_and]
  have key : ub_t x i → (ub_t (x - 1) i ↔ ∃ j, j < i ∧ ub_t x j) := by
    intro h1
    have hi := ub_lt h1
    unfold ub_t at h1 ⊢
    rw [Int64.toBitVec_sub, show (1 : Int64).toBitVec = 1#64 from rfl, ← BitVec.not_neg, BitVec.getLsbD_not, BitVec.getLsbD_neg, h1, decide_eq_true hi]
    simp
  constructor
  · intro h
    exact ⟨h.1, (key h.1).mp h.2⟩
  · intro h
    exact ⟨h.1, (key h.1).mpr h.2⟩
end
section
/-! counting (the first rows began as lines of examples/large-2) -/
noncomputable def b01 (P : Prop) : Nat := @ite Nat P (Classical.propDecidable P) 1 0
theorem b01_t {P : Prop} (h : P) : b01 P = 1 := by unfold b01; rw [if_pos h]
theorem b01_f {P : Prop} (h : ¬ P) : b01 P = 0 := by unfold b01; rw [if_neg h]
theorem b01_le (P : Prop) : b01 P ≤ 1 := by
  rcases Classical.em P with h | h
  · rw [b01_t h]; omega
  · rw [b01_f h]; omega
theorem b01_mono {P Q : Prop} (h : P → Q) : b01 P ≤ b01 Q := by
  rcases Classical.em P with hp | hp
  · rw [b01_t hp, b01_t (h hp)]; omega
  · rw [b01_f hp]; omega
theorem b01_iff {P Q : Prop} (h : P ↔ Q) : b01 P = b01 Q := Nat.le_antisymm (b01_mono h.mp) (b01_mono h.mpr)
noncomputable def cn (P : Nat → Prop) : Nat → Nat
  | 0 => 0
  | k + 1 => cn P k + b01 (P k)
theorem cn_mono {P Q : Nat → Prop} : ∀ {N : Nat}, (∀ k, k < N → P k → Q k) → cn P N ≤ cn Q N
  | 0, _ => Nat.le_refl _
  | N + 1, h => by
    have a := cn_mono (P := P) (Q := Q) (N := N) (fun k hk => h k (by omega))
    have b := b01_mono (h N (by omega))
    simp only [cn]; omega
theorem cn_lt {P Q : Nat → Prop} {a : Nat} (hp : ¬ P a) (hq : Q a) : ∀ {N : Nat}, (∀ k, k < N → P k → Q k) → a < N → cn P N < cn Q N
  | 0, _, h => by omega
  | N + 1, h, ha => by
    simp only [cn]
    rcases Nat.lt_or_ge a N with z | z
    · have x := cn_lt hp hq (N := N) (fun k hk => h k (by omega)) z
      have b := b01_mono (h N (by omega))
      omega
    · have e : a = N := by omega
      subst e
      have x := cn_mono (P := P) (Q := Q) (N := a) (fun k hk => h k (by omega))
      rw [b01_t hq, b01_f hp]; omega
theorem cn_le (P : Nat → Prop) : ∀ N, cn P N ≤ N
  | 0 => Nat.le_refl _
  | N + 1 => by have := cn_le P N; have := b01_le (P N); simp only [cn]; omega
theorem cn_eq {P Q : Nat → Prop} {N : Nat} (h : ∀ k, k < N → (P k ↔ Q k)) : cn P N = cn Q N :=
  Nat.le_antisymm (cn_mono fun k hk => (h k hk).mp) (cn_mono fun k hk => (h k hk).mpr)
theorem cn_S (P : Nat → Prop) (k : Nat) : cn P (k + 1) = cn P k + b01 (P k) := rfl
theorem cn_all {P : Nat → Prop} {N : Nat} (h : N ≤ cn P N) : ∀ k, k < N → P k := by
  intro k hk
  rcases Classical.em (P k) with z | z
  · exact z
  · have := cn_lt (P := P) (Q := fun _ => True) z trivial (fun _ _ _ => trivial) hk
    have := cn_le (fun _ => True) N
    omega
theorem cn_pos {P : Nat → Prop} {N k : Nat} (hk : k < N) (h : P k) : 0 < cn P N := by
  have := cn_lt (P := fun _ => False) (Q := P) (a := k) (fun z => z) h (fun _ _ z => z.elim) hk
  omega
theorem cn_z {P : Nat → Prop} : ∀ {N : Nat}, (∀ k, k < N → ¬ P k) → cn P N = 0
  | 0, _ => rfl
  | N + 1, h => by rw [cn_S, cn_z (fun k hk => h k (by omega)), b01_f (h N (by omega))]
theorem cn_ex {P : Nat → Prop} {N : Nat} (h : 0 < cn P N) : ∃ k, k < N ∧ P k := by
  rcases Classical.em (∃ k, k < N ∧ P k) with z | z
  · exact z
  · rw [cn_z (fun k hk hp => z ⟨k, hk, hp⟩)] at h
    omega
theorem cn_ext {P : Nat → Prop} {N : Nat} : ∀ d, (∀ k, N ≤ k → ¬ P k) → cn P (N + d) = cn P N
  | 0, _ => rfl
  | d + 1, h => by
    rw [show N + (d + 1) = N + d + 1 from rfl, cn_S, cn_ext d h, b01_f (h _ (by omega))]
    rfl
theorem cn_head (P : Nat → Prop) : ∀ k, cn P (k + 1) = b01 (P 0) + cn (fun i => P (i + 1)) k
  | 0 => by simp only [cn]; omega
  | k + 1 => by
    rw [cn_S, cn_head P k, cn_S]
    omega
theorem cn_split (P : Nat → Prop) (a : Nat) : ∀ d, cn P (a + d) = cn P a + cn (fun i => P (a + i)) d
  | 0 => rfl
  | d + 1 => by
    rw [show a + (d + 1) = a + d + 1 from rfl, cn_S, cn_split P a d, cn_S]
    omega
/-- one point taken out -/
theorem cn_out {P : Nat → Prop} {a : Nat} (ha : P a) : ∀ {N : Nat}, a < N → cn P N = cn (fun k => P k ∧ k ≠ a) N + 1
  | 0, h => by omega
  | N + 1, h => by
    rw [cn_S, cn_S]
    rcases Nat.lt_or_ge a N with z | z
    · rw [cn_out ha z]
      have : b01 (P N ∧ N ≠ a) = b01 (P N) := b01_iff ⟨fun q => q.1, fun q => ⟨q, by omega⟩⟩
      omega
    · have e : a = N := by omega
      subst e
      have e2 : cn (fun k => P k ∧ k ≠ a) a = cn P a := cn_eq fun k hk => ⟨fun q => q.1, fun q => ⟨q, by omega⟩⟩
      rw [e2, b01_t ha, b01_f (fun q => q.2 rfl)]
/-- a relation that is total and one to one gives ≤ -/
theorem cn_rel {L : Nat → Nat → Prop} : ∀ {n : Nat} {P Q : Nat → Prop} {N : Nat}, (∀ i, i < n → P i → ∃ r, r < N ∧ Q r ∧ L i r) → (∀ i j r, i < n → j < n → L i r → L j r → i = j) → cn P n ≤ cn Q N
  | 0, _, _, _, _, _ => Nat.zero_le _
  | n + 1, P, Q, N, ht, hi => by
    rw [cn_S]
    rcases Classical.em (P n) with z | z
    · obtain ⟨r, hr, hq, hl⟩ := ht n (by omega) z
      rw [b01_t z, cn_out hq hr]
      have := cn_rel (L := L) (n := n) (P := P) (Q := fun k => Q k ∧ k ≠ r) (N := N) (fun i h1 h2 => by
        obtain ⟨s, hs, hqs, hls⟩ := ht i (by omega) h2
        refine ⟨s, hs, ⟨hqs, fun e => ?_⟩, hls⟩
        subst e
        have := hi i n s (by omega) (by omega) hls hl
        omega) (fun i j s h1 h2 => hi i j s (by omega) (by omega))
      omega
    · rw [b01_f z]
      have := cn_rel (L := L) (n := n) (P := P) (Q := Q) (N := N) (fun i h1 h2 => ht i (by omega) h2) (fun i j s h1 h2 => hi i j s (by omega) (by omega))
      omega
theorem cn_bij {L : Nat → Nat → Prop} {n N : Nat} {P Q : Nat → Prop} (h1 : ∀ i, i < n → P i → ∃ r, r < N ∧ Q r ∧ L i r) (h2 : ∀ r, r < N → Q r → ∃ i, i < n ∧ P i ∧ L i r) (i1 : ∀ i j r, i < n → j < n → L i r → L j r → i = j) (i2 : ∀ i r s, r < N → s < N → L i r → L i s → r = s) : cn P n = cn Q N :=
  Nat.le_antisymm (cn_rel h1 i1) (cn_rel (L := fun r i => L i r) h2 (fun r s i h3 h4 => i2 i r s h3 h4))
theorem cn_two {P : Nat → Prop} {N : Nat} : 2 ≤ cn P N ↔ ∃ i j, i < N ∧ j < N ∧ i ≠ j ∧ P i ∧ P j := by
  constructor
  · intro h
    obtain ⟨i, hi, pi⟩ := cn_ex (show 0 < cn P N by omega)
    have e := cn_out pi hi
    obtain ⟨j, hj, pj, hne⟩ := cn_ex (P := fun k => P k ∧ k ≠ i) (N := N) (by omega)
    exact ⟨j, i, hj, hi, hne, pj, pi⟩
  · intro ⟨i, j, hi, hj, hne, pi, pj⟩
    rw [cn_out pi hi]
    have := cn_pos (P := fun k => P k ∧ k ≠ i) (N := N) hj ⟨pj, fun e => hne e.symm⟩
    omega
end
section
/-! the population count by parallel sums -/
def up_bs : Nat → Nat → Nat
  | _, 0 => 0
  | n, k + 1 => n % 2 + up_bs (n / 2) k
theorem up_bs_cn : ∀ (k n : Nat), cn (fun i => n.testBit i = true) k = up_bs n k
  | 0, _ => rfl
  | k + 1, n => by
    rw [cn_head, up_bs, ← up_bs_cn k (n / 2)]
    have e0 : b01 (n.testBit 0 = true) = n % 2 := by
      rw [Nat.testBit_zero, decide_eq_true_eq]
      rcases Nat.mod_two_eq_zero_or_one n with z | z
      · rw [b01_f (by omega), z]
      · rw [b01_t z, z]
    have e1 : cn (fun i => n.testBit (i + 1) = true) k = cn (fun i => (n / 2).testBit i = true) k := by
      apply cn_eq
      intro i _
      rw [Nat.testBit_succ]
    rw [e0, e1]
theorem up_and {b e : Nat} (q M : Nat) (hb : b < 256) (he : e < 256) : ((256 * q + b) &&& (256 * M + e)) = 256 * (q &&& M) + (b &&& e) := by
  have hbe : (b &&& e) < 2 ^ 8 := Nat.lt_of_le_of_lt Nat.and_le_left hb
  apply Nat.eq_of_testBit_eq
  intro j
  rw [show (256 : Nat) = 2 ^ 8 from rfl, Nat.testBit_and, Nat.testBit_two_pow_mul_add _ hb, Nat.testBit_two_pow_mul_add _ he, Nat.testBit_two_pow_mul_add _ hbe]
  split
  · rw [Nat.testBit_and]
  · rw [Nat.testBit_and]
/-- the mask of k bytes d -/
def up_M (d : Nat) : Nat → Nat
  | 0 => 0
  | k + 1 => 256 * up_M d k + d
def up_1 (k n : Nat) : Nat := n - (n / 2 &&& up_M 85 k)
def up_2 (k n : Nat) : Nat := (n &&& up_M 51 k) + (n / 4 &&& up_M 51 k)
def up_3 (k n : Nat) : Nat := n + n / 16 &&& up_M 15 k
def up_t (b : Nat) : Nat := ((b - (b / 2 &&& 85)) &&& 51) + ((b - (b / 2 &&& 85)) / 4 &&& 51)
theorem up_k1 : ∀ b, b < 256 → ∀ c, c < 2 → (b / 2 + 128 * c) &&& 85 = b / 2 &&& 85 := by decide +kernel
theorem up_k2 : ∀ b, b < 256 → ∀ c, c < 4 → (b / 4 + 64 * c) &&& 51 = b / 4 &&& 51 := by decide +kernel
theorem up_k3 : ∀ b, b < 256 → ∀ c, c < 5 → up_t b % 16 < 5 ∧ up_t b + up_t b / 16 + 16 * c < 256 ∧ (up_t b + up_t b / 16 + 16 * c) &&& 15 = up_bs b 8 := by decide +kernel
theorem up_1s (k b q : Nat) (hb : b < 256) : up_1 (k + 1) (256 * q + b) = 256 * up_1 k q + (b - (b / 2 &&& 85)) := by
  unfold up_1
  have e : (256 * q + b) / 2 = 256 * (q / 2) + (b / 2 + 128 * (q % 2)) := by omega
  rw [e, up_M, up_and _ _ (by omega) (by decide), up_k1 b hb _ (by omega)]
  have h1 : (q / 2 &&& up_M 85 k) ≤ q / 2 := Nat.and_le_left
  have h2 : (b / 2 &&& 85) ≤ b / 2 := Nat.and_le_left
  omega
theorem up_2s (k b q : Nat) (hb : b < 256) : up_2 (k + 1) (256 * q + b) = 256 * up_2 k q + ((b &&& 51) + (b / 4 &&& 51)) := by
  unfold up_2
  have e : (256 * q + b) / 4 = 256 * (q / 4) + (b / 4 + 64 * (q % 4)) := by omega
  rw [e, up_M, up_and _ _ hb (by decide), up_and _ _ (by omega) (by decide), up_k2 b hb _ (by omega)]
  omega
theorem up_12s (k b q : Nat) (hb : b < 256) : up_2 (k + 1) (up_1 (k + 1) (256 * q + b)) = 256 * up_2 k (up_1 k q) + up_t b := by
  rw [up_1s k b q hb, up_2s _ _ _ (by omega)]
  rfl
theorem up_lo : ∀ (k n : Nat), n < 256 ^ k → up_2 k (up_1 k n) % 16 < 5
  | 0, n, h => by
    have : n = 0 := by rw [Nat.pow_zero] at h; omega
    subst this
    decide
  | k + 1, n, h => by
    have e : n = 256 * (n / 256) + n % 256 := by omega
    rw [e, up_12s _ _ _ (by omega)]
    have := (up_k3 (n % 256) (by omega) 0 (by omega)).1
    omega
/-- the bytes of the sum -/
theorem up_3s (k b q : Nat) (hb : b < 256) (hq : q < 256 ^ k) : up_3 (k + 1) (up_2 (k + 1) (up_1 (k + 1) (256 * q + b))) = 256 * up_3 k (up_2 k (up_1 k q)) + up_bs b 8 := by
  rw [up_12s k b q hb]
  have hc := up_lo k q hq
  generalize up_2 k (up_1 k q) = Q at hc
  unfold up_3
  have h3 := up_k3 b hb (Q % 16) hc
  have e : 256 * Q + up_t b + (256 * Q + up_t b) / 16 = 256 * (Q + Q / 16) + (up_t b + up_t b / 16 + 16 * (Q % 16)) := by omega
  rw [e, up_M, up_and _ _ h3.2.1 (by decide), h3.2.2]
theorem up_bs8 (n k : Nat) : up_bs n (k + 8) = up_bs (n % 256) 8 + up_bs (n / 256) k := by
  simp only [up_bs, Nat.div_div_eq_div_mul]
  have e : ∀ j, j = 1 ∨ j = 2 ∨ j = 4 ∨ j = 8 ∨ j = 16 ∨ j = 32 ∨ j = 64 ∨ j = 128 → n % 256 / j % 2 = n / j % 2 := by
    intro j hj
    rcases hj with h | h | h | h | h | h | h | h <;> subst h <;> omega
  have e1 := e 1 (by omega)
  have e2 := e 2 (by omega)
  have e4 := e 4 (by omega)
  have e8 := e 8 (by omega)
  have e16 := e 16 (by omega)
  have e32 := e 32 (by omega)
  have e64 := e 64 (by omega)
  have e128 := e 128 (by omega)
  simp only [Nat.div_one] at e1
  simp only [show (2 * 2 : Nat) = 4 from rfl, show (4 * 2 : Nat) = 8 from rfl, show (8 * 2 : Nat) = 16 from rfl, show (16 * 2 : Nat) = 32 from rfl, show (32 * 2 : Nat) = 64 from rfl, show (64 * 2 : Nat) = 128 from rfl, show (128 * 2 : Nat) = 256 from rfl, e1, e2, e4, e8, e16, e32, e64, e128]
  omega
theorem up_bsle : ∀ (k n : Nat), up_bs n k ≤ k
  | 0, _ => Nat.le_refl _
  | k + 1, n => by
    have := up_bsle k (n / 2)
    rw [up_bs]
    omega
/-- the sum's digits -/
def up_D : Nat → Nat → Nat
  | _, 0 => 0
  | n, k + 1 => 256 * up_D (n / 256) k + up_bs (n % 256) 8
theorem up_3D : ∀ (k n : Nat), n < 256 ^ k → up_3 k (up_2 k (up_1 k n)) = up_D n k
  | 0, n, h => by
    have : n = 0 := by rw [Nat.pow_zero] at h; omega
    subst this
    decide
  | k + 1, n, h => by
    have e : n = 256 * (n / 256) + n % 256 := by omega
    have hq : n / 256 < 256 ^ k := by
      rw [Nat.pow_succ] at h
      exact Nat.div_lt_of_lt_mul (by rw [Nat.mul_comm]; exact h)
    rw [up_D, ← up_3D k (n / 256) hq, ← up_3s k (n % 256) (n / 256) (by omega) hq, ← e]
theorem up_mul {a b c d e f g i : Nat} (ha : a ≤ 8) (hb : b ≤ 8) (hc : c ≤ 8) (hd : d ≤ 8) (he : e ≤ 8) (hf : f ≤ 8) (hg : g ≤ 8) (hi : i ≤ 8) :
    (256 * (256 * (256 * (256 * (256 * (256 * (256 * (256 * 0 + i) + g) + f) + e) + d) + c) + b) + a) * 72340172838076673 % 18446744073709551616 / 72057594037927936 = a + b + c + d + e + f + g + i := by
  have hX : (256 * (256 * (256 * (256 * (256 * (256 * (256 * (256 * 0 + i) + g) + f) + e) + d) + c) + b) + a) * 72340172838076673 = 18446744073709551616 * (1 * (b + c + d + e + f + g + i) + 256 * (c + d + e + f + g + i) + 65536 * (d + e + f + g + i) + 16777216 * (e + f + g + i) + 4294967296 * (f + g + i) + 1099511627776 * (g + i) + 281474976710656 * (i)) + (72057594037927936 * (a + b + c + d + e + f + g + i) + (1 * (a) + 256 * (a + b) + 65536 * (a + b + c) + 16777216 * (a + b + c + d) + 4294967296 * (a + b + c + d + e) + 1099511627776 * (a + b + c + d + e + f) + 281474976710656 * (a + b + c + d + e + f + g))) := by omega
  have hL : 1 * (a) + 256 * (a + b) + 65536 * (a + b + c) + 16777216 * (a + b + c + d) + 4294967296 * (a + b + c + d + e) + 1099511627776 * (a + b + c + d + e + f) + 281474976710656 * (a + b + c + d + e + f + g) < 72057594037927936 := by omega
  have hS : 72057594037927936 * (a + b + c + d + e + f + g + i) + (1 * (a) + 256 * (a + b) + 65536 * (a + b + c) + 16777216 * (a + b + c + d) + 4294967296 * (a + b + c + d + e) + 1099511627776 * (a + b + c + d + e + f) + 281474976710656 * (a + b + c + d + e + f + g)) < 18446744073709551616 := by omega
  rw [hX, Nat.mul_add_mod, Nat.mod_eq_of_lt hS, Nat.mul_add_div (by decide), Nat.div_eq_of_lt hL, Nat.add_zero]
theorem up_nat (n : Nat) : up_D n 8 * 72340172838076673 % 18446744073709551616 / 72057594037927936 = up_bs n 64 := by
  have h1 := up_bs8 n 56
  have h2 := up_bs8 (n / 256) 48
  have h3 := up_bs8 (n / 256 / 256) 40
  have h4 := up_bs8 (n / 256 / 256 / 256) 32
  have h5 := up_bs8 (n / 256 / 256 / 256 / 256) 24
  have h6 := up_bs8 (n / 256 / 256 / 256 / 256 / 256) 16
  have h7 := up_bs8 (n / 256 / 256 / 256 / 256 / 256 / 256) 8
  have h8 := up_bs8 (n / 256 / 256 / 256 / 256 / 256 / 256 / 256) 0
  simp only [Nat.reduceAdd] at h1 h2 h3 h4 h5 h6 h7 h8
  have h9 : ∀ m, up_bs m 0 = 0 := fun _ => rfl
  rw [h9] at h8
  simp only [up_D]
  rw [up_mul (up_bsle 8 _) (up_bsle 8 _) (up_bsle 8 _) (up_bsle 8 _) (up_bsle 8 _) (up_bsle 8 _) (up_bsle 8 _) (up_bsle 8 _)]
  omega
theorem up_pop (x y1 y2 y3 : Int64) (e1 : y1 = x - (((x.toUInt64 >>> ((1 : Int32).toInt64.toUInt64 &&& Int64.toUInt64 63)).toInt64) &&& 6148914691236517205))
    (e2 : y2 = (y1 &&& 3689348814741910323) + (((y1.toUInt64 >>> ((2 : Int32).toInt64.toUInt64 &&& Int64.toUInt64 63)).toInt64) &&& 3689348814741910323))
    (e3 : y3 = (y2 + ((y2.toUInt64 >>> ((4 : Int32).toInt64.toUInt64 &&& Int64.toUInt64 63)).toInt64)) &&& 1085102592571150095) :
    (((y3 * 72340172838076673).toUInt64 >>> ((56 : Int32).toInt64.toUInt64 &&& Int64.toUInt64 63)).toInt64).toInt32 = nI (cn (ub_t x) 64) := by
  obtain ⟨n, hn, rfl⟩ := wb_of x
  have m5 : (6148914691236517205 : Int64) = lN (up_M 85 8) := by decide +kernel
  have m3 : (3689348814741910323 : Int64) = lN (up_M 51 8) := by decide +kernel
  have mf : (1085102592571150095 : Int64) = lN (up_M 15 8) := by decide +kernel
  have mk : (72340172838076673 : Int64) = lN 72340172838076673 := by decide +kernel
  have b5 : up_M 85 8 < 2 ^ 64 := by decide +kernel
  have b3 : up_M 51 8 = 3689348814741910323 := by decide +kernel
  have bf : up_M 15 8 < 2 ^ 64 := by decide +kernel
  have d1 : ((lN n).toUInt64 >>> ((1 : Int32).toInt64.toUInt64 &&& Int64.toUInt64 63)).toInt64 = lN (n / 2) := wb_shr (k := 1) hn (by decide)
  have f1 : y1 = lN (up_1 8 n) := by
    rw [e1, d1, m5, wb_and (by omega) b5]
    exact lN_sub (Nat.le_trans Nat.and_le_left (Nat.div_le_self n 2))
  have h1 : up_1 8 n < 2 ^ 64 := Nat.lt_of_le_of_lt (Nat.sub_le _ _) hn
  have d2 : ((lN (up_1 8 n)).toUInt64 >>> ((2 : Int32).toInt64.toUInt64 &&& Int64.toUInt64 63)).toInt64 = lN (up_1 8 n / 4) := wb_shr (k := 2) h1 (by decide)
  have f2 : y2 = lN (up_2 8 (up_1 8 n)) := by
    rw [e2, f1, d2, m3, wb_and h1 (by rw [b3]; decide), wb_and (by omega) (by rw [b3]; decide), lN_add]
    rfl
  have h2 : up_2 8 (up_1 8 n) ≤ 7378697629483820646 := by
    unfold up_2
    have z1 : (up_1 8 n &&& up_M 51 8) ≤ up_M 51 8 := Nat.and_le_right
    have z2 : (up_1 8 n / 4 &&& up_M 51 8) ≤ up_M 51 8 := Nat.and_le_right
    rw [b3] at z1 z2 ⊢
    omega
  have d3 : ((lN (up_2 8 (up_1 8 n))).toUInt64 >>> ((4 : Int32).toInt64.toUInt64 &&& Int64.toUInt64 63)).toInt64 = lN (up_2 8 (up_1 8 n) / 16) := wb_shr (k := 4) (by omega) (by decide)
  have f3 : y3 = lN (up_D n 8) := by
    rw [e3, f2, d3, mf, lN_add, wb_and (by omega) bf, ← up_3D 8 n (by rw [show (256 : Nat) ^ 8 = 2 ^ 64 by decide]; exact hn)]
    rfl
  have d4 : ((y3 * 72340172838076673).toUInt64 >>> ((56 : Int32).toInt64.toUInt64 &&& Int64.toUInt64 63)).toInt64 = lN (up_D n 8 * 72340172838076673 % 18446744073709551616 / 72057594037927936) := by
    rw [f3, mk, lN_mul, wb_mod]
    exact wb_shr (k := 56) (Nat.mod_lt _ (by decide)) (by decide)
  rw [d4, lN_i, up_nat, ← up_bs_cn]
  congr 1
  apply cn_eq
  intro i hi
  rw [ub_lN]
  exact ⟨fun z => ⟨hi, z⟩, fun z => z.2⟩
end
section
/-! the board as a graph -/
def ug_G (w h : Nat) : Prop := 2 ≤ w ∧ w ≤ 7 ∧ 2 ≤ h ∧ h ≤ 7
def ug_ad (w h p q : Nat) : Prop := (0 < p % w ∧ q + 1 = p) ∨ (p % w + 1 < w ∧ q = p + 1) ∨ (w ≤ p ∧ q + w = p) ∨ (p + w < w * h ∧ q = p + w)
theorem ug_N {w h : Nat} (g : ug_G w h) : 4 ≤ w * h ∧ w * h ≤ 49 :=
  ⟨Nat.mul_le_mul g.1 g.2.2.1, Nat.mul_le_mul g.2.1 g.2.2.2⟩
theorem ug_w {w h : Nat} (g : ug_G w h) : w = 2 ∨ w = 3 ∨ w = 4 ∨ w = 5 ∨ w = 6 ∨ w = 7 := by
  have h1 := g.1
  have h2 := g.2.1
  omega
theorem ug_alt {w h p q : Nat} (g : ug_G w h) (hp : p < w * h) (a : ug_ad w h p q) : q < w * h := by
  unfold ug_ad at a
  rcases ug_w g with e | e | e | e | e | e <;> subst e <;> omega
theorem ug_as {w h p q : Nat} (g : ug_G w h) (hp : p < w * h) (a : ug_ad w h p q) : ug_ad w h q p := by
  have hq := ug_alt g hp a
  unfold ug_ad at a ⊢
  rcases ug_w g with e | e | e | e | e | e <;> subst e <;> omega
def ug_R (w h : Nat) (A : Nat → Prop) (s q : Nat) : Prop := ∀ S : Nat → Prop, S s → (∀ a b, S a → A b → ug_ad w h a b → S b) → S q
section
variable {w h : Nat} {A B : Nat → Prop} {s a b q : Nat}
theorem ug_Rr : ug_R w h A s s := fun _ hs _ => hs
theorem ug_Rs (r : ug_R w h A s a) (hb : A b) (hd : ug_ad w h a b) : ug_R w h A s b := fun S hs hc => hc a b (r S hs hc) hb hd
theorem ug_Rt (r : ug_R w h A s a) (t : ug_R w h A a b) : ug_R w h A s b := fun S hs hc => t S (r S hs hc) hc
theorem ug_Ri {P : Nat → Prop} (r : ug_R w h A s q) (hs : P s) (hc : ∀ a b, ug_R w h A s a → P a → A b → ug_ad w h a b → P b) : P q :=
  (r (fun x => ug_R w h A s x ∧ P x) ⟨ug_Rr, hs⟩ (fun a b ha hb hd => ⟨ug_Rs ha.1 hb hd, hc a b ha.1 ha.2 hb hd⟩)).2
theorem ug_RA (r : ug_R w h A s q) (hs : A s) : A q := ug_Ri r hs (fun _ _ _ _ hb _ => hb)
theorem ug_Ry (g : ug_G w h) (hA : ∀ x, A x → x < w * h) (r : ug_R w h A s q) (hs : A s) : ug_R w h A q s :=
  (ug_Ri (P := fun x => A x ∧ ug_R w h A x s) r ⟨hs, ug_Rr⟩ (fun a b _ ha hb hd => ⟨hb, ug_Rt (ug_Rs ug_Rr ha.1 (ug_as g (hA a ha.1) hd)) ha.2⟩)).2
theorem ug_Rm (r : ug_R w h A s q) (hAB : ∀ x, A x → B x) : ug_R w h B s q := fun S hs hc => r S hs (fun a b ha hb hd => hc a b ha (hAB b hb) hd)
theorem ug_Rc (hAB : ∀ x, A x ↔ B x) : ug_R w h A s q ↔ ug_R w h B s q := ⟨fun r => ug_Rm r fun x => (hAB x).mp, fun r => ug_Rm r fun x => (hAB x).mpr⟩
/-- inside a part that is closed under steps -/
theorem ug_Rsub (hBA : ∀ x, B x → A x) (hcl : ∀ a b, B a → A b → ug_ad w h a b → B b) (hs : B s) : ug_R w h B s q ↔ ug_R w h A s q := by
  refine ⟨fun r => ug_Rm r hBA, fun r => ?_⟩
  exact (ug_Ri (P := fun x => B x ∧ ug_R w h B s x) r ⟨hs, ug_Rr⟩ (fun a b _ ha hb hd => ⟨hcl a b ha.1 hb hd, ug_Rs ha.2 (hcl a b ha.1 hb hd) hd⟩)).2
end
/-! the definitions of a position col -/
section
variable (w h : Nat) (col : Nat → Nat)
def ug_C (p q : Nat) : Prop := ug_R w h (fun b => b < w * h ∧ col b = col p) p q
def ug_Q (k r q : Nat) : Prop := ug_R w h (fun b => b < w * h ∧ col b ≠ k) r q
def ug_Li (p q : Nat) : Prop := q < w * h ∧ col q = 0 ∧ ∃ a, ug_C w h col p a ∧ ug_ad w h q a
def ug_V (k r p : Nat) : Prop := (∀ q, ug_Q w h col k r q → col q = 0 → ug_Li w h col p q) ∧ ∃ q, ug_Q w h col k r q ∧ col q = 0
def ug_Ls (k r : Nat) : Prop := r < w * h ∧ col r ≠ k ∧ ∀ q, ug_Q w h col k r q → r ≤ q
def ug_Bd (k r : Nat) (L : Nat → Prop) : Prop := ∀ q, q < w * h → col q = k → (∃ b, ug_Q w h col k r b ∧ ug_ad w h q b) → L q
def ug_E (k : Nat) (L : Nat → Prop) (a r : Nat) : Prop := ug_Ls w h col k r ∧ ug_V w h col k r a ∧ ug_Bd w h col k r L
def ug_Cl (k : Nat) (L : Nat → Prop) : Prop := ∀ a, L a → a < w * h ∧ col a = k ∧ (∀ b, ug_C w h col a b → L b) ∧ ∃ r1 r2, r1 ≠ r2 ∧ ug_E w h col k L a r1 ∧ ug_E w h col k L a r2
def ug_Al (k p : Nat) : Prop := ∃ L, ug_Cl w h col k L ∧ L p
def ug_Se (k p : Nat) : Prop := p < w * h ∧ col p ≠ k ∧ ug_Bd w h col k p (ug_Al w h col k) ∧ ∃ t, t < w * h ∧ col t = k ∧ ug_V w h col k p t
def ug_M (k p : Nat) : Prop := ∃ q, q < w * h ∧ col q = k ∧ ∃ a, ug_C w h col p a ∧ ug_ad w h q a
def ug_Lv (p : Nat) : Prop := ug_Al w h col 1 p ∨ ug_Al w h col 2 p
def ug_O1 (p : Nat) : Prop := ug_Al w h col 1 p ∨ (¬ ug_Lv w h col p ∧ (ug_Se w h col 1 p ∨ (¬ ug_Se w h col 2 p ∧ (col p = 1 ∨ (col p = 0 ∧ ug_M w h col 1 p ∧ ¬ ug_M w h col 2 p)))))
def ug_O2 (p : Nat) : Prop := ug_Al w h col 2 p ∨ (¬ ug_Lv w h col p ∧ ¬ ug_Se w h col 1 p ∧ (ug_Se w h col 2 p ∨ (col p = 2 ∨ (col p = 0 ∧ ug_M w h col 2 p ∧ ¬ ug_M w h col 1 p))))
noncomputable def ug_vn (k p : Nat) : Nat := cn (fun r => ug_Ls w h col k r ∧ ug_V w h col k r p) (w * h)
noncomputable def ug_ln (p : Nat) : Nat := cn (ug_Li w h col p) (w * h)
noncomputable def ug_ow (p : Nat) : Nat := b01 (ug_O1 w h col p) + 2 * b01 (ug_O2 w h col p)
end
section
variable {w h : Nat} {col : Nat → Nat} {k p q r : Nat}
theorem ug_Cr : ug_C w h col p p := ug_Rr
theorem ug_Ca (c : ug_C w h col p q) (hp : p < w * h) : q < w * h ∧ col q = col p := ug_RA (A := fun b => b < w * h ∧ col b = col p) c ⟨hp, rfl⟩
theorem ug_Cy (g : ug_G w h) (c : ug_C w h col p q) (hp : p < w * h) : ug_C w h col q p := by
  have e := (ug_Ca c hp).2
  have := ug_Ry g (fun x hx => hx.1) c ⟨hp, rfl⟩
  unfold ug_C
  rw [e]
  exact this
theorem ug_Ct (c : ug_C w h col p q) (hp : p < w * h) (d : ug_C w h col q r) : ug_C w h col p r := by
  have e := (ug_Ca c hp).2
  unfold ug_C at d
  rw [e] at d
  exact ug_Rt c d
theorem ug_Qr : ug_Q w h col k p p := ug_Rr
theorem ug_Qa (c : ug_Q w h col k p q) (hp : p < w * h) (hk : col p ≠ k) : q < w * h ∧ col q ≠ k := ug_RA (A := fun b => b < w * h ∧ col b ≠ k) c ⟨hp, hk⟩
theorem ug_Qy (g : ug_G w h) (c : ug_Q w h col k p q) (hp : p < w * h) (hk : col p ≠ k) : ug_Q w h col k q p := ug_Ry g (fun x hx => hx.1) c ⟨hp, hk⟩
theorem ug_Qt (c : ug_Q w h col k p q) (d : ug_Q w h col k q r) : ug_Q w h col k p r := ug_Rt c d
/-- what is said of a chain is said of each of its stones -/
theorem ug_LiC (g : ug_G w h) (hp : p < w * h) (c : ug_C w h col p r) : ug_Li w h col p q ↔ ug_Li w h col r q := by
  have hr := (ug_Ca c hp).1
  have c' := ug_Cy g c hp
  exact ⟨fun ⟨h1, h2, a, h3, h4⟩ => ⟨h1, h2, a, ug_Ct c' hr h3, h4⟩, fun ⟨h1, h2, a, h3, h4⟩ => ⟨h1, h2, a, ug_Ct c hp h3, h4⟩⟩
theorem ug_VC {t : Nat} (g : ug_G w h) (hp : p < w * h) (c : ug_C w h col p t) : ug_V w h col k r p ↔ ug_V w h col k r t := by
  unfold ug_V
  constructor
  · exact fun ⟨h1, h2⟩ => ⟨fun q hq h0 => (ug_LiC g hp c).mp (h1 q hq h0), h2⟩
  · exact fun ⟨h1, h2⟩ => ⟨fun q hq h0 => (ug_LiC g hp c).mpr (h1 q hq h0), h2⟩
theorem ug_VQ {t : Nat} (g : ug_G w h) (hr : r < w * h) (hk : col r ≠ k) (c : ug_Q w h col k r t) : ug_V w h col k r p ↔ ug_V w h col k t p := by
  have c' := ug_Qy g c hr hk
  unfold ug_V
  constructor
  · exact fun ⟨h1, q, h2, h3⟩ => ⟨fun q hq h0 => h1 q (ug_Qt c hq) h0, q, ug_Qt c' h2, h3⟩
  · exact fun ⟨h1, q, h2, h3⟩ => ⟨fun q hq h0 => h1 q (ug_Qt c' hq) h0, q, ug_Qt c h2, h3⟩
theorem ug_BdQ {t : Nat} {L : Nat → Prop} (g : ug_G w h) (hr : r < w * h) (hk : col r ≠ k) (c : ug_Q w h col k r t) : ug_Bd w h col k r L ↔ ug_Bd w h col k t L := by
  have c' := ug_Qy g c hr hk
  unfold ug_Bd
  constructor
  · exact fun H q hq h0 ⟨b, hb, hd⟩ => H q hq h0 ⟨b, ug_Qt c hb, hd⟩
  · exact fun H q hq h0 ⟨b, hb, hd⟩ => H q hq h0 ⟨b, ug_Qt c' hb, hd⟩
theorem ug_Bdm {L M : Nat → Prop} (b : ug_Bd w h col k r L) (hm : ∀ q, q < w * h → col q = k → L q → M q) : ug_Bd w h col k r M := fun q hq h0 he => hm q hq h0 (b q hq h0 he)
theorem ug_AlC (c : ug_C w h col p q) (a : ug_Al w h col k p) : ug_Al w h col k q := by
  obtain ⟨L, hL, hp⟩ := a
  exact ⟨L, hL, (hL p hp).2.2.1 q c⟩
theorem ug_Alc (a : ug_Al w h col k p) : p < w * h ∧ col p = k := by
  obtain ⟨L, hL, hp⟩ := a
  exact ⟨(hL p hp).1, (hL p hp).2.1⟩
/-- the union of the closed sets is closed -/
theorem ug_AlCl : ug_Cl w h col k (ug_Al w h col k) := by
  intro a ⟨L, hL, ha⟩
  obtain ⟨h1, h2, h3, r1, r2, h4, h5, h6⟩ := hL a ha
  have up : ∀ r, ug_E w h col k L a r → ug_E w h col k (ug_Al w h col k) a r := fun r hr => ⟨hr.1, hr.2.1, ug_Bdm hr.2.2 (fun q _ _ hq => ⟨L, hL, hq⟩)⟩
  exact ⟨h1, h2, fun b hb => ⟨L, hL, h3 b hb⟩, r1, r2, h4, up r1 h5, up r2 h6⟩
/-- a region has a least point -/
theorem ug_Lsx (g : ug_G w h) (hp : p < w * h) (hk : col p ≠ k) : ∃ r, ug_Ls w h col k r ∧ ug_Q w h col k p r := by
  obtain ⟨r, hr, hl⟩ := pk_least (fun r => ug_Q w h col k p r) ⟨p, ug_Qr⟩
  have ha := ug_Qa hr hp hk
  refine ⟨r, ⟨ha.1, ha.2, fun q hq => ?_⟩, hr⟩
  rcases Nat.lt_or_ge q r with z | z
  · exact absurd (ug_Qt hr hq) (hl q z)
  · exact z
theorem ug_Lsu (g : ug_G w h) (a : ug_Ls w h col k p) (b : ug_Ls w h col k q) (c : ug_Q w h col k p q) : p = q :=
  Nat.le_antisymm (a.2.2 q c) (b.2.2 p (ug_Qy g c a.1 a.2.1))
theorem ug_vnC {t : Nat} (g : ug_G w h) (hp : p < w * h) (c : ug_C w h col p t) : ug_vn w h col k p = ug_vn w h col k t :=
  cn_eq fun r _ => and_congr_right fun _ => ug_VC g hp c
theorem ug_lnC {t : Nat} (g : ug_G w h) (hp : p < w * h) (c : ug_C w h col p t) : ug_ln w h col p = ug_ln w h col t :=
  cn_eq fun q _ => ug_LiC g hp c
theorem ug_ow1 (h1 : ug_O1 w h col p) (hn : ¬ ug_O2 w h col p) : ug_ow w h col p = 1 := by unfold ug_ow; rw [b01_t h1, b01_f hn]
theorem ug_ow2 (h1 : ¬ ug_O1 w h col p) (hn : ug_O2 w h col p) : ug_ow w h col p = 2 := by unfold ug_ow; rw [b01_f h1, b01_t hn]
theorem ug_ow0 (h1 : ¬ ug_O1 w h col p) (hn : ¬ ug_O2 w h col p) : ug_ow w h col p = 0 := by unfold ug_ow; rw [b01_f h1, b01_f hn]
theorem ug_O12 (h1 : ug_O1 w h col p) (h2 : ug_O2 w h col p) : False := by
  have a12 : ug_Al w h col 1 p → ug_Al w h col 2 p → False := fun a b => by
    have := (ug_Alc a).2
    have := (ug_Alc b).2
    omega
  rcases h1 with a | ⟨n1, a⟩ <;> rcases h2 with b | ⟨n2, s1, b⟩
  · exact a12 a b
  · exact n2 (Or.inl a)
  · exact n1 (Or.inr b)
  · rcases a with a | ⟨s2, a⟩
    · exact s1 a
    · rcases b with b | b
      · exact s2 b
      · rcases a with a | ⟨z, m1, m2⟩ <;> rcases b with b | ⟨z', m1', m2'⟩
        · omega
        · omega
        · omega
        · exact m2 m1'
end
end
section
/-! X: the plain readers -/
def ux_G (w h : Nat) (fu fc lc : Int64) : Prop := ug_G w h ∧ (∀ i, ub_t fu i ↔ i < w * h) ∧ (∀ i, ub_t fc i ↔ i < w * h ∧ i % w = 0) ∧ (∀ i, ub_t lc i ↔ i < w * h ∧ i % w + 1 = w)
def ux_col (b v : Int64) (p : Nat) : Nat := if b.toBitVec.getLsbD p = true then 1 else if v.toBitVec.getLsbD p = true then 2 else 0
def ux_st (b v : Int64) (k : Nat) : Int64 := if k = 1 then b else v
def ux_P (w h : Nat) (b v : Int64) : Prop := (∀ i, ub_t b i → i < w * h) ∧ (∀ i, ub_t v i → i < w * h) ∧ ∀ i, ub_t b i → ¬ ub_t v i
def ux_Ov (mv : Nat → Int32) (n : Nat) : Prop := 2 ≤ n ∧ mv (n - 1) = -8 ∧ mv (n - 2) = -8
theorem ug_m1 {w h q : Nat} (g : ug_G w h) (hq : 1 ≤ q) : (q - 1) % w + 1 = w ↔ ¬ 0 < q % w := by
  rcases ug_w g with e | e | e | e | e | e <;> subst e <;> omega
theorem ug_m2 {w h q : Nat} (g : ug_G w h) : (1 + q) % w = 0 ↔ ¬ q % w + 1 < w := by
  rcases ug_w g with e | e | e | e | e | e <;> subst e <;> omega
section
variable {w h : Nat} {b v : Int64} {i k : Nat}
theorem ux_c1 : ux_col b v i = 1 ↔ ub_t b i := by
  unfold ux_col ub_t
  split
  · simp_all
  · split <;> simp_all
theorem ux_c2 (P : ux_P w h b v) : ux_col b v i = 2 ↔ ub_t v i := by
  have hd := P.2.2 i
  unfold ub_t at hd
  unfold ux_col ub_t
  split
  · simp_all
  · split <;> simp_all
theorem ux_c0 : ux_col b v i = 0 ↔ ¬ ub_t b i ∧ ¬ ub_t v i := by
  unfold ux_col ub_t
  split
  · simp_all
  · split <;> simp_all
theorem ux_c3 (b v : Int64) (i : Nat) : ux_col b v i = 0 ∨ ux_col b v i = 1 ∨ ux_col b v i = 2 := by
  unfold ux_col
  split
  · exact Or.inr (Or.inl rfl)
  · split
    · exact Or.inr (Or.inr rfl)
    · exact Or.inl rfl
theorem ux_stk (P : ux_P w h b v) (hk : k = 1 ∨ k = 2) : ub_t (ux_st b v k) i ↔ i < w * h ∧ ux_col b v i = k := by
  unfold ux_st
  rcases hk with e | e
  · subst e
    rw [if_pos rfl, ux_c1]
    exact ⟨fun z => ⟨P.1 i z, z⟩, fun z => z.2⟩
  · subst e
    rw [if_neg (by decide), ux_c2 P]
    exact ⟨fun z => ⟨P.2.1 i z, z⟩, fun z => z.2⟩
end
section
variable {w h n : Nat} {lm mc fr : Int32} {fu fc lc : Int64} {mv lB lW cC rC : Nat → Int32} {bA wA ch vr re rE rB al se ow : Nat → Int64}
theorem ux_cb {x : Int64} {post : Int32 → Prop} (H : post (nI (cn (ub_t x) 64))) : wpX_countBits post ((nI w), (nI (w * h)), lm, fu, fc, lc, mc, fr, mv, bA, wA, lB, lW, ch, vr, re, rE, rB, cC, rC, al, se, ow) x := by
  intro y1 e1 y2 e2 y3 e3
  rw [up_pop x y1 y2 y3 e1 e2 e3]
  exact H
theorem ux_cbN {x : Int64} {post : Int32 → Prop} (hN : w * h ≤ 64) (hx : ∀ i, ub_t x i → i < w * h) (H : post (nI (cn (ub_t x) (w * h)))) : wpX_countBits post ((nI w), (nI (w * h)), lm, fu, fc, lc, mc, fr, mv, bA, wA, lB, lW, ch, vr, re, rE, rB, cC, rC, al, se, ow) x := by
  apply ux_cb
  have e : cn (ub_t x) 64 = cn (ub_t x) (w * h) := by
    have := cn_ext (P := ub_t x) (N := w * h) (64 - w * h) (fun k hk hb => by have := hx k hb; omega)
    rw [show w * h + (64 - w * h) = 64 by omega] at this
    exact this
  rw [e]
  exact H
theorem ux_nb (g : ux_G w h fu fc lc) {x : Int64} {post : Int64 → Prop} (H : ∀ r, (∀ q, ub_t r q ↔ q < w * h ∧ ∃ a, ub_t x a ∧ ug_ad w h q a) → post r) (hx : ∀ i, ub_t x i → i < w * h) : wpX_neighbours post ((nI w), (nI (w * h)), lm, fu, fc, lc, mc, fr, mv, bA, wA, lB, lW, ch, vr, re, rE, rB, cC, rC, al, se, ow) x := by
  intro y1 e1 y2 e2 y3 e3 y4 e4
  apply H
  intro q
  have hN := ug_N g.1
  have hw := g.1.2.1
  have hw2 := g.1.1
  have b1 : ub_t y1 q ↔ q < 64 ∧ 1 ≤ q ∧ ub_t (x &&& (lc ^^^ (-1))) (q - 1) := by rw [e1]; exact ub_shl _ (k := 1) (by decide) q
  have b2 : ub_t y2 q ↔ ub_t (x &&& (fc ^^^ (-1))) (1 + q) := by rw [e2]; exact ub_shr _ (k := 1) (by decide) q
  have b3 : ub_t y3 q ↔ q < 64 ∧ w ≤ q ∧ ub_t x (q - w) := by rw [e3]; exact ub_shl _ (k := w) (by omega) q
  have b4 : ub_t y4 q ↔ ub_t x (w + q) := by rw [e4]; exact ub_shr _ (k := w) (by omega) q
  rw [ub_andn, g.2.2.2] at b1
  rw [ub_andn, g.2.2.1] at b2
  rw [ub_and, ub_or, ub_or, ub_or, b1, b2, b3, b4, g.2.1]
  unfold ug_ad
  constructor
  · intro ⟨h1, hq⟩
    refine ⟨hq, ?_⟩
    rcases h1 with ((⟨_, h2, h3, h4⟩ | ⟨h3, h4⟩) | ⟨_, h2, h3⟩) | h3
    · refine ⟨q - 1, h3, Or.inl ⟨?_, by omega⟩⟩
      rcases Nat.eq_zero_or_pos (q % w) with z | z
      · exact absurd ⟨hx _ h3, (ug_m1 g.1 h2).mpr (by omega)⟩ h4
      · exact z
    · refine ⟨1 + q, h3, Or.inr (Or.inl ⟨?_, by omega⟩)⟩
      rcases Nat.lt_or_ge (q % w + 1) w with z | z
      · exact z
      · exact absurd ⟨hx _ h3, (ug_m2 g.1).mpr (by omega)⟩ h4
    · exact ⟨q - w, h3, Or.inr (Or.inr (Or.inl ⟨h2, by omega⟩))⟩
    · have := hx _ h3
      exact ⟨w + q, h3, Or.inr (Or.inr (Or.inr ⟨by omega, by omega⟩))⟩
  · intro ⟨hq, a, ha, hd⟩
    refine ⟨?_, hq⟩
    rcases hd with ⟨h1, h2⟩ | ⟨h1, h2⟩ | ⟨h1, h2⟩ | ⟨h1, h2⟩
    · have e : q - 1 = a := by omega
      refine Or.inl (Or.inl (Or.inl ⟨by omega, by omega, by rw [e]; exact ha, fun z => ?_⟩))
      exact (ug_m1 g.1 (by omega)).mp z.2 h1
    · have e : 1 + q = a := by omega
      refine Or.inl (Or.inl (Or.inr ⟨by rw [e]; exact ha, fun z => ?_⟩))
      exact (ug_m2 g.1).mp z.2 h1
    · have e : q - w = a := by omega
      exact Or.inl (Or.inr ⟨by omega, h1, by rw [e]; exact ha⟩)
    · have e : w + q = a := by omega
      exact Or.inr (by rw [e]; exact ha)
theorem ux_flood8 (g : ux_G w h fu fc lc) {sd wi : Int64} {post : Int64 → Prop} (hw : ∀ i, ub_t wi i → i < w * h) (H : ∀ r, (∀ q, ub_t r q ↔ ∃ s, ub_t sd s ∧ ub_t wi s ∧ ug_R w h (ub_t wi) s q) → post r) :
    ∀ (n st : Nat) (x : Int64), st ≤ w * h → w * h - st < n → (∀ q, ub_t x q → ∃ s, ub_t sd s ∧ ub_t wi s ∧ ug_R w h (ub_t wi) s q) → (∀ s, ub_t sd s → ub_t wi s → ub_t x s) → st ≤ cn (ub_t x) (w * h) → wX_flood_8 post wi (nI w) (nI (w * h)) lm fu fc lc mc fr mv bA wA lB lW ch vr re rE rB cC rC al se ow n x (nI st) := by
  intro n
  have hN := ug_N g.1
  induction n with
  | zero => intro st x _ h2; omega
  | succ n ih =>
    intro st x h1 h2 h3 h4 h5
    have hx : ∀ i, ub_t x i → i < w * h := by
      intro i hi
      obtain ⟨s, _, hs, hr⟩ := h3 i hi
      exact hw i (ug_RA hr hs)
    refine pk_le (w * h) st (fun hle => ?_) (fun hlt => ?_)
    · apply H
      intro q
      refine ⟨h3 q, fun ⟨s, _, hs, hr⟩ => ?_⟩
      exact cn_all (by omega) q (hw q (ug_RA hr hs))
    · refine ux_nb g (fun r hr => ?_) hx
      intro y ey
      have hy : ∀ q, ub_t y q ↔ ub_t x q ∨ ((q < w * h ∧ ∃ a, ub_t x a ∧ ug_ad w h q a) ∧ ub_t wi q) := by
        intro q
        rw [ey, ub_or, ub_and, hr]
      refine br_c (fun he => ?_) (fun hne => ?_)
      · apply H
        intro q
        refine ⟨h3 q, fun ⟨s, hs1, hs, hr2⟩ => ?_⟩
        refine hr2 (ub_t x) (h4 s hs1 hs) (fun a c ha hc hd => ?_)
        have : ub_t y c := (hy c).mpr (Or.inr ⟨⟨hw c hc, a, ha, ug_as g.1 (hx a ha) hd⟩, hc⟩)
        rw [he] at this
        exact this
      · refine nm_r (nI_1 st) ?_
        refine ih (st + 1) y (by omega) (by omega) (fun q hq => ?_) (fun s hs1 hs => (hy s).mpr (Or.inl (h4 s hs1 hs))) ?_
        · rcases (hy q).mp hq with z | ⟨⟨hq1, a, ha, hd⟩, hq2⟩
          · exact h3 q z
          · obtain ⟨s, hs1, hs, hr2⟩ := h3 a ha
            exact ⟨s, hs1, hs, ug_Rs hr2 hq2 (ug_as g.1 hq1 hd)⟩
        · have : ∃ i, ub_t y i ∧ ¬ ub_t x i := by
            rcases Classical.em (∃ i, ub_t y i ∧ ¬ ub_t x i) with z | z
            · exact z
            · refine absurd (ub_ext fun i => ⟨fun hi => ?_, fun hi => (hy i).mpr (Or.inl hi)⟩) hne
              rcases Classical.em (ub_t x i) with q | q
              · exact q
              · exact absurd ⟨i, hi, q⟩ z
          obtain ⟨i, hi1, hi2⟩ := this
          have hiN : i < w * h := by
            rcases (hy i).mp hi1 with z | z
            · exact hx i z
            · exact z.1.1
          have := cn_lt (P := ub_t x) (Q := ub_t y) hi2 hi1 (N := w * h) (fun j _ hj => (hy j).mpr (Or.inl hj)) hiN
          omega
theorem ux_flood (g : ux_G w h fu fc lc) {sd wi : Int64} {post : Int64 → Prop} (H : ∀ r, (∀ q, ub_t r q ↔ ∃ s, ub_t sd s ∧ ub_t wi s ∧ ug_R w h (ub_t wi) s q) → post r) (hw : ∀ i, ub_t wi i → i < w * h) : wpX_flood post ((nI w), (nI (w * h)), lm, fu, fc, lc, mc, fr, mv, bA, wA, lB, lW, ch, vr, re, rE, rB, cC, rC, al, se, ow) sd wi := by
  intro y ey
  refine ⟨w * h + 1, ?_⟩
  have hy : ∀ q, ub_t y q ↔ ub_t sd q ∧ ub_t wi q := fun q => by rw [ey, ub_and]
  exact ux_flood8 g hw H (w * h + 1) 0 y (by omega) (by omega) (fun q hq => ⟨q, ((hy q).mp hq).1, ((hy q).mp hq).2, ug_Rr⟩) (fun s h1 h2 => (hy s).mpr ⟨h1, h2⟩) (Nat.zero_le _)
theorem ux_cap (g : ux_G w h fu fc lc) {own ot : Int64} {post : Int64 → Prop} (hot : ∀ i, ub_t ot i → i < w * h)
    (H : ∀ r, (∀ q, ub_t r q ↔ ub_t ot q ∧ ¬ ∃ z, z < w * h ∧ ¬ ub_t own z ∧ ¬ ub_t ot z ∧ ∃ a, ug_R w h (ub_t ot) q a ∧ ug_ad w h z a) → post r) : wpX_capturedStones post ((nI w), (nI (w * h)), lm, fu, fc, lc, mc, fr, mv, bA, wA, lB, lW, ch, vr, re, rE, rB, cC, rC, al, se, ow) own ot := by
  intro y ey
  have hy : ∀ q, ub_t y q ↔ q < w * h ∧ ¬ ub_t own q ∧ ¬ ub_t ot q := fun q => by
    rw [ey, ub_andn, g.2.1, ub_or, not_or]
  refine ux_nb g (fun r hr => ?_) (fun i hi => ((hy i).mp hi).1)
  refine ux_flood g (fun s hs => ?_) hot
  apply H
  intro q
  rw [ub_andn, hs]
  refine and_congr_right fun hq => not_congr ?_
  constructor
  · intro ⟨a, h1, h2, h3⟩
    rw [ub_and, hr] at h1
    obtain ⟨⟨ha, z, hz, hd⟩, _⟩ := h1
    have hz2 := (hy z).mp hz
    exact ⟨z, hz2.1, hz2.2.1, hz2.2.2, a, ug_Ry g.1 hot h3 h2, ug_as g.1 ha hd⟩
  · intro ⟨z, h1, h2, h3, a, h4, h5⟩
    have ha : ub_t ot a := ug_RA h4 hq
    refine ⟨a, ?_, ha, ug_Ry g.1 hot h4 hq⟩
    rw [ub_and, hr]
    exact ⟨⟨hot a ha, z, (hy z).mpr ⟨h1, h2, h3⟩, ug_as g.1 h1 h5⟩, ha⟩
theorem ux_stood3 {p1 p2 : Int64} {post : Int32 → Prop} (hn : n ≤ 128) (H1 : (∃ k, k ≤ n ∧ bA k = p1 ∧ wA k = p2) → post 1) (H0 : (¬ ∃ k, k ≤ n ∧ bA k = p1 ∧ wA k = p2) → post 0) :
    ∀ (m j : Nat), j ≤ n + 1 → n + 1 - j < m → (∀ k, k < j → ¬ (bA k = p1 ∧ wA k = p2)) → wX_stoodBefore_3 post p1 p2 (nI w) (nI (w * h)) lm fu fc lc (nI n) fr mv bA wA lB lW ch vr re rE rB cC rC al se ow m (nI j) := by
  intro m
  induction m with
  | zero => intro j _ h2; omega
  | succ m ih =>
    intro j h1 h2 h3
    refine pk_lt n j (fun hlt => ?_) (fun hle => ?_)
    · exact H0 fun ⟨k, hk, e⟩ => h3 k (by omega) e
    · refine ⟨pk_in j 129 (by omega), ?_⟩
      have ej : (nI j).toNatClampNeg = j := nI_clamp (by omega)
      have go : ¬ (bA j = p1 ∧ wA j = p2) → wX_stoodBefore_3 post p1 p2 (nI w) (nI (w * h)) lm fu fc lc (nI n) fr mv bA wA lB lW ch vr re rE rB cC rC al se ow m (nI (j + 1)) := fun hne => ih (j + 1) (by omega) (by omega) (fun k hk => by
        rcases Nat.lt_or_ge k j with z | z
        · exact h3 k z
        · have e : k = j := by omega
          rw [e]; exact hne)
      rw [ej]
      refine br_c (fun h4 => ⟨pk_in j 129 (by omega), br_c (fun h5 => H1 ⟨j, hle, h4, h5⟩) (fun h5 => nm_r (nI_1 j) (go fun z => h5 z.2))⟩) (fun h4 => nm_r (nI_1 j) (go fun z => h4 z.1))
theorem ux_stood {p1 p2 : Int64} {post : Int32 → Prop} (hn : n ≤ 128) (H1 : (∃ k, k ≤ n ∧ bA k = p1 ∧ wA k = p2) → post 1) (H0 : (¬ ∃ k, k ≤ n ∧ bA k = p1 ∧ wA k = p2) → post 0) : wpX_stoodBefore post ((nI w), (nI (w * h)), lm, fu, fc, lc, nI n, fr, mv, bA, wA, lB, lW, ch, vr, re, rE, rB, cC, rC, al, se, ow) p1 p2 :=
  ⟨n + 2, ux_stood3 hn H1 H0 (n + 2) 0 (by omega) (by omega) (fun k hk => by omega)⟩
theorem ux_isPass {j : Nat} {post : Int32 → Prop} (hn : n ≤ 128) (hj : j < n) (H1 : mv j = -8 → post 1) (H0 : ¬ mv j = -8 → post 0) : wpX_isPass post ((nI w), (nI (w * h)), lm, fu, fc, lc, nI n, fr, mv, bA, wA, lB, lW, ch, vr, re, rE, rB, cC, rC, al, se, ow) (nI j) := by
  have ej : (nI j).toNatClampNeg = j := nI_clamp (by omega)
  refine br_f (nI_pos (by omega)) (br_f (nI_ge hj (by omega)) ⟨pk_in j 128 (by omega), ?_⟩)
  rw [ej]
  exact br_c H1 H0
theorem ux_isPassN {p : Int32} {post : Int32 → Prop} (hp : p < 0) (H0 : post 0) : wpX_isPass post ((nI w), (nI (w * h)), lm, fu, fc, lc, mc, fr, mv, bA, wA, lB, lW, ch, vr, re, rE, rB, cC, rC, al, se, ow) p := br_t hp H0
theorem ux_isOver {post : Int32 → Prop} (hn : n ≤ 128) (H1 : ux_Ov mv n → post 1) (H0 : ¬ ux_Ov mv n → post 0) : wpX_isOver post ((nI w), (nI (w * h)), lm, fu, fc, lc, nI n, fr, mv, bA, wA, lB, lW, ch, vr, re, rE, rB, cC, rC, al, se, ow) := by
  unfold wpX_isOver
  dsimp only
  rcases Nat.eq_zero_or_pos n with z | z
  · subst z
    refine ux_isPassN (pk_sneg (a := 0) (b := 1) (by decide) (by decide)) (br_t rfl (H0 fun o => by have := o.1; omega))
  · rw [show nI n - 1 = nI (n - 1) from pk_sub (b := 1) z]
    refine ux_isPass hn (by omega) (fun h1 => br_f (by decide) ?_) (fun h1 => br_t rfl (H0 fun o => h1 o.2.1))
    rcases Nat.lt_or_ge n 2 with z2 | z2
    · refine ux_isPassN (pk_sneg (a := n) (b := 2) (by decide) z2) (br_t rfl (H0 fun o => by have := o.1; omega))
    · rw [show nI n - 2 = nI (n - 2) from pk_sub (b := 2) z2]
      exact ux_isPass hn (by omega) (fun h2 => br_f (by decide) (H1 ⟨z2, h1, h2⟩)) (fun h2 => br_t rfl (H0 fun o => h2 o.2.2))
theorem ux_onB {j : Nat} {post : Int32 → Prop} (hN : w * h ≤ 49) (hj : j < w * h) (H : post 1) : wpX_onBoard post ((nI w), (nI (w * h)), lm, fu, fc, lc, mc, fr, mv, bA, wA, lB, lW, ch, vr, re, rE, rB, cC, rC, al, se, ow) (nI j) :=
  br_f (nI_pos (by omega)) (br_f (nI_ge hj (by omega)) H)
theorem ux_onBn {p : Int32} {post : Int32 → Prop} (hp : p < 0 ∨ nI (w * h) ≤ p) (H : post 0) : wpX_onBoard post ((nI w), (nI (w * h)), lm, fu, fc, lc, mc, fr, mv, bA, wA, lB, lW, ch, vr, re, rE, rB, cC, rC, al, se, ow) p :=
  br_c (fun _ => H) (fun h1 => br_t (hp.elim (fun z => absurd z h1) id) H)
theorem ux_turn {post : Int32 → Prop} (hn : n ≤ 128) (H : post (nI (n % 2 + 1))) : wpX_turn post ((nI w), (nI (w * h)), lm, fu, fc, lc, nI n, fr, mv, bA, wA, lB, lW, ch, vr, re, rE, rB, cC, rC, al, se, ow) := by
  have e : nI n &&& 1 = nI (n % 2) := pk_andN (by omega) 1 (by decide)
  unfold wpX_turn
  dsimp only
  rw [e]
  refine pk_eq (n % 2) 0 (fun z => ?_) (fun z => ?_)
  · rw [z] at H; exact H
  · rw [show n % 2 = 1 by omega] at H; exact H
theorem ux_stones {k : Nat} {post : Int64 → Prop} (hn : n ≤ 128) (hk : k = 1 ∨ k = 2) (H : post (ux_st (bA n) (wA n) k)) : wpX_stones post ((nI w), (nI (w * h)), lm, fu, fc, lc, nI n, fr, mv, bA, wA, lB, lW, ch, vr, re, rE, rB, cC, rC, al, se, ow) (nI k) := by
  have en : (nI n).toNatClampNeg = n := nI_clamp (by omega)
  unfold wpX_stones
  dsimp only
  rw [en]
  rcases hk with e | e
  · subst e
    exact br_t rfl ⟨pk_in n 129 (by omega), H⟩
  · subst e
    exact br_f (by decide) ⟨pk_in n 129 (by omega), H⟩
theorem ux_empty {post : Int64 → Prop} (g : ux_G w h fu fc lc) (hn : n ≤ 128) (H : ∀ r, (∀ q, ub_t r q ↔ q < w * h ∧ ux_col (bA n) (wA n) q = 0) → post r) : wpX_emptyPoints post ((nI w), (nI (w * h)), lm, fu, fc, lc, nI n, fr, mv, bA, wA, lB, lW, ch, vr, re, rE, rB, cC, rC, al, se, ow) := by
  have en : (nI n).toNatClampNeg = n := nI_clamp (by omega)
  unfold wpX_emptyPoints
  dsimp only
  rw [en]
  refine ⟨pk_in n 129 (by omega), pk_in n 129 (by omega), H _ fun q => ?_⟩
  rw [ub_andn, g.2.1, ub_or, not_or, ux_c0]
theorem ub_tst (x : Int64) {j : Nat} (hj : j < 64) : x &&& ((1 : Int64) <<< ((nI j).toInt64 &&& 63)) = 0 ↔ ¬ ub_t x j := by
  rw [ub_eq0]
  constructor
  · intro h1 h2
    exact h1 j (by rw [ub_and, ub_one hj]; exact ⟨h2, rfl⟩)
  · intro h1 i h2
    rw [ub_and, ub_one hj] at h2
    obtain ⟨h3, rfl⟩ := h2
    exact h1 h3
theorem ux_colAt {j : Nat} {post : Int32 → Prop} (hn : n ≤ 128) (hj : j < 64) (H : post (nI (ux_col (bA n) (wA n) j))) : wpX_colourAt post ((nI w), (nI (w * h)), lm, fu, fc, lc, nI n, fr, mv, bA, wA, lB, lW, ch, vr, re, rE, rB, cC, rC, al, se, ow) (nI j) := by
  have en : (nI n).toNatClampNeg = n := nI_clamp (by omega)
  unfold wpX_colourAt
  dsimp only
  rw [en]
  intro y ey
  subst ey
  refine ⟨pk_in n 129 (by omega), ek_if (ub_tst (bA n) hj) (fun h1 => ⟨pk_in n 129 (by omega), ek_if (ub_tst (wA n) hj) (fun h2 => ?_) (fun h2 => ?_)⟩) (fun h1 => ?_)⟩
  · rw [ux_c0.mpr ⟨h1, h2⟩] at H; exact H
  · unfold ux_col at H
    rw [if_neg (show ¬ (bA n).toBitVec.getLsbD j = true from h1), if_pos (show (wA n).toBitVec.getLsbD j = true from Classical.not_not.mp h2)] at H; exact H
  · rw [ux_c1.mpr (Classical.not_not.mp h1)] at H; exact H
end
end
section
/-! X: the components one by one -/
def ux_LI (w h : Nat) (A : Nat → Prop) (bd : Nat → Int64) (n : Nat) (left : Int64) : Prop :=
  (∀ i, i < n → ∃ s, A s ∧ ∀ q, ub_t (bd i) q ↔ ug_R w h A s q) ∧
  (∀ q, ub_t left q ↔ A q ∧ ∀ i, i < n → ¬ ub_t (bd i) q) ∧
  (∀ i j q, i < n → j < n → ub_t (bd i) q → ub_t (bd j) q → i = j) ∧
  n + cn (ub_t left) (w * h) ≤ w * h
def ux_LE (w h : Nat) (A : Nat → Prop) (bd : Nat → Int64) (n : Nat) : Prop :=
  (∀ i, i < n → ∃ s, A s ∧ ∀ q, ub_t (bd i) q ↔ ug_R w h A s q) ∧
  (∀ i j q, i < n → j < n → ub_t (bd i) q → ub_t (bd j) q → i = j) ∧
  (∀ q, A q → ∃ i, i < n ∧ ub_t (bd i) q) ∧ n ≤ w * h
section
variable {w h : Nat} {A : Nat → Prop} {bd : Nat → Int64} {n : Nat} {left : Int64}
theorem ux_LI0 (hA : ∀ q, ub_t left q ↔ A q) : ux_LI w h A bd 0 left :=
  ⟨fun i hi => by omega, fun q => ⟨fun z => ⟨(hA q).mp z, fun i hi => by omega⟩, fun z => (hA q).mpr z.1⟩, fun i j q hi => by omega, by have := cn_le (ub_t left) (w * h); omega⟩
theorem ux_LIA (L : ux_LI w h A bd n left) {q : Nat} (hq : ub_t left q) : A q := ((L.2.1 q).mp hq).1
theorem ux_LIlt (hA : ∀ x, A x → x < w * h) (L : ux_LI w h A bd n left) (hl : ¬ left = 0) : n < w * h := by
  obtain ⟨i, hi⟩ := ub_ne0 hl
  have h1 := cn_pos (P := ub_t left) (hA i (ux_LIA L hi)) hi
  have h2 := L.2.2.2
  omega
/-- what is left is closed -/
theorem ux_LIcl (g : ug_G w h) (hA : ∀ x, A x → x < w * h) (L : ux_LI w h A bd n left) {a b : Nat} (ha : ub_t left a) (hb : A b) (hd : ug_ad w h a b) : ub_t left b := by
  have ha2 := (L.2.1 a).mp ha
  refine (L.2.1 b).mpr ⟨hb, fun i hi hbi => ?_⟩
  obtain ⟨s, hs, hB⟩ := L.1 i hi
  exact ha2.2 i hi ((hB a).mpr (ug_Rs ((hB b).mp hbi) ha2.1 (ug_as g (hA a ha2.1) hd)))
/-- the flood from the lowest bit of what is left -/
theorem ux_LIb (g : ug_G w h) (hA : ∀ x, A x → x < w * h) (L : ux_LI w h A bd n left) (hl : ¬ left = 0) {r : Int64}
    (hr : ∀ q, ub_t r q ↔ ∃ s, ub_t (left &&& (-left)) s ∧ ub_t left s ∧ ug_R w h (ub_t left) s q) : ∃ s, ub_t left s ∧ ∀ q, ub_t r q ↔ ug_R w h A s q := by
  obtain ⟨s, hs, hm⟩ := pk_least (ub_t left) (ub_ne0 hl)
  refine ⟨s, hs, fun q => ?_⟩
  have hlow : ∀ t, ub_t (left &&& (-left)) t ↔ t = s := by
    intro t
    rw [ub_low]
    constructor
    · intro ⟨h1, h2⟩
      rcases Nat.lt_trichotomy t s with z | z | z
      · exact absurd h1 (hm t z)
      · exact z
      · exact absurd hs (h2 s z)
    · intro e
      subst e
      exact ⟨hs, hm⟩
  have hsub := ug_Rsub (w := w) (h := h) (A := A) (B := ub_t left) (s := s) (q := q) (fun x hx => ux_LIA L hx) (fun a b => ux_LIcl g hA L) hs
  rw [hr, ← hsub]
  constructor
  · intro ⟨t, h1, h2, h3⟩
    rw [hlow] at h1
    subst h1
    exact h3
  · intro h3
    exact ⟨s, (hlow s).mpr rfl, hs, h3⟩
theorem ux_LIs (g : ug_G w h) (hA : ∀ x, A x → x < w * h) (L : ux_LI w h A bd n left) {bd' : Nat → Int64} {s : Nat} (hs : ub_t left s) (hr : ∀ q, ub_t (bd' n) q ↔ ug_R w h A s q) (hb : ∀ i, i < n → bd' i = bd i) :
    ux_LI w h A bd' (n + 1) (left &&& (bd' n ^^^ (-1))) := by
  have hsA := ux_LIA L hs
  have hsub : ∀ q, ub_t (bd' n) q → ub_t left q := by
    intro q hq
    exact ug_Ri (P := ub_t left) ((hr q).mp hq) hs (fun a b _ ha hb hd => ux_LIcl g hA L ha hb hd)
  refine ⟨fun i hi => ?_, fun q => ?_, fun i j q hi hj h1 h2 => ?_, ?_⟩
  · rcases Nat.lt_or_ge i n with z | z
    · rw [hb i z]; exact L.1 i z
    · have e : i = n := by omega
      subst e
      exact ⟨s, hsA, hr⟩
  · rw [ub_andn, L.2.1]
    constructor
    · intro ⟨⟨h1, h2⟩, h3⟩
      refine ⟨h1, fun i hi => ?_⟩
      rcases Nat.lt_or_ge i n with z | z
      · rw [hb i z]; exact h2 i z
      · have e : i = n := by omega
        subst e
        exact h3
    · intro ⟨h1, h2⟩
      exact ⟨⟨h1, fun i hi => by rw [← hb i hi]; exact h2 i (by omega)⟩, h2 n (by omega)⟩
  · rcases Nat.lt_or_ge i n with z | z <;> rcases Nat.lt_or_ge j n with y | y
    · rw [hb i z] at h1
      rw [hb j y] at h2
      exact L.2.2.1 i j q z y h1 h2
    · have e : j = n := by omega
      subst e
      rw [hb i z] at h1
      exact absurd h1 (((L.2.1 q).mp (hsub q h2)).2 i z)
    · have e : i = n := by omega
      subst e
      rw [hb j y] at h2
      exact absurd h2 (((L.2.1 q).mp (hsub q h1)).2 j y)
    · omega
  · have h1 : ub_t (bd' n) s := (hr s).mpr ug_Rr
    have := cn_lt (P := ub_t (left &&& (bd' n ^^^ (-1)))) (Q := ub_t left) (a := s) (fun z => ((ub_andn _ _ _).mp z).2 h1) hs (N := w * h) (fun k _ z => ((ub_andn _ _ _).mp z).1) (hA s hsA)
    have := L.2.2.2
    omega
theorem ux_LEof (L : ux_LI w h A bd n left) (hl : left = 0) : ux_LE w h A bd n := by
  refine ⟨L.1, L.2.2.1, fun q hq => ?_, by have := L.2.2.2; omega⟩
  rcases Classical.em (∃ i, i < n ∧ ub_t (bd i) q) with z | z
  · exact z
  · have : ub_t left q := (L.2.1 q).mpr ⟨hq, fun i hi hb => z ⟨i, hi, hb⟩⟩
    rw [hl] at this
    exact absurd this (ub_0 q)
theorem ux_LIfull (hA : ∀ x, A x → x < w * h) (L : ux_LI w h A bd n left) (hn : w * h ≤ n) : left = 0 := by
  rcases Classical.em (left = 0) with z | z
  · exact z
  · have := ux_LIlt hA L z
    omega
/-- a component by any of its points -/
theorem ux_LEm (g : ug_G w h) (hA : ∀ x, A x → x < w * h) (L : ux_LE w h A bd n) {i r : Nat} (hi : i < n) (hr : ub_t (bd i) r) : A r ∧ ∀ q, ub_t (bd i) q ↔ ug_R w h A r q := by
  obtain ⟨s, hs, hB⟩ := L.1 i hi
  have h1 := (hB r).mp hr
  refine ⟨ug_RA h1 hs, fun q => ?_⟩
  rw [hB]
  exact ⟨fun z => ug_Rt (ug_Ry g hA h1 hs) z, fun z => ug_Rt h1 z⟩
theorem ux_LEne (L : ux_LE w h A bd n) {i : Nat} (hi : i < n) : ∃ r, ub_t (bd i) r := by
  obtain ⟨s, hs, hB⟩ := L.1 i hi
  exact ⟨s, (hB s).mpr ug_Rr⟩
end
/-! the regions' and the chains' tables -/
def ux_of (k : Nat) : Nat := if k = 1 then 0 else 49
def ux_RS (w h : Nat) (col : Nat → Nat) (k : Nat) (re rE rB : Nat → Int64) (nR : Nat) : Prop :=
  ux_LE w h (fun b => b < w * h ∧ col b ≠ k) (fun i => re (ux_of k + i)) nR ∧
  (∀ i, i < nR → ∀ q, ub_t (rE (ux_of k + i)) q ↔ ub_t (re (ux_of k + i)) q ∧ col q = 0) ∧
  (∀ i, i < nR → ∀ q, ub_t (rB (ux_of k + i)) q ↔ q < w * h ∧ col q = k ∧ ∃ a, ub_t (re (ux_of k + i)) a ∧ ug_ad w h q a)
def ux_CS (w h : Nat) (col : Nat → Nat) (k : Nat) (re ch vr : Nat → Int64) (nR nC : Nat) : Prop :=
  ux_LE w h (fun b => b < w * h ∧ col b = k) (fun i => ch (ux_of k + i)) nC ∧
  (∀ c, c < nC → ∀ t, ub_t (ch (ux_of k + c)) t → ∀ i, (ub_t (vr (ux_of k + c)) i ↔ i < nR ∧ ∀ r, ub_t (re (ux_of k + i)) r → ug_V w h col k r t))
theorem ux_of98 (k : Nat) {i : Nat} (hi : i < 49) : ux_of k + i < 98 := by
  unfold ux_of
  split <;> omega
theorem ux_ofc (k : Nat) {i : Nat} (hi : i ≤ 49) : (nI (ux_of k) + nI i).toNatClampNeg = ux_of k + i := by
  rw [nI_add]
  apply nI_clamp
  unfold ux_of
  split <;> omega
theorem ux_ofi (k : Nat) {i : Nat} (hi : i < 49) : vp_in (nI (ux_of k) + nI i) 98 := by
  rw [nI_add]
  exact vp_in_nI (ux_of98 k hi) (by decide)
section
variable {w h n : Nat} {lm mc fr : Int32} {fu fc lc : Int64} {mv lB lW cC rC : Nat → Int32} {bA wA ch vr re rE rB al se ow : Nat → Int64}
theorem ux_off {k : Nat} {post : Int32 → Prop} (hk : k = 1 ∨ k = 2) (H : post (nI (ux_of k))) : wpX_offset post ((nI w), (nI (w * h)), lm, fu, fc, lc, mc, fr, mv, bA, wA, lB, lW, ch, vr, re, rE, rB, cC, rC, al, se, ow) (nI k) := by
  rcases hk with e | e
  · subst e; exact br_t rfl H
  · subst e; exact br_f (by decide) H
/-- one step of listRegions over the table -/
theorem ux_RSs {col : Nat → Nat} {k i : Nat} {re rE rB : Nat → Int64} {r e b : Int64}
    (h2 : ∀ j, j < i → ∀ q, ub_t (rE (ux_of k + j)) q ↔ ub_t (re (ux_of k + j)) q ∧ col q = 0)
    (h3 : ∀ j, j < i → ∀ q, ub_t (rB (ux_of k + j)) q ↔ q < w * h ∧ col q = k ∧ ∃ a, ub_t (re (ux_of k + j)) a ∧ ug_ad w h q a)
    (he : ∀ q, ub_t e q ↔ ub_t r q ∧ col q = 0) (hb : ∀ q, ub_t b q ↔ q < w * h ∧ col q = k ∧ ∃ a, ub_t r a ∧ ug_ad w h q a) :
    (∀ j, j < i + 1 → ∀ q, ub_t (vp_updL rE (ux_of k + i) e (ux_of k + j)) q ↔ ub_t (vp_updL re (ux_of k + i) r (ux_of k + j)) q ∧ col q = 0) ∧
    (∀ j, j < i + 1 → ∀ q, ub_t (vp_updL rB (ux_of k + i) b (ux_of k + j)) q ↔ q < w * h ∧ col q = k ∧ ∃ a, ub_t (vp_updL re (ux_of k + i) r (ux_of k + j)) a ∧ ug_ad w h q a) := by
  constructor
  · intro j hj q
    rcases Nat.lt_or_ge j i with z | z
    · rw [pk_uLn (by omega), pk_uLn (by omega)]; exact h2 j z q
    · have e : j = i := by omega
      subst e
      rw [pk_uLs, pk_uLs]; exact he q
  · intro j hj q
    rcases Nat.lt_or_ge j i with z | z
    · rw [pk_uLn (by omega), pk_uLn (by omega)]; exact h3 j z q
    · have e : j = i := by omega
      subst e
      rw [pk_uLs, pk_uLs]; exact hb q
theorem ux_listR33 (g : ux_G w h fu fc lc) {col : Nat → Nat} {k : Nat} (hk : k = 1 ∨ k = 2) {own emp : Int64} (hown : ∀ q, ub_t own q ↔ q < w * h ∧ col q = k) (hemp : ∀ q, ub_t emp q ↔ q < w * h ∧ col q = 0) {post : SX → Prop}
    (H : ∀ re' rE' rB' nR, nR ≤ w * h → ux_RS w h col k re' rE' rB' nR → post ((nI w), (nI (w * h)), lm, fu, fc, lc, mc, fr, mv, bA, wA, lB, lW, ch, vr, re', rE', rB', cC, upd rC k (nI nR), al, se, ow)) :
    ∀ (m i : Nat) (left : Int64) (re rE rB : Nat → Int64), 50 ≤ m + i → i ≤ w * h → ux_LI w h (fun b => b < w * h ∧ col b ≠ k) (fun i => re (ux_of k + i)) i left →
      (∀ j, j < i → ∀ q, ub_t (rE (ux_of k + j)) q ↔ ub_t (re (ux_of k + j)) q ∧ col q = 0) →
      (∀ j, j < i → ∀ q, ub_t (rB (ux_of k + j)) q ↔ q < w * h ∧ col q = k ∧ ∃ a, ub_t (re (ux_of k + j)) a ∧ ug_ad w h q a) →
      wX_listRegions_33 post (nI k) (nI (ux_of k)) own emp (nI w) (nI (w * h)) lm fu fc lc mc fr m left (nI i) mv bA wA lB lW ch vr re rE rB cC rC al se ow := by
  intro m
  have hN := ug_N g.1
  have hA : ∀ x, (x < w * h ∧ col x ≠ k) → x < w * h := fun x hx => hx.1
  have hk3 : vp_in (nI k) 3 := pk_in k 3 (by omega)
  have ek : (nI k).toNatClampNeg = k := nI_clamp (by omega)
  induction m with
  | zero => intro i left re rE rB h1 h2; omega
  | succ m ih =>
    intro i left re rE rB h1 h2 L h3 h4
    have fin : left = 0 → (vp_in (nI k) 3 ∧ ∀ z, z = upd rC (nI k).toNatClampNeg (nI i) → post ((nI w), (nI (w * h)), lm, fu, fc, lc, mc, fr, mv, bA, wA, lB, lW, ch, vr, re, rE, rB, cC, z, al, se, ow)) := by
      intro hl
      refine ⟨hk3, nm_r (by rw [ek]) (H re rE rB i h2 ⟨ux_LEof L hl, h3, h4⟩)⟩
    refine pk_le 49 i (fun hle => fin (ux_LIfull hA L (by omega))) (fun hlt => br_c (fun hl => fin hl) (fun hl => ?_))
    have ei : (nI (ux_of k) + nI i).toNatClampNeg = ux_of k + i := ux_ofc k (by omega)
    have hin := ux_ofi k hlt
    refine ux_flood g (fun r hr => ?_) (fun q hq => hA q (ux_LIA L hq))
    obtain ⟨s, hs, hb⟩ := ux_LIb g.1 hA L hl hr
    have hrN : ∀ q, ub_t r q → q < w * h ∧ col q ≠ k := fun q hq => ug_RA ((hb q).mp hq) (ux_LIA L hs)
    refine ⟨hin, nm_r (e' := vp_updL re (ux_of k + i) r) (by rw [ei]) ⟨hin, nm_r (e' := vp_updL rE (ux_of k + i) (r &&& emp)) (by rw [ei]) ?_⟩⟩
    refine ux_nb g (fun nb hnb => ?_) (fun q hq => (hrN q hq).1)
    refine ⟨hin, nm_r (e' := vp_updL rB (ux_of k + i) (nb &&& own)) (by rw [ei]) (nm_e (nm_r (nI_1 i) ?_))⟩
    have hs2 := ux_RSs (w := w) (h := h) (col := col) (k := k) (i := i) (re := re) (rE := rE) (rB := rB) (r := r) (e := r &&& emp) (b := nb &&& own) h3 h4 (fun q => by
      rw [ub_and, hemp]
      exact ⟨fun z => ⟨z.1, z.2.2⟩, fun z => ⟨z.1, (hrN q z.1).1, z.2⟩⟩) (fun q => by
      rw [ub_and, hown, hnb]
      exact ⟨fun z => ⟨z.2.1, z.2.2, z.1.2⟩, fun z => ⟨⟨z.1, z.2.2⟩, z.1, z.2.1⟩⟩)
    have L2 := ux_LIs (bd' := fun j => vp_updL re (ux_of k + i) r (ux_of k + j)) g.1 hA L (s := s) hs (fun q => by
      show ub_t (vp_updL re (ux_of k + i) r (ux_of k + i)) q ↔ _
      rw [pk_uLs]; exact hb q) (fun j hj => pk_uLn (by omega))
    have e2 : vp_updL re (ux_of k + i) r (ux_of k + i) = r := pk_uLs
    rw [e2] at L2
    exact ih (i + 1) _ _ _ _ (by omega) (by have := L2.2.2.2; omega) L2 hs2.1 hs2.2
theorem ux_listR (g : ux_G w h fu fc lc) (P : ux_P w h (bA n) (wA n)) (hn : n ≤ 128) {k : Nat} (hk : k = 1 ∨ k = 2) {post : SX → Prop}
    (H : ∀ re' rE' rB' nR, nR ≤ w * h → ux_RS w h (ux_col (bA n) (wA n)) k re' rE' rB' nR → post ((nI w), (nI (w * h)), lm, fu, fc, lc, nI n, fr, mv, bA, wA, lB, lW, ch, vr, re', rE', rB', cC, upd rC k (nI nR), al, se, ow)) : wpX_listRegions post ((nI w), (nI (w * h)), lm, fu, fc, lc, nI n, fr, mv, bA, wA, lB, lW, ch, vr, re, rE, rB, cC, rC, al, se, ow) (nI k) := by
  unfold wpX_listRegions
  dsimp only
  refine ux_off hk (ux_stones hn hk (ux_empty g hn fun emp hemp => nm_e ⟨50, ?_⟩))
  refine ux_listR33 g hk (fun q => ux_stk P hk) hemp H 50 0 _ re rE rB (by omega) (by omega) (ux_LI0 fun q => ?_) (fun j hj => by omega) (fun j hj => by omega)
  rw [ub_andn, g.2.1, ux_stk P hk]
  exact ⟨fun z => ⟨z.1, fun y => z.2 ⟨z.1, y⟩⟩, fun z => ⟨z.1, fun y => z.2 y.2⟩⟩
/-- a bit more -/
theorem ub_orb {x : Int64} {j : Nat} (hj : j < 64) (i : Nat) : ub_t (x ||| ((1 : Int64) <<< ((nI j).toInt64 &&& 63))) i ↔ ub_t x i ∨ i = j := by
  rw [ub_or, ub_one hj]
theorem ux_acc1 {x y : Int64} {D : Nat → Prop} {i : Nat} (hx : ∀ j, ub_t x j ↔ j < i ∧ D j) (hy : ∀ j, ub_t y j ↔ ub_t x j ∨ j = i) (hd : D i) : ∀ j, ub_t y j ↔ j < i + 1 ∧ D j := by
  intro j
  rw [hy, hx]
  constructor
  · intro z
    rcases z with z | z
    · exact ⟨by omega, z.2⟩
    · subst z; exact ⟨by omega, hd⟩
  · intro z
    rcases Nat.lt_or_ge j i with y | y
    · exact Or.inl ⟨y, z.2⟩
    · exact Or.inr (by omega)
theorem ux_acc0 {x : Int64} {D : Nat → Prop} {i : Nat} (hx : ∀ j, ub_t x j ↔ j < i ∧ D j) (hd : ¬ D i) : ∀ j, ub_t x j ↔ j < i + 1 ∧ D j := by
  intro j
  rw [hx]
  constructor
  · intro z
    exact ⟨by omega, z.2⟩
  · intro z
    rcases Nat.lt_or_ge j i with y | y
    · exact ⟨y, z.2⟩
    · have e : j = i := by omega
      subst e
      exact absurd z.2 hd
theorem ux_rvt21 {k nR : Nat} (hR : nR ≤ 49) {fre : Int64} {post : Int64 → Prop} (H : ∀ r, (∀ i, ub_t r i ↔ i < nR ∧ (¬ rE (ux_of k + i) = 0 ∧ rE (ux_of k + i) &&& (fre ^^^ (-1)) = 0)) → post r) :
    ∀ (m i : Nat) (x : Int64), nR - i < m → i ≤ nR → (∀ j, ub_t x j ↔ j < i ∧ (¬ rE (ux_of k + j) = 0 ∧ rE (ux_of k + j) &&& (fre ^^^ (-1)) = 0)) → wX_regionsVitalTo_21 post fre (nI (ux_of k)) (nI nR) (nI w) (nI (w * h)) lm fu fc lc mc fr mv bA wA lB lW ch vr re rE rB cC rC al se ow m x (nI i) := by
  intro m
  induction m with
  | zero => intro i x h1; omega
  | succ m ih =>
    intro i x h1 h2 h3
    refine pk_le nR i (fun hle => ?_) (fun hlt => ?_)
    · have e : i = nR := by omega
      subst e
      exact H x h3
    · have ei : (nI (ux_of k) + nI i).toNatClampNeg = ux_of k + i := ux_ofc k (by omega)
      refine ⟨ux_ofi k (by omega), nm_r (e' := rE (ux_of k + i)) (by rw [ei]) (br_c (fun h4 => nm_r (nI_1 i) (ih (i + 1) x (by omega) (by omega) (ux_acc0 h3 fun z => z.1 h4))) (fun h4 => br_c (fun h5 => nm_e (nm_r (nI_1 i) (ih (i + 1) _ (by omega) (by omega) (ux_acc1 h3 (ub_orb (by omega)) ⟨h4, h5⟩)))) (fun h5 => nm_r (nI_1 i) (ih (i + 1) x (by omega) (by omega) (ux_acc0 h3 fun z => h5 z.2)))))⟩
theorem ux_rvt {k nR : Nat} (hk : k = 1 ∨ k = 2) (hR : nR ≤ 49) (hc : rC k = nI nR) {fre : Int64} {post : Int64 → Prop} (H : ∀ r, (∀ i, ub_t r i ↔ i < nR ∧ (¬ rE (ux_of k + i) = 0 ∧ rE (ux_of k + i) &&& (fre ^^^ (-1)) = 0)) → post r) : wpX_regionsVitalTo post ((nI w), (nI (w * h)), lm, fu, fc, lc, mc, fr, mv, bA, wA, lB, lW, ch, vr, re, rE, rB, cC, rC, al, se, ow) (nI k) fre := by
  unfold wpX_regionsVitalTo
  dsimp only
  have ek : (nI k).toNatClampNeg = k := nI_clamp (by omega)
  refine ux_off hk ⟨pk_in k 3 (by omega), nm_r (e' := nI nR) (by rw [ek, hc]) ⟨nR + 1, ?_⟩⟩
  exact ux_rvt21 hR H (nR + 1) 0 0 (by omega) (by omega) (fun j => ⟨fun z => absurd z (ub_0 j), fun z => by omega⟩)
end
end
section
/-! X: the chains and their vital regions -/
section
variable {w h n : Nat} {lm mc fr : Int32} {fu fc lc : Int64} {mv lB lW cC rC : Nat → Int32} {bA wA ch vr re rE rB al se ow : Nat → Int64}
theorem ux_vkey (g : ug_G w h) {col : Nat → Nat} {k nR i t : Nat} {body fre : Int64} (S : ux_RS w h col k re rE rB nR) (hi : i < nR) (ht : t < w * h ∧ col t = k)
    (hb : ∀ q, ub_t body q ↔ ug_R w h (fun b => b < w * h ∧ col b = k) t q) (hf : ∀ q, ub_t fre q ↔ (q < w * h ∧ ∃ a, ub_t body a ∧ ug_ad w h q a) ∧ (q < w * h ∧ col q = 0)) :
    (¬ rE (ux_of k + i) = 0 ∧ rE (ux_of k + i) &&& (fre ^^^ (-1)) = 0) ↔ ∀ r, ub_t (re (ux_of k + i)) r → ug_V w h col k r t := by
  have hA : ∀ x, (x < w * h ∧ col x ≠ k) → x < w * h := fun x hx => hx.1
  have hC : ∀ q, ub_t body q ↔ ug_C w h col t q := by
    unfold ug_C
    rw [ht.2]
    exact hb
  have hE := S.2.1 i hi
  constructor
  · intro ⟨h1, h2⟩ r hr
    have hm := ux_LEm g hA S.1 hi hr
    refine ⟨fun q hq h0 => ?_, ?_⟩
    · have hq2 : ub_t (rE (ux_of k + i)) q := (hE q).mpr ⟨(hm.2 q).mpr hq, h0⟩
      have hq3 : ub_t fre q := by
        rcases Classical.em (ub_t fre q) with z | z
        · exact z
        · exact absurd ((ub_andn _ _ _).mpr ⟨hq2, z⟩) ((ub_eq0 _).mp h2 q)
      obtain ⟨⟨hq4, a, ha, hd⟩, _⟩ := (hf q).mp hq3
      exact ⟨hq4, h0, a, (hC a).mp ha, hd⟩
    · obtain ⟨q, hq⟩ := ub_ne0 h1
      have hq2 := (hE q).mp hq
      exact ⟨q, (hm.2 q).mp hq2.1, hq2.2⟩
  · intro H
    obtain ⟨r, hr⟩ := ux_LEne S.1 hi
    have hm := ux_LEm g hA S.1 hi hr
    obtain ⟨v1, q, v2, v3⟩ := H r hr
    refine ⟨fun e => ?_, (ub_eq0 _).mpr fun q hq => ?_⟩
    · have : ub_t (rE (ux_of k + i)) q := (hE q).mpr ⟨(hm.2 q).mpr v2, v3⟩
      rw [e] at this
      exact ub_0 q this
    · have hq2 := (ub_andn _ _ _).mp hq
      have hq3 := (hE q).mp hq2.1
      obtain ⟨l1, l2, a, l3, l4⟩ := v1 q ((hm.2 q).mp hq3.1) hq3.2
      exact hq2.2 ((hf q).mpr ⟨⟨l1, a, (hC a).mpr l3, l4⟩, l1, l2⟩)
theorem ux_listC21 (g : ux_G w h fu fc lc) {col : Nat → Nat} {k nR : Nat} (hk : k = 1 ∨ k = 2) {emp : Int64} (hemp : ∀ q, ub_t emp q ↔ q < w * h ∧ col q = 0) (hR : nR ≤ 49) (S : ux_RS w h col k re rE rB nR) (hc : rC k = nI nR) (ch0 vr0 : Nat → Int64) {post : SX → Prop}
    (H : ∀ ch' vr' nC, nC ≤ w * h → ux_CS w h col k re ch' vr' nR nC → (∀ j, j < ux_of k ∨ ux_of k + 49 ≤ j → ch' j = ch0 j ∧ vr' j = vr0 j) → post ((nI w), (nI (w * h)), lm, fu, fc, lc, mc, fr, mv, bA, wA, lB, lW, ch', vr', re, rE, rB, upd cC k (nI nC), rC, al, se, ow)) :
    ∀ (m i : Nat) (left : Int64) (ch vr : Nat → Int64), 50 ≤ m + i → i ≤ w * h → ux_LI w h (fun b => b < w * h ∧ col b = k) (fun i => ch (ux_of k + i)) i left →
      (∀ c, c < i → ∀ t, ub_t (ch (ux_of k + c)) t → ∀ i, (ub_t (vr (ux_of k + c)) i ↔ i < nR ∧ ∀ r, ub_t (re (ux_of k + i)) r → ug_V w h col k r t)) →
      (∀ j, j < ux_of k ∨ ux_of k + 49 ≤ j → ch j = ch0 j ∧ vr j = vr0 j) →
      wX_listChains_21 post (nI k) (nI (ux_of k)) emp (nI w) (nI (w * h)) lm fu fc lc mc fr m left (nI i) mv bA wA lB lW ch vr re rE rB cC rC al se ow := by
  intro m
  have hN := ug_N g.1
  have hA : ∀ x, (x < w * h ∧ col x = k) → x < w * h := fun x hx => hx.1
  have hk3 : vp_in (nI k) 3 := pk_in k 3 (by omega)
  have ek : (nI k).toNatClampNeg = k := nI_clamp (by omega)
  induction m with
  | zero => intro i left ch vr h1 h2; omega
  | succ m ih =>
    intro i left ch vr h1 h2 L h3 h4
    have fin : left = 0 → (vp_in (nI k) 3 ∧ ∀ z, z = upd cC (nI k).toNatClampNeg (nI i) → post ((nI w), (nI (w * h)), lm, fu, fc, lc, mc, fr, mv, bA, wA, lB, lW, ch, vr, re, rE, rB, z, rC, al, se, ow)) := by
      intro hl
      refine ⟨hk3, nm_r (by rw [ek]) (H ch vr i h2 ⟨ux_LEof L hl, h3⟩ h4)⟩
    refine pk_le 49 i (fun hle => fin (ux_LIfull hA L (by omega))) (fun hlt => br_c (fun hl => fin hl) (fun hl => ?_))
    have ei : (nI (ux_of k) + nI i).toNatClampNeg = ux_of k + i := ux_ofc k (by omega)
    have hin := ux_ofi k hlt
    refine ux_flood g (fun r hr => ?_) (fun q hq => hA q (ux_LIA L hq))
    obtain ⟨s, hs, hb⟩ := ux_LIb g.1 hA L hl hr
    have hrN : ∀ q, ub_t r q → q < w * h ∧ col q = k := fun q hq => ug_RA ((hb q).mp hq) (ux_LIA L hs)
    refine ux_nb g (fun nb hnb => ?_) (fun q hq => (hrN q hq).1)
    refine nm_e ⟨hin, nm_r (e' := vp_updL ch (ux_of k + i) r) (by rw [ei]) ?_⟩
    refine ux_rvt hk hR hc (fun vv hvv => ?_)
    refine ⟨hin, nm_r (e' := vp_updL vr (ux_of k + i) vv) (by rw [ei]) (nm_e (nm_r (nI_1 i) ?_))⟩
    have hf : ∀ q, ub_t (nb &&& emp) q ↔ (q < w * h ∧ ∃ a, ub_t r a ∧ ug_ad w h q a) ∧ (q < w * h ∧ col q = 0) := fun q => by rw [ub_and, hnb, hemp]
    have L2 := ux_LIs (bd' := fun j => vp_updL ch (ux_of k + i) r (ux_of k + j)) g.1 hA L (s := s) hs (fun q => by
      show ub_t (vp_updL ch (ux_of k + i) r (ux_of k + i)) q ↔ _
      rw [pk_uLs]; exact hb q) (fun j hj => pk_uLn (by omega))
    have e2 : vp_updL ch (ux_of k + i) r (ux_of k + i) = r := pk_uLs
    rw [e2] at L2
    refine ih (i + 1) _ _ _ (by omega) (by have := L2.2.2.2; omega) L2 (fun c hc t ht j => ?_) (fun j hj => ?_)
    · rcases Nat.lt_or_ge c i with z | z
      · rw [pk_uLn (by omega)] at ht ⊢
        exact h3 c z t ht j
      · have e : c = i := by omega
        subst e
        rw [pk_uLs] at ht ⊢
        rw [hvv]
        refine and_congr_right fun hj => ?_
        have hm : ∀ q, ub_t r q ↔ ug_R w h (fun b => b < w * h ∧ col b = k) t q := fun q => by
          rw [hb]
          have h5 := (hb t).mp ht
          exact ⟨fun z => ug_Rt (ug_Ry g.1 hA h5 (ux_LIA L hs)) z, fun z => ug_Rt h5 z⟩
        exact ux_vkey g.1 S hj (hrN t ht) hm hf
    · rw [pk_uLn (by omega), pk_uLn (by omega)]
      exact h4 j hj
theorem ux_listC (g : ux_G w h fu fc lc) (P : ux_P w h (bA n) (wA n)) (hn : n ≤ 128) {k nR : Nat} (hk : k = 1 ∨ k = 2) (hR : nR ≤ 49) (S : ux_RS w h (ux_col (bA n) (wA n)) k re rE rB nR) (hc : rC k = nI nR) {post : SX → Prop}
    (H : ∀ ch' vr' nC, nC ≤ w * h → ux_CS w h (ux_col (bA n) (wA n)) k re ch' vr' nR nC → (∀ j, j < ux_of k ∨ ux_of k + 49 ≤ j → ch' j = ch j ∧ vr' j = vr j) → post ((nI w), (nI (w * h)), lm, fu, fc, lc, nI n, fr, mv, bA, wA, lB, lW, ch', vr', re, rE, rB, upd cC k (nI nC), rC, al, se, ow)) : wpX_listChains post ((nI w), (nI (w * h)), lm, fu, fc, lc, nI n, fr, mv, bA, wA, lB, lW, ch, vr, re, rE, rB, cC, rC, al, se, ow) (nI k) := by
  unfold wpX_listChains
  dsimp only
  refine ux_off hk (ux_empty g hn fun emp hemp => ux_stones hn hk ⟨50, ?_⟩)
  exact ux_listC21 g hk hemp hR S hc ch vr H 50 0 _ ch vr (by omega) (by omega) (ux_LI0 fun q => ux_stk P hk) (fun c hc => by omega) (fun j _ => ⟨rfl, rfl⟩)
/-- the count of the vital regions -/
theorem ux_vcnt (g : ug_G w h) {col : Nat → Nat} {k nR nC c t : Nat} (hR : nR ≤ 49) (S : ux_RS w h col k re rE rB nR) (T : ux_CS w h col k re ch vr nR nC) (hc : c < nC) (ht : ub_t (ch (ux_of k + c)) t) : cn (ub_t (vr (ux_of k + c))) 64 = ug_vn w h col k t := by
  have hA : ∀ x, (x < w * h ∧ col x ≠ k) → x < w * h := fun x hx => hx.1
  have hv := T.2 c hc t ht
  refine cn_bij (L := fun i r => i < nR ∧ ub_t (re (ux_of k + i)) r ∧ ug_Ls w h col k r) (fun i hi hb => ?_) (fun r hr hq => ?_) (fun i j r _ _ h1 h2 => ?_) (fun i r s _ _ h1 h2 => ?_)
  · obtain ⟨h1, h2⟩ := (hv i).mp hb
    obtain ⟨r0, hr0⟩ := ux_LEne S.1 h1
    have hm := ux_LEm g hA S.1 h1 hr0
    obtain ⟨r, hl, hq⟩ := ug_Lsx (k := k) g hm.1.1 hm.1.2
    have hr := (hm.2 r).mpr hq
    exact ⟨r, hl.1, ⟨hl, h2 r hr⟩, h1, hr, hl⟩
  · obtain ⟨i, hi, hb⟩ := S.1.2.2.1 r ⟨hr, hq.1.2.1⟩
    have hm := ux_LEm g hA S.1 hi hb
    refine ⟨i, by omega, (hv i).mpr ⟨hi, fun r' hr' => ?_⟩, hi, hb, hq.1⟩
    exact (ug_VQ g hr hq.1.2.1 ((hm.2 r').mp hr')).mp hq.2
  · exact S.1.2.1 i j r h1.1 h2.1 h1.2.1 h2.2.1
  · have hm := ux_LEm g hA S.1 h1.1 h1.2.1
    exact ug_Lsu g h1.2.2 h2.2.2 ((hm.2 s).mp h2.2.1)
/-! X: the greatest closed set -/
theorem ux_rw21 {k nR : Nat} (hR : nR ≤ 49) {lv : Int64} {post : Int64 → Prop} (H : ∀ r, (∀ i, ub_t r i ↔ i < nR ∧ rB (ux_of k + i) &&& (lv ^^^ (-1)) = 0) → post r) :
    ∀ (m i : Nat) (x : Int64), nR - i < m → i ≤ nR → (∀ j, ub_t x j ↔ j < i ∧ rB (ux_of k + j) &&& (lv ^^^ (-1)) = 0) → wX_regionsWithin_21 post lv (nI (ux_of k)) (nI nR) (nI w) (nI (w * h)) lm fu fc lc mc fr mv bA wA lB lW ch vr re rE rB cC rC al se ow m x (nI i) := by
  intro m
  induction m with
  | zero => intro i x h1; omega
  | succ m ih =>
    intro i x h1 h2 h3
    refine pk_le nR i (fun hle => ?_) (fun hlt => ?_)
    · have e : i = nR := by omega
      subst e
      exact H x h3
    · have ei : (nI (ux_of k) + nI i).toNatClampNeg = ux_of k + i := ux_ofc k (by omega)
      refine ⟨ux_ofi k (by omega), ?_⟩
      rw [ei]
      exact br_c (fun h5 => nm_e (nm_r (nI_1 i) (ih (i + 1) _ (by omega) (by omega) (ux_acc1 h3 (ub_orb (by omega)) h5)))) (fun h5 => nm_r (nI_1 i) (ih (i + 1) x (by omega) (by omega) (ux_acc0 h3 h5)))
theorem ux_rw {k nR : Nat} (hk : k = 1 ∨ k = 2) (hR : nR ≤ 49) (hc : rC k = nI nR) {lv : Int64} {post : Int64 → Prop} (H : ∀ r, (∀ i, ub_t r i ↔ i < nR ∧ rB (ux_of k + i) &&& (lv ^^^ (-1)) = 0) → post r) : wpX_regionsWithin post ((nI w), (nI (w * h)), lm, fu, fc, lc, mc, fr, mv, bA, wA, lB, lW, ch, vr, re, rE, rB, cC, rC, al, se, ow) (nI k) lv := by
  unfold wpX_regionsWithin
  dsimp only
  have ek : (nI k).toNatClampNeg = k := nI_clamp (by omega)
  refine ux_off hk ⟨pk_in k 3 (by omega), nm_r (e' := nI nR) (by rw [ek, hc]) ⟨nR + 1, ?_⟩⟩
  exact ux_rw21 hR H (nR + 1) 0 0 (by omega) (by omega) (fun j => ⟨fun z => absurd z (ub_0 j), fun z => by omega⟩)
theorem ux_ck21 {k nC : Nat} (hC : nC ≤ 49) {lv us : Int64} {post : Int64 → Prop} (H : ∀ r, (∀ q, ub_t r q ↔ ∃ c, c < nC ∧ ub_t (ch (ux_of k + c)) q ∧ ub_t lv q ∧ ¬ (vr (ux_of k + c) &&& us) &&& ((vr (ux_of k + c) &&& us) - 1) = 0) → post r) :
    ∀ (m i : Nat) (x : Int64), nC - i < m → i ≤ nC → (∀ q, ub_t x q ↔ ∃ c, c < i ∧ ub_t (ch (ux_of k + c)) q ∧ ub_t lv q ∧ ¬ (vr (ux_of k + c) &&& us) &&& ((vr (ux_of k + c) &&& us) - 1) = 0) → wX_chainsKept_21 post lv us (nI (ux_of k)) (nI nC) (nI w) (nI (w * h)) lm fu fc lc mc fr mv bA wA lB lW ch vr re rE rB cC rC al se ow m x (nI i) := by
  intro m
  induction m with
  | zero => intro i x h1; omega
  | succ m ih =>
    intro i x h1 h2 h3
    refine pk_le nC i (fun hle => ?_) (fun hlt => ?_)
    · have e : i = nC := by omega
      subst e
      exact H x h3
    · have ei : (nI (ux_of k) + nI i).toNatClampNeg = ux_of k + i := ux_ofc k (by omega)
      refine ⟨ux_ofi k (by omega), nm_r (e' := vr (ux_of k + i) &&& us) (by rw [ei]) (br_c (fun h5 => nm_r (nI_1 i) (ih (i + 1) x (by omega) (by omega) (fun q => ?_))) (fun h5 => ⟨ux_ofi k (by omega), nm_r (e' := x ||| (ch (ux_of k + i) &&& lv)) (by rw [ei]) (nm_r (nI_1 i) (ih (i + 1) _ (by omega) (by omega) (fun q => ?_)))⟩))⟩
      · rw [h3]
        constructor
        · intro ⟨c, z1, z2⟩
          exact ⟨c, by omega, z2⟩
        · intro ⟨c, z1, z2, z3, z4⟩
          rcases Nat.lt_or_ge c i with y | y
          · exact ⟨c, y, z2, z3, z4⟩
          · have e : c = i := by omega
            subst e
            exact absurd h5 z4
      · rw [ub_or, ub_and, h3]
        constructor
        · intro z
          rcases z with ⟨c, z1, z2⟩ | ⟨z2, z3⟩
          · exact ⟨c, by omega, z2⟩
          · exact ⟨i, by omega, z2, z3, h5⟩
        · intro ⟨c, z1, z2, z3, z4⟩
          rcases Nat.lt_or_ge c i with y | y
          · exact Or.inl ⟨c, y, z2, z3, z4⟩
          · have e : c = i := by omega
            subst e
            exact Or.inr ⟨z2, z3⟩
theorem ux_ck {k nC : Nat} (hk : k = 1 ∨ k = 2) (hC : nC ≤ 49) (hc : cC k = nI nC) {lv us : Int64} {post : Int64 → Prop} (H : ∀ r, (∀ q, ub_t r q ↔ ∃ c, c < nC ∧ ub_t (ch (ux_of k + c)) q ∧ ub_t lv q ∧ ¬ (vr (ux_of k + c) &&& us) &&& ((vr (ux_of k + c) &&& us) - 1) = 0) → post r) : wpX_chainsKept post ((nI w), (nI (w * h)), lm, fu, fc, lc, mc, fr, mv, bA, wA, lB, lW, ch, vr, re, rE, rB, cC, rC, al, se, ow) (nI k) lv us := by
  unfold wpX_chainsKept
  dsimp only
  have ek : (nI k).toNatClampNeg = k := nI_clamp (by omega)
  refine ux_off hk ⟨pk_in k 3 (by omega), nm_r (e' := nI nC) (by rw [ek, hc]) ⟨nC + 1, ?_⟩⟩
  exact ux_ck21 hC H (nC + 1) 0 0 (by omega) (by omega) (fun j => ⟨fun z => absurd z (ub_0 j), fun ⟨c, z, _⟩ => by omega⟩)
/-- two bits -/
theorem ub_two2 (x : Int64) : ¬ x &&& (x - 1) = 0 ↔ ∃ i j, i ≠ j ∧ ub_t x i ∧ ub_t x j := by
  constructor
  · intro h1
    obtain ⟨i, hi⟩ := ub_ne0 h1
    obtain ⟨h2, j, h3, h4⟩ := (ub_two x i).mp hi
    exact ⟨i, j, by omega, h2, h4⟩
  · intro ⟨i, j, h1, h2, h3⟩ h4
    rw [ub_eq0] at h4
    rcases Nat.lt_or_gt_of_ne h1 with z | z
    · exact h4 j ((ub_two x j).mpr ⟨h3, i, z, h2⟩)
    · exact h4 i ((ub_two x i).mpr ⟨h2, j, z, h3⟩)
/-- the region of number i against the pure bordering -/
theorem ux_bkey (g : ug_G w h) {col : Nat → Nat} {k nR i r : Nat} {lv : Int64} (S : ux_RS w h col k re rE rB nR) (hi : i < nR) (hr : ub_t (re (ux_of k + i)) r) : rB (ux_of k + i) &&& (lv ^^^ (-1)) = 0 ↔ ug_Bd w h col k r (ub_t lv) := by
  have hA : ∀ x, (x < w * h ∧ col x ≠ k) → x < w * h := fun x hx => hx.1
  have hm := ux_LEm g hA S.1 hi hr
  have hB := S.2.2 i hi
  rw [ub_eq0]
  constructor
  · intro h1 q h2 h3 ⟨b, h4, h5⟩
    rcases Classical.em (ub_t lv q) with z | z
    · exact z
    · exact absurd ((ub_andn _ _ _).mpr ⟨(hB q).mpr ⟨h2, h3, b, (hm.2 b).mpr h4, h5⟩, z⟩) (h1 q)
  · intro h1 q h2
    have h3 := (ub_andn _ _ _).mp h2
    obtain ⟨h4, h5, b, h6, h7⟩ := (hB q).mp h3.1
    exact h3.2 (h1 q h4 h5 ⟨b, (hm.2 b).mp h6, h7⟩)
/-- the chains kept, purely -/
theorem ux_kept (g : ug_G w h) {col : Nat → Nat} {k nR nC : Nat} {lv us kp : Int64} (hR : nR ≤ 49) (S : ux_RS w h col k re rE rB nR) (T : ux_CS w h col k re ch vr nR nC) (hlv : ∀ q, ub_t lv q → q < w * h ∧ col q = k)
    (hus : ∀ i, ub_t us i ↔ i < nR ∧ rB (ux_of k + i) &&& (lv ^^^ (-1)) = 0)
    (hkp : ∀ q, ub_t kp q ↔ ∃ c, c < nC ∧ ub_t (ch (ux_of k + c)) q ∧ ub_t lv q ∧ ¬ (vr (ux_of k + c) &&& us) &&& ((vr (ux_of k + c) &&& us) - 1) = 0) (q : Nat) :
    ub_t kp q ↔ ub_t lv q ∧ ∃ r1 r2, r1 ≠ r2 ∧ ug_E w h col k (ub_t lv) q r1 ∧ ug_E w h col k (ub_t lv) q r2 := by
  have hA : ∀ x, (x < w * h ∧ col x ≠ k) → x < w * h := fun x hx => hx.1
  have toE : ∀ c, c < nC → ub_t (ch (ux_of k + c)) q → ∀ i, ub_t (vr (ux_of k + c) &&& us) i → i < nR ∧ ∃ r, ub_t (re (ux_of k + i)) r ∧ ug_E w h col k (ub_t lv) q r := by
    intro c hc hq i hi
    rw [ub_and, hus] at hi
    obtain ⟨h1, h2, h3⟩ := hi
    have hv := ((T.2 c hc q hq i).mp h1).2
    obtain ⟨r0, hr0⟩ := ux_LEne S.1 h2
    have hm := ux_LEm g hA S.1 h2 hr0
    obtain ⟨r, hl, hQ⟩ := ug_Lsx (k := k) g hm.1.1 hm.1.2
    have hr := (hm.2 r).mpr hQ
    exact ⟨h2, r, hr, hl, hv r hr, (ux_bkey g S h2 hr).mp h3⟩
  have ofE : ∀ c, c < nC → ub_t (ch (ux_of k + c)) q → ∀ r, ug_E w h col k (ub_t lv) q r → ∃ i, i < nR ∧ ub_t (re (ux_of k + i)) r ∧ ub_t (vr (ux_of k + c) &&& us) i := by
    intro c hc hq r hE
    obtain ⟨i, hi, hr⟩ := S.1.2.2.1 r ⟨hE.1.1, hE.1.2.1⟩
    have hm := ux_LEm g hA S.1 hi hr
    refine ⟨i, hi, hr, ?_⟩
    rw [ub_and, hus]
    refine ⟨(T.2 c hc q hq i).mpr ⟨hi, fun r' hr' => ?_⟩, hi, (ux_bkey g S hi hr).mpr hE.2.2⟩
    exact (ug_VQ g hE.1.1 hE.1.2.1 ((hm.2 r').mp hr')).mp hE.2.1
  rw [hkp]
  constructor
  · intro ⟨c, hc, hq, hl, h2⟩
    obtain ⟨i, j, hne, hi, hj⟩ := (ub_two2 _).mp h2
    obtain ⟨i1, r1, hr1, hE1⟩ := toE c hc hq i hi
    obtain ⟨j1, r2, hr2, hE2⟩ := toE c hc hq j hj
    refine ⟨hl, r1, r2, fun e => ?_, hE1, hE2⟩
    subst e
    exact hne (S.1.2.1 i j r1 i1 j1 hr1 hr2)
  · intro ⟨hl, r1, r2, hne, hE1, hE2⟩
    obtain ⟨c, hc, hq⟩ := T.1.2.2.1 q (hlv q hl)
    refine ⟨c, hc, hq, hl, (ub_two2 _).mpr ?_⟩
    obtain ⟨i, hi1, hi2, hi3⟩ := ofE c hc hq r1 hE1
    obtain ⟨j, hj1, hj2, hj3⟩ := ofE c hc hq r2 hE2
    refine ⟨i, j, fun e => ?_, hi3, hj3⟩
    subst e
    have hm := ux_LEm g hA S.1 hi1 hi2
    exact hne (ug_Lsu g hE1.1 hE2.1 ((hm.2 r2).mp hj2))
end
end
section
/-! X: the greatest closed set, the secured points -/
theorem ug_Cof {w h : Nat} {col : Nat → Nat} {k t q : Nat} (ht : col t = k) : ug_R w h (fun b => b < w * h ∧ col b = k) t q ↔ ug_C w h col t q := by
  unfold ug_C
  rw [ht]
section
variable {w h n : Nat} {lm mc fr : Int32} {fu fc lc : Int64} {mv lB lW cC rC : Nat → Int32} {bA wA ch vr re rE rB al se ow : Nat → Int64}
theorem ux_gcs17 (g : ux_G w h fu fc lc) {col : Nat → Nat} {k nR nC : Nat} (hk : k = 1 ∨ k = 2) (hR : nR ≤ 49) (hC : nC ≤ 49) (S : ux_RS w h col k re rE rB nR) (T : ux_CS w h col k re ch vr nR nC) (hcR : rC k = nI nR) (hcC : cC k = nI nC) {post : Int64 → Prop}
    (H : ∀ r, (∀ q, ub_t r q ↔ ug_Al w h col k q) → post r) :
    ∀ (m j : Nat) (lv : Int64), nC - j < m → j ≤ nC → (∀ q, ub_t lv q → q < w * h ∧ col q = k) → (∀ a b, ub_t lv a → ug_C w h col a b → ub_t lv b) → (∀ q, ug_Al w h col k q → ub_t lv q) →
      cn (fun c => ∃ q, ub_t (ch (ux_of k + c)) q ∧ ub_t lv q) nC + j ≤ nC → wX_greatestClosedSet_17 post (nI k) (nI nC) (nI w) (nI (w * h)) lm fu fc lc mc fr mv bA wA lB lW ch vr re rE rB cC rC al se ow m lv (nI j) := by
  intro m
  have hA : ∀ x, (x < w * h ∧ col x = k) → x < w * h := fun x hx => hx.1
  induction m with
  | zero => intro j lv h1; omega
  | succ m ih =>
    intro j lv h1 h2 h3 h4 h5 h6
    refine pk_le nC j (fun hle => ?_) (fun hlt => ?_)
    · apply H
      intro q
      refine ⟨fun hq => ?_, h5 q⟩
      obtain ⟨c, hc, hb⟩ := T.1.2.2.1 q (h3 q hq)
      have := cn_pos (P := fun c => ∃ q, ub_t (ch (ux_of k + c)) q ∧ ub_t lv q) hc ⟨q, hb, hq⟩
      omega
    · refine ux_rw hk hR hcR (fun us hus => ux_ck hk hC hcC (fun kp hkp => ?_))
      have hk2 := ux_kept g.1 hR S T h3 hus hkp
      refine br_c (fun he => ?_) (fun hne => ?_)
      · apply H
        intro q
        refine ⟨fun hq => ⟨ub_t lv, fun a ha => ?_, hq⟩, h5 q⟩
        have h7 := (hk2 a).mp (by rw [he]; exact ha)
        exact ⟨(h3 a ha).1, (h3 a ha).2, fun b hb => h4 a b ha hb, h7.2⟩
      · have kcl : ∀ a b, ub_t kp a → ug_C w h col a b → ub_t kp b := by
          intro a b ha hb
          obtain ⟨h7, r1, r2, h8, h9, h10⟩ := (hk2 a).mp ha
          have tr : ∀ r, ug_E w h col k (ub_t lv) a r → ug_E w h col k (ub_t lv) b r := fun r hr => ⟨hr.1, (ug_VC g.1 (h3 a h7).1 hb).mp hr.2.1, hr.2.2⟩
          exact (hk2 b).mpr ⟨h4 a b h7 hb, r1, r2, h8, tr r1 h9, tr r2 h10⟩
        refine nm_r (nI_1 j) (ih (j + 1) kp (by omega) (by omega) (fun q hq => h3 q ((hk2 q).mp hq).1) kcl (fun q hq => ?_) ?_)
        · obtain ⟨_, _, _, r1, r2, h8, h9, h10⟩ := ug_AlCl q hq
          have tr : ∀ r, ug_E w h col k (ug_Al w h col k) q r → ug_E w h col k (ub_t lv) q r := fun r hr => ⟨hr.1, hr.2.1, ug_Bdm hr.2.2 (fun z _ _ hz => h5 z hz)⟩
          exact (hk2 q).mpr ⟨h5 q hq, r1, r2, h8, tr r1 h9, tr r2 h10⟩
        · have : ∃ q, ub_t lv q ∧ ¬ ub_t kp q := by
            rcases Classical.em (∃ q, ub_t lv q ∧ ¬ ub_t kp q) with z | z
            · exact z
            · refine absurd (ub_ext fun i => ⟨fun hi => ((hk2 i).mp hi).1, fun hi => ?_⟩) hne
              rcases Classical.em (ub_t kp i) with y | y
              · exact y
              · exact absurd ⟨i, hi, y⟩ z
          obtain ⟨q, hq1, hq2⟩ := this
          obtain ⟨c, hc, hb⟩ := T.1.2.2.1 q (h3 q hq1)
          have := cn_lt (P := fun c => ∃ q, ub_t (ch (ux_of k + c)) q ∧ ub_t kp q) (Q := fun c => ∃ q, ub_t (ch (ux_of k + c)) q ∧ ub_t lv q) (a := c) (fun ⟨z, hz1, hz2⟩ => by
            have hm := ux_LEm g.1 hA T.1 hc hz1
            exact hq2 (kcl z q hz2 ((ug_Cof hm.1.2).mp ((hm.2 q).mp hb)))) ⟨q, hb, hq1⟩ (N := nC) (fun c' _ ⟨z, hz1, hz2⟩ => ⟨z, hz1, ((hk2 z).mp hz2).1⟩) hc
          omega
theorem ux_gcs (g : ux_G w h fu fc lc) (P : ux_P w h (bA n) (wA n)) (hn : n ≤ 128) {k nR nC : Nat} (hk : k = 1 ∨ k = 2) (hR : nR ≤ 49) (hC : nC ≤ 49) (S : ux_RS w h (ux_col (bA n) (wA n)) k re rE rB nR) (T : ux_CS w h (ux_col (bA n) (wA n)) k re ch vr nR nC) (hcR : rC k = nI nR) (hcC : cC k = nI nC) {post : Int64 → Prop}
    (H : ∀ r, (∀ q, ub_t r q ↔ ug_Al w h (ux_col (bA n) (wA n)) k q) → post r) : wpX_greatestClosedSet post ((nI w), (nI (w * h)), lm, fu, fc, lc, nI n, fr, mv, bA, wA, lB, lW, ch, vr, re, rE, rB, cC, rC, al, se, ow) (nI k) := by
  unfold wpX_greatestClosedSet
  dsimp only
  have ek : (nI k).toNatClampNeg = k := nI_clamp (by omega)
  refine ux_stones hn hk ⟨pk_in k 3 (by omega), nm_r (e' := nI nC) (by rw [ek, hcC]) ⟨nC + 1, ?_⟩⟩
  refine ux_gcs17 g hk hR hC S T hcR hcC H (nC + 1) 0 _ (by omega) (by omega) (fun q hq => (ux_stk P hk).mp hq) (fun a b ha hb => ?_) (fun q hq => (ux_stk P hk).mpr (ug_Alc hq)) (by have := cn_le (fun c => ∃ q, ub_t (ch (ux_of k + c)) q ∧ ub_t (ux_st (bA n) (wA n) k) q) nC; omega)
  have ha2 := (ux_stk P hk).mp ha
  have hb2 := ug_Ca hb ha2.1
  exact (ux_stk P hk).mpr ⟨hb2.1, hb2.2.trans ha2.2⟩
theorem ux_sec73 {k nR : Nat} (hR : nR ≤ 49) {cho : Int64} {post : Int64 → Prop} (H : ∀ r, (∀ q, ub_t r q ↔ ∃ i, i < nR ∧ ub_t cho i ∧ ub_t (re (ux_of k + i)) q) → post r) :
    ∀ (m i : Nat) (x : Int64), nR - i < m → i ≤ nR → (∀ q, ub_t x q ↔ ∃ j, j < i ∧ ub_t cho j ∧ ub_t (re (ux_of k + j)) q) → wX_securedPoints_73 post (nI (ux_of k)) cho (nI nR) (nI w) (nI (w * h)) lm fu fc lc mc fr mv bA wA lB lW ch vr re rE rB cC rC al se ow m x (nI i) := by
  intro m
  induction m with
  | zero => intro i x h1; omega
  | succ m ih =>
    intro i x h1 h2 h3
    refine pk_le nR i (fun hle => ?_) (fun hlt => ?_)
    · have e : i = nR := by omega
      subst e
      exact H x h3
    · have ei : (nI (ux_of k) + nI i).toNatClampNeg = ux_of k + i := ux_ofc k (by omega)
      refine ek_if (ub_tst cho (by omega)) (fun h5 => nm_r (nI_1 i) (ih (i + 1) x (by omega) (by omega) (fun q => ?_))) (fun h5 => ⟨ux_ofi k (by omega), nm_r (e' := x ||| re (ux_of k + i)) (by rw [ei]) (nm_r (nI_1 i) (ih (i + 1) _ (by omega) (by omega) (fun q => ?_)))⟩)
      · rw [h3]
        constructor
        · intro ⟨c, z1, z2⟩
          exact ⟨c, by omega, z2⟩
        · intro ⟨c, z1, z2, z3⟩
          rcases Nat.lt_or_ge c i with y | y
          · exact ⟨c, y, z2, z3⟩
          · have e : c = i := by omega
            subst e
            exact absurd z2 h5
      · rw [ub_or, h3]
        constructor
        · intro z
          rcases z with ⟨c, z1, z2⟩ | z2
          · exact ⟨c, by omega, z2⟩
          · exact ⟨i, by omega, Classical.not_not.mp h5, z2⟩
        · intro ⟨c, z1, z2, z3⟩
          rcases Nat.lt_or_ge c i with y | y
          · exact Or.inl ⟨c, y, z2, z3⟩
          · have e : c = i := by omega
            subst e
            exact Or.inr z3
theorem ux_sec19 {k nR nC : Nat} (hk : k = 1 ∨ k = 2) (hR : nR ≤ 49) (hC : nC ≤ 49) (hcR : rC k = nI nR) {post : Int64 → Prop} (H : ∀ r, (∀ q, ub_t r q ↔ ∃ i, i < nR ∧ (rB (ux_of k + i) &&& (al k ^^^ (-1)) = 0 ∧ ∃ c, c < nC ∧ ub_t (vr (ux_of k + c)) i) ∧ ub_t (re (ux_of k + i)) q) → post r) :
    ∀ (m i : Nat) (x : Int64), nC - i < m → i ≤ nC → (∀ q, ub_t x q ↔ ∃ c, c < i ∧ ub_t (vr (ux_of k + c)) q) → wX_securedPoints_19 post (nI k) (nI (ux_of k)) (nI nC) (nI w) (nI (w * h)) lm fu fc lc mc fr mv bA wA lB lW ch vr re rE rB cC rC al se ow m x (nI i) := by
  intro m
  have ek : (nI k).toNatClampNeg = k := nI_clamp (by omega)
  induction m with
  | zero => intro i x h1; omega
  | succ m ih =>
    intro i x h1 h2 h3
    refine pk_le nC i (fun hle => ?_) (fun hlt => ?_)
    · have e : i = nC := by omega
      subst e
      rw [ek]
      refine ⟨pk_in k 3 (by omega), ux_rw hk hR hcR (fun r hr => nm_e ⟨pk_in k 3 (by omega), nm_r (e' := nI nR) (by rw [hcR]) ⟨nR + 1, ?_⟩⟩)⟩
      refine ux_sec73 hR (fun r' hr' => H r' fun q => ?_) (nR + 1) 0 0 (by omega) (by omega) (fun j => ⟨fun z => absurd z (ub_0 j), fun ⟨c, z, _⟩ => by omega⟩)
      rw [hr']
      constructor
      · intro ⟨i, z1, z2, z3⟩
        rw [ub_and, hr, h3] at z2
        exact ⟨i, z1, ⟨z2.1.2, z2.2⟩, z3⟩
      · intro ⟨i, z1, z2, z3⟩
        refine ⟨i, z1, ?_, z3⟩
        rw [ub_and, hr, h3]
        exact ⟨⟨z1, z2.1⟩, z2.2⟩
    · have ei : (nI (ux_of k) + nI i).toNatClampNeg = ux_of k + i := ux_ofc k (by omega)
      refine ⟨ux_ofi k (by omega), nm_r (e' := x ||| vr (ux_of k + i)) (by rw [ei]) (nm_r (nI_1 i) (ih (i + 1) _ (by omega) (by omega) (fun q => ?_)))⟩
      rw [ub_or, h3]
      constructor
      · intro z
        rcases z with ⟨c, z1, z2⟩ | z2
        · exact ⟨c, by omega, z2⟩
        · exact ⟨i, by omega, z2⟩
      · intro ⟨c, z1, z2⟩
        rcases Nat.lt_or_ge c i with y | y
        · exact Or.inl ⟨c, y, z2⟩
        · have e : c = i := by omega
          subst e
          exact Or.inr z2
theorem ux_sec (g : ug_G w h) {col : Nat → Nat} {k nR nC : Nat} (hk : k = 1 ∨ k = 2) (hR : nR ≤ 49) (hC : nC ≤ 49) (S : ux_RS w h col k re rE rB nR) (T : ux_CS w h col k re ch vr nR nC) (hcR : rC k = nI nR) (hcC : cC k = nI nC) (hal : ∀ q, ub_t (al k) q ↔ ug_Al w h col k q) {post : Int64 → Prop}
    (H : ∀ r, (∀ q, ub_t r q ↔ ug_Se w h col k q) → post r) : wpX_securedPoints post ((nI w), (nI (w * h)), lm, fu, fc, lc, mc, fr, mv, bA, wA, lB, lW, ch, vr, re, rE, rB, cC, rC, al, se, ow) (nI k) := by
  unfold wpX_securedPoints
  dsimp only
  have hA : ∀ x, (x < w * h ∧ col x ≠ k) → x < w * h := fun x hx => hx.1
  have hA2 : ∀ x, (x < w * h ∧ col x = k) → x < w * h := fun x hx => hx.1
  have ek : (nI k).toNatClampNeg = k := nI_clamp (by omega)
  refine ux_off hk ⟨pk_in k 3 (by omega), nm_r (e' := nI nC) (by rw [ek, hcC]) ⟨nC + 1, ?_⟩⟩
  refine ux_sec19 hk hR hC hcR (fun r hr => H r fun q => ?_) (nC + 1) 0 0 (by omega) (by omega) (fun j => ⟨fun z => absurd z (ub_0 j), fun ⟨c, z, _⟩ => by omega⟩)
  rw [hr]
  constructor
  · intro ⟨i, hi, ⟨h1, c, hc, h2⟩, h3⟩
    have hm := ux_LEm g hA S.1 hi h3
    obtain ⟨t, ht⟩ := ux_LEne T.1 hc
    have hmt := ux_LEm g hA2 T.1 hc ht
    refine ⟨hm.1.1, hm.1.2, ug_Bdm ((ux_bkey g S hi h3).mp h1) (fun z _ _ hz => (hal z).mp hz), t, hmt.1.1, hmt.1.2, ?_⟩
    exact ((T.2 c hc t ht i).mp h2).2 q h3
  · intro ⟨h1, h2, h3, t, ht1, ht2, h4⟩
    obtain ⟨i, hi, hq⟩ := S.1.2.2.1 q ⟨h1, h2⟩
    have hm := ux_LEm g hA S.1 hi hq
    obtain ⟨c, hc, ht⟩ := T.1.2.2.1 t ⟨ht1, ht2⟩
    refine ⟨i, hi, ⟨(ux_bkey g S hi hq).mpr (ug_Bdm h3 (fun z _ _ hz => (hal z).mpr hz)), c, hc, ?_⟩, hq⟩
    refine (T.2 c hc t ht i).mpr ⟨hi, fun r' hr' => ?_⟩
    exact (ug_VQ g h1 h2 ((hm.2 r').mp hr')).mp h4
end
/-- what is kept of a colour's chains -/
def ux_FK (w h : Nat) (col : Nat → Nat) (k : Nat) (ch vr : Nat → Int64) (cC : Nat → Int32) : Prop :=
  ∃ nC, nC ≤ 49 ∧ cC k = nI nC ∧ ux_LE w h (fun b => b < w * h ∧ col b = k) (fun i => ch (ux_of k + i)) nC ∧ ∀ c, c < nC → ∀ t, ub_t (ch (ux_of k + c)) t → cn (ub_t (vr (ux_of k + c))) 64 = ug_vn w h col k t
def ux_FR (w h : Nat) (col : Nat → Nat) (ch vr : Nat → Int64) (cC : Nat → Int32) (al ow : Nat → Int64) : Prop :=
  ux_FK w h col 1 ch vr cC ∧ ux_FK w h col 2 ch vr cC ∧ (∀ q, ub_t (al 1) q ↔ ug_Al w h col 1 q) ∧ (∀ q, ub_t (al 2) q ↔ ug_Al w h col 2 q) ∧
  (∀ q, ub_t (ow 1) q ↔ q < w * h ∧ ug_O1 w h col q) ∧ (∀ q, ub_t (ow 2) q ↔ q < w * h ∧ ug_O2 w h col q)
section
variable {w h n : Nat} {lm mc fr : Int32} {fu fc lc : Int64} {mv lB lW cC rC : Nat → Int32} {bA wA ch vr re rE rB al se ow : Nat → Int64}
theorem ux_an (g : ux_G w h fu fc lc) (P : ux_P w h (bA n) (wA n)) (hn : n ≤ 128) {k : Nat} (hk : k = 1 ∨ k = 2) {post : SX → Prop}
    (H : ∀ ch' vr' re' rE' rB' nC nR a s, ux_FK w h (ux_col (bA n) (wA n)) k ch' vr' (upd cC k (nI nC)) → (∀ j, j < ux_of k ∨ ux_of k + 49 ≤ j → ch' j = ch j ∧ vr' j = vr j) →
      (∀ q, ub_t a q ↔ ug_Al w h (ux_col (bA n) (wA n)) k q) → (∀ q, ub_t s q ↔ ug_Se w h (ux_col (bA n) (wA n)) k q) →
      post ((nI w), (nI (w * h)), lm, fu, fc, lc, nI n, fr, mv, bA, wA, lB, lW, ch', vr', re', rE', rB', upd cC k (nI nC), upd rC k (nI nR), vp_updL al k a, vp_updL se k s, ow)) : wpX_analyse post ((nI w), (nI (w * h)), lm, fu, fc, lc, nI n, fr, mv, bA, wA, lB, lW, ch, vr, re, rE, rB, cC, rC, al, se, ow) (nI k) := by
  unfold wpX_analyse
  dsimp only
  have hN := ug_N g.1
  have ek : (nI k).toNatClampNeg = k := nI_clamp (by omega)
  have hk3 : vp_in (nI k) 3 := pk_in k 3 (by omega)
  refine ux_listR g P hn hk (fun re' rE' rB' nR hR S => ?_)
  refine ux_listC g P hn hk (nR := nR) (by omega) S pk_us (fun ch' vr' nC hC T fr' => ?_)
  refine ux_gcs g P hn hk (nR := nR) (nC := nC) (by omega) (by omega) S T pk_us pk_us (fun a ha => ?_)
  refine ⟨hk3, nm_r (e' := vp_updL al k a) (by rw [ek]) ?_⟩
  refine ux_sec g.1 hk (nR := nR) (nC := nC) (by omega) (by omega) S T pk_us pk_us (fun q => by rw [pk_uLs]; exact ha q) (fun s hs => ?_)
  refine ⟨hk3, nm_r (e' := vp_updL se k s) (by rw [ek]) ?_⟩
  exact H ch' vr' re' rE' rB' nC nR a s ⟨nC, by omega, pk_us, T.1, fun c hc t ht => ux_vcnt g.1 (by omega) S T hc ht⟩ fr' ha hs
end
end
section
/-! X: the owners -/
section
variable {w h n : Nat} {lm mc fr : Int32} {fu fc lc : Int64} {mv lB lW cC rC : Nat → Int32} {bA wA ch vr re rE rB al se ow : Nat → Int64}
theorem ux_awa (g : ux_G w h fu fc lc) (P : ux_P w h (bA n) (wA n)) (hn : n ≤ 128) {ar rs : Int64} (har : ∀ q, ub_t ar q → q < w * h) {post : SX → Prop} {m1 m2 : Prop}
    (hm1 : m1 ↔ ∃ z, z < w * h ∧ ux_col (bA n) (wA n) z = 1 ∧ ∃ a, ub_t ar a ∧ ug_ad w h z a) (hm2 : m2 ↔ ∃ z, z < w * h ∧ ux_col (bA n) (wA n) z = 2 ∧ ∃ a, ub_t ar a ∧ ug_ad w h z a)
    (H : ∀ ow', (∀ q, ub_t (ow' 1) q ↔ ub_t (ow 1) q ∨ ((ub_t ar q ∧ ub_t rs q) ∧ m1 ∧ ¬ m2)) → (∀ q, ub_t (ow' 2) q ↔ ub_t (ow 2) q ∨ ((ub_t ar q ∧ ub_t rs q) ∧ m2 ∧ ¬ m1)) → post ((nI w), (nI (w * h)), lm, fu, fc, lc, nI n, fr, mv, bA, wA, lB, lW, ch, vr, re, rE, rB, cC, rC, al, se, ow')) : wpX_awardArea post ((nI w), (nI (w * h)), lm, fu, fc, lc, nI n, fr, mv, bA, wA, lB, lW, ch, vr, re, rE, rB, cC, rC, al, se, ow) ar rs := by
  unfold wpX_awardArea
  dsimp only
  refine ux_nb g (fun nb hnb => ?_) har
  have c1 : nb &&& ux_st (bA n) (wA n) 1 = 0 ↔ ¬ m1 := by
    rw [ub_eq0, hm1]
    constructor
    · intro h1 ⟨z, h2, h3, h4⟩
      exact h1 z ((ub_and _ _ _).mpr ⟨(hnb z).mpr ⟨h2, h4⟩, (ux_stk P (Or.inl rfl)).mpr ⟨h2, h3⟩⟩)
    · intro h1 z hz
      obtain ⟨h2, h3⟩ := (ub_and _ _ _).mp hz
      exact h1 ⟨z, ((hnb z).mp h2).1, ((ux_stk P (Or.inl rfl)).mp h3).2, ((hnb z).mp h2).2⟩
  have c2 : nb &&& ux_st (bA n) (wA n) 2 = 0 ↔ ¬ m2 := by
    rw [ub_eq0, hm2]
    constructor
    · intro h1 ⟨z, h2, h3, h4⟩
      exact h1 z ((ub_and _ _ _).mpr ⟨(hnb z).mpr ⟨h2, h4⟩, (ux_stk P (Or.inr rfl)).mpr ⟨h2, h3⟩⟩)
    · intro h1 z hz
      obtain ⟨h2, h3⟩ := (ub_and _ _ _).mp hz
      exact h1 ⟨z, ((hnb z).mp h2).1, ((ux_stk P (Or.inr rfl)).mp h3).2, ((hnb z).mp h2).2⟩
  refine ux_stones hn (k := 1) (Or.inl rfl) (ek_if c1 (fun h1 => ?_) (fun h1 => ?_))
  · unfold wX_awardArea_25
    refine ux_stones hn (k := 2) (Or.inr rfl) (ek_if c2 (fun h2 => ?_) (fun h2 => ?_))
    · unfold wX_awardArea_45
      refine br_t rfl ?_
      unfold wX_awardArea_69
      refine br_t rfl (H ow (fun q => ⟨Or.inl, fun z => z.elim id fun y => absurd y.2.1 h1⟩) (fun q => ⟨Or.inl, fun z => z.elim id fun y => absurd y.2.1 h2⟩))
    · unfold wX_awardArea_45
      refine br_t rfl ?_
      unfold wX_awardArea_69
      refine br_f (by decide) (br_t rfl (nm_e (H _ (fun q => ?_) (fun q => ?_))))
      · rw [pk_uLn (by decide)]
        exact ⟨Or.inl, fun z => z.elim id fun y => absurd y.2.1 h1⟩
      · rw [pk_uLs, ub_or, ub_and]
        exact ⟨fun z => z.elim Or.inl fun y => Or.inr ⟨y, Classical.not_not.mp h2, h1⟩, fun z => z.elim Or.inl fun y => Or.inr y.1⟩
  · unfold wX_awardArea_25
    refine ux_stones hn (k := 2) (Or.inr rfl) (ek_if c2 (fun h2 => ?_) (fun h2 => ?_))
    · unfold wX_awardArea_45
      refine br_f (by decide) (br_t rfl (nm_e ?_))
      unfold wX_awardArea_69
      refine br_t rfl (H _ (fun q => ?_) (fun q => ?_))
      · rw [pk_uLs, ub_or, ub_and]
        exact ⟨fun z => z.elim Or.inl fun y => Or.inr ⟨y, Classical.not_not.mp h1, h2⟩, fun z => z.elim Or.inl fun y => Or.inr y.1⟩
      · rw [pk_uLn (by decide)]
        exact ⟨Or.inl, fun z => z.elim id fun y => absurd y.2.1 h2⟩
    · unfold wX_awardArea_45
      refine br_f (by decide) (br_f (by decide) ?_)
      unfold wX_awardArea_69
      refine br_f (by decide) (br_f (by decide) (H ow (fun q => ⟨Or.inl, fun z => z.elim id fun y => absurd (Classical.not_not.mp h2) y.2.2⟩) (fun q => ⟨Or.inl, fun z => z.elim id fun y => absurd (Classical.not_not.mp h1) y.2.2⟩)))
theorem ux_awe8 (g : ux_G w h fu fc lc) (P : ux_P w h (bA n) (wA n)) (hn : n ≤ 128) {rs : Int64} {B1 B2 : Nat → Prop} {post : SX → Prop} {col : Nat → Nat} (hcol : col = ux_col (bA n) (wA n))
    (H : ∀ ow', (∀ q, ub_t (ow' 1) q ↔ B1 q ∨ (ub_t rs q ∧ (q < w * h ∧ col q = 0) ∧ ug_M w h col 1 q ∧ ¬ ug_M w h col 2 q)) →
      (∀ q, ub_t (ow' 2) q ↔ B2 q ∨ (ub_t rs q ∧ (q < w * h ∧ col q = 0) ∧ ug_M w h col 2 q ∧ ¬ ug_M w h col 1 q)) → post ((nI w), (nI (w * h)), lm, fu, fc, lc, nI n, fr, mv, bA, wA, lB, lW, ch, vr, re, rE, rB, cC, rC, al, se, ow')) :
    ∀ (m i : Nat) (left : Int64) (bd ow : Nat → Int64), w * h - i < m → ux_LI w h (fun q => q < w * h ∧ col q = 0) bd i left →
      (∀ q, ub_t (ow 1) q ↔ B1 q ∨ (ub_t rs q ∧ (q < w * h ∧ col q = 0 ∧ ¬ ub_t left q) ∧ ug_M w h col 1 q ∧ ¬ ug_M w h col 2 q)) →
      (∀ q, ub_t (ow 2) q ↔ B2 q ∨ (ub_t rs q ∧ (q < w * h ∧ col q = 0 ∧ ¬ ub_t left q) ∧ ug_M w h col 2 q ∧ ¬ ug_M w h col 1 q)) →
      wX_awardEmptyAreas_8 post rs m left (nI i) (nI w) (nI (w * h)) lm fu fc lc (nI n) fr mv bA wA lB lW ch vr re rE rB cC rC al se ow := by
  intro m
  have hN := ug_N g.1
  have hA : ∀ x, (x < w * h ∧ col x = 0) → x < w * h := fun x hx => hx.1
  induction m with
  | zero => intro i left bd ow h1; omega
  | succ m ih =>
    intro i left bd ow h1 L h2 h3
    have fin : left = 0 → post ((nI w), (nI (w * h)), lm, fu, fc, lc, nI n, fr, mv, bA, wA, lB, lW, ch, vr, re, rE, rB, cC, rC, al, se, ow) := by
      intro hl
      have no : ∀ q, ¬ ub_t left q := by rw [hl]; exact ub_0
      exact H ow (fun q => by rw [h2]; exact ⟨fun z => z.elim Or.inl fun y => Or.inr ⟨y.1, ⟨y.2.1.1, y.2.1.2.1⟩, y.2.2⟩, fun z => z.elim Or.inl fun y => Or.inr ⟨y.1, ⟨y.2.1.1, y.2.1.2, no q⟩, y.2.2⟩⟩)
        (fun q => by rw [h3]; exact ⟨fun z => z.elim Or.inl fun y => Or.inr ⟨y.1, ⟨y.2.1.1, y.2.1.2.1⟩, y.2.2⟩, fun z => z.elim Or.inl fun y => Or.inr ⟨y.1, ⟨y.2.1.1, y.2.1.2, no q⟩, y.2.2⟩⟩)
    have hi : i ≤ w * h := by have := L.2.2.2; omega
    refine pk_le (w * h) i (fun hle => fin (ux_LIfull hA L hle)) (fun hlt => br_c fin (fun hl => ?_))
    refine ux_flood g (fun r hr => ?_) (fun q hq => hA q (ux_LIA L hq))
    obtain ⟨s, hs, hb⟩ := ux_LIb g.1 hA L hl hr
    have hsA := ux_LIA L hs
    have hrA : ∀ q, ub_t r q → q < w * h ∧ col q = 0 := fun q hq => ug_RA ((hb q).mp hq) hsA
    have hrC : ∀ q, ub_t r q → ∀ a, ub_t r a ↔ ug_C w h col q a := by
      intro q hq a
      have h5 := (hb q).mp hq
      rw [← ug_Cof (hrA q hq).2, hb]
      exact ⟨fun z => ug_Rt (ug_Ry g.1 hA h5 hsA) z, fun z => ug_Rt h5 z⟩
    have hM : ∀ k q, ub_t r q → (ug_M w h col k q ↔ ∃ z, z < w * h ∧ col z = k ∧ ∃ a, ub_t r a ∧ ug_ad w h z a) := by
      intro k q hq
      unfold ug_M
      constructor
      · intro ⟨z, z1, z2, a, z3, z4⟩
        exact ⟨z, z1, z2, a, (hrC q hq a).mpr z3, z4⟩
      · intro ⟨z, z1, z2, a, z3, z4⟩
        exact ⟨z, z1, z2, a, (hrC q hq a).mp z3, z4⟩
    have hL2 := ux_LIs (bd' := fun j => if j = i then r else bd j) g.1 hA L (s := s) hs (fun q => by
      show ub_t (if i = i then r else bd i) q ↔ _
      rw [if_pos rfl]; exact hb q) (fun j hj => if_neg (by omega))
    rw [show (if i = i then r else bd i) = r from if_pos rfl] at hL2
    have hsub : ∀ q, ub_t r q → ub_t left q := by
      intro q hq
      exact ug_Ri (P := ub_t left) ((hb q).mp hq) hs (fun a b _ ha hb hd => ux_LIcl g.1 hA L ha hb hd)
    refine ux_awa g P hn (fun q hq => (hrA q hq).1) (m1 := ∃ z, z < w * h ∧ col z = 1 ∧ ∃ a, ub_t r a ∧ ug_ad w h z a) (m2 := ∃ z, z < w * h ∧ col z = 2 ∧ ∃ a, ub_t r a ∧ ug_ad w h z a) (by rw [hcol]) (by rw [hcol]) (fun ow' e1 e2 => ?_)
    refine nm_e (nm_r (nI_1 i) ?_)
    refine ih (i + 1) _ _ ow' (by omega) hL2 (fun q => ?_) (fun q => ?_)
    · rw [e1, h2]
      constructor
      · intro z
        rcases z with (z | ⟨z1, ⟨z2, z3, z4⟩, z5⟩) | ⟨⟨z1, z2⟩, z3, z4⟩
        · exact Or.inl z
        · exact Or.inr ⟨z1, ⟨z2, z3, fun y => z4 ((ub_andn _ _ _).mp y).1⟩, z5⟩
        · exact Or.inr ⟨z2, ⟨(hrA q z1).1, (hrA q z1).2, fun y => ((ub_andn _ _ _).mp y).2 z1⟩, (hM 1 q z1).mpr z3, fun y => z4 ((hM 2 q z1).mp y)⟩
      · intro z
        rcases z with z | ⟨z1, ⟨z2, z3, z4⟩, z5, z6⟩
        · exact Or.inl (Or.inl z)
        · rcases Classical.em (ub_t r q) with y | y
          · exact Or.inr ⟨⟨y, z1⟩, (hM 1 q y).mp z5, fun x => z6 ((hM 2 q y).mpr x)⟩
          · exact Or.inl (Or.inr ⟨z1, ⟨z2, z3, fun x => z4 ((ub_andn _ _ _).mpr ⟨x, y⟩)⟩, z5, z6⟩)
    · rw [e2, h3]
      constructor
      · intro z
        rcases z with (z | ⟨z1, ⟨z2, z3, z4⟩, z5⟩) | ⟨⟨z1, z2⟩, z3, z4⟩
        · exact Or.inl z
        · exact Or.inr ⟨z1, ⟨z2, z3, fun y => z4 ((ub_andn _ _ _).mp y).1⟩, z5⟩
        · exact Or.inr ⟨z2, ⟨(hrA q z1).1, (hrA q z1).2, fun y => ((ub_andn _ _ _).mp y).2 z1⟩, (hM 2 q z1).mpr z3, fun y => z4 ((hM 1 q z1).mp y)⟩
      · intro z
        rcases z with z | ⟨z1, ⟨z2, z3, z4⟩, z5, z6⟩
        · exact Or.inl (Or.inl z)
        · rcases Classical.em (ub_t r q) with y | y
          · exact Or.inr ⟨⟨y, z1⟩, (hM 2 q y).mp z5, fun x => z6 ((hM 1 q y).mpr x)⟩
          · exact Or.inl (Or.inr ⟨z1, ⟨z2, z3, fun x => z4 ((ub_andn _ _ _).mpr ⟨x, y⟩)⟩, z5, z6⟩)
theorem ux_prop1 {N a1 a2 s1 s2 c1 e : Prop} (n1 : a1 → N) (n2 : s1 → N) (n4 : c1 → N) (n5 : e → N) :
    ((a1 ∨ (s1 ∧ ¬ (a1 ∨ a2))) ∨ ((N ∧ ¬ ((a1 ∨ (s1 ∧ ¬ (a1 ∨ a2))) ∨ (a2 ∨ (s2 ∧ ¬ ((a1 ∨ a2) ∨ (a1 ∨ (s1 ∧ ¬ (a1 ∨ a2)))))))) ∧ c1)) ∨ ((N ∧ ¬ ((a1 ∨ (s1 ∧ ¬ (a1 ∨ a2))) ∨ (a2 ∨ (s2 ∧ ¬ ((a1 ∨ a2) ∨ (a1 ∨ (s1 ∧ ¬ (a1 ∨ a2)))))))) ∧ e) ↔
    N ∧ (a1 ∨ (¬ (a1 ∨ a2) ∧ (s1 ∨ (¬ s2 ∧ (c1 ∨ e))))) := by
  by_cases h1 : a1 <;> by_cases h2 : a2 <;> by_cases h3 : s1 <;> by_cases h4 : s2 <;> by_cases h5 : c1 <;> by_cases h6 : e <;> simp_all
theorem ux_prop2 {N a1 a2 s1 s2 c2 e : Prop} (n1 : a2 → N) (n2 : s2 → N) (n4 : c2 → N) (n5 : e → N) :
    ((a2 ∨ (s2 ∧ ¬ ((a1 ∨ a2) ∨ (a1 ∨ (s1 ∧ ¬ (a1 ∨ a2)))))) ∨ ((N ∧ ¬ ((a1 ∨ (s1 ∧ ¬ (a1 ∨ a2))) ∨ (a2 ∨ (s2 ∧ ¬ ((a1 ∨ a2) ∨ (a1 ∨ (s1 ∧ ¬ (a1 ∨ a2)))))))) ∧ c2)) ∨ ((N ∧ ¬ ((a1 ∨ (s1 ∧ ¬ (a1 ∨ a2))) ∨ (a2 ∨ (s2 ∧ ¬ ((a1 ∨ a2) ∨ (a1 ∨ (s1 ∧ ¬ (a1 ∨ a2)))))))) ∧ e) ↔
    N ∧ (a2 ∨ (¬ (a1 ∨ a2) ∧ ¬ s1 ∧ (s2 ∨ (c2 ∨ e)))) := by
  by_cases h1 : a1 <;> by_cases h2 : a2 <;> by_cases h3 : s1 <;> by_cases h4 : s2 <;> by_cases h5 : c2 <;> by_cases h6 : e <;> simp_all
theorem ux_own (g : ux_G w h fu fc lc) (P : ux_P w h (bA n) (wA n)) (hn : n ≤ 128) {post : SX → Prop} {col : Nat → Nat} (hcol : col = ux_col (bA n) (wA n))
    (a1 : ∀ q, ub_t (al 1) q ↔ ug_Al w h col 1 q) (a2 : ∀ q, ub_t (al 2) q ↔ ug_Al w h col 2 q) (s1 : ∀ q, ub_t (se 1) q ↔ ug_Se w h col 1 q) (s2 : ∀ q, ub_t (se 2) q ↔ ug_Se w h col 2 q)
    (H : ∀ ow', (∀ q, ub_t (ow' 1) q ↔ q < w * h ∧ ug_O1 w h col q) → (∀ q, ub_t (ow' 2) q ↔ q < w * h ∧ ug_O2 w h col q) → post ((nI w), (nI (w * h)), lm, fu, fc, lc, nI n, fr, mv, bA, wA, lB, lW, ch, vr, re, rE, rB, cC, rC, al, se, ow')) : wpX_assignOwners post ((nI w), (nI (w * h)), lm, fu, fc, lc, nI n, fr, mv, bA, wA, lB, lW, ch, vr, re, rE, rB, cC, rC, al, se, ow) := by
  intro x1 e1 x3 e3 x5 e5 x7 e7
  have hN := ug_N g.1
  have b1 : ∀ q, ub_t x1 q ↔ ug_Al w h col 1 q ∨ ug_Al w h col 2 q := fun q => by rw [e1, ub_or, a1, a2]
  have b3 : ∀ q, ub_t x3 q ↔ ug_Al w h col 1 q ∨ (ug_Se w h col 1 q ∧ ¬ (ug_Al w h col 1 q ∨ ug_Al w h col 2 q)) := fun q => by rw [e3, ub_or, ub_andn, a1, s1, b1]
  have b5 : ∀ q, ub_t x5 q ↔ ug_Al w h col 2 q ∨ (ug_Se w h col 2 q ∧ ¬ ((ug_Al w h col 1 q ∨ ug_Al w h col 2 q) ∨ (ug_Al w h col 1 q ∨ (ug_Se w h col 1 q ∧ ¬ (ug_Al w h col 1 q ∨ ug_Al w h col 2 q))))) := fun q => by rw [e5, ub_or, ub_andn, a2, s2, ub_or, b1, b3]
  have b7 : ∀ q, ub_t x7 q ↔ q < w * h ∧ ¬ ((ug_Al w h col 1 q ∨ (ug_Se w h col 1 q ∧ ¬ (ug_Al w h col 1 q ∨ ug_Al w h col 2 q))) ∨ (ug_Al w h col 2 q ∨ (ug_Se w h col 2 q ∧ ¬ ((ug_Al w h col 1 q ∨ ug_Al w h col 2 q) ∨ (ug_Al w h col 1 q ∨ (ug_Se w h col 1 q ∧ ¬ (ug_Al w h col 1 q ∨ ug_Al w h col 2 q))))))) := fun q => by rw [e7, ub_andn, g.2.1, ub_or, b3, b5]
  have t1 : ∀ q, ub_t (ux_st (bA n) (wA n) 1) q ↔ q < w * h ∧ col q = 1 := fun q => by rw [hcol]; exact ux_stk P (Or.inl rfl)
  have t2 : ∀ q, ub_t (ux_st (bA n) (wA n) 2) q ↔ q < w * h ∧ col q = 2 := fun q => by rw [hcol]; exact ux_stk P (Or.inr rfl)
  refine ux_stones hn (k := 1) (Or.inl rfl) (nm_e (ux_stones hn (k := 2) (Or.inr rfl) (nm_e ?_)))
  unfold wpX_awardEmptyAreas
  dsimp only
  refine ux_empty g hn (fun em hem => ⟨w * h + 1, ?_⟩)
  refine ux_awe8 g P hn hcol (B1 := fun q => ub_t x3 q ∨ (ub_t x7 q ∧ (q < w * h ∧ col q = 1))) (B2 := fun q => ub_t x5 q ∨ (ub_t x7 q ∧ (q < w * h ∧ col q = 2))) (fun ow' o1 o2 => H ow' (fun q => ?_) (fun q => ?_)) (w * h + 1) 0 em (fun _ => 0) _ (by omega) (ux_LI0 fun q => by rw [hcol]; exact hem q) (fun q => ?_) (fun q => ?_)
  · rw [o1]
    rw [b3, b7]
    have := ux_prop1 (N := q < w * h) (a1 := ug_Al w h col 1 q) (a2 := ug_Al w h col 2 q) (s1 := ug_Se w h col 1 q) (s2 := ug_Se w h col 2 q) (c1 := q < w * h ∧ col q = 1) (e := (q < w * h ∧ col q = 0) ∧ ug_M w h col 1 q ∧ ¬ ug_M w h col 2 q) (fun z => (ug_Alc z).1) (fun z => z.1) (fun z => z.1) (fun z => z.1.1)
    rw [this]
    refine and_congr_right fun hq => ?_
    unfold ug_O1 ug_Lv
    simp only [hq, true_and]
  · rw [o2]
    rw [b5, b7]
    have := ux_prop2 (N := q < w * h) (a1 := ug_Al w h col 1 q) (a2 := ug_Al w h col 2 q) (s1 := ug_Se w h col 1 q) (s2 := ug_Se w h col 2 q) (c2 := q < w * h ∧ col q = 2) (e := (q < w * h ∧ col q = 0) ∧ ug_M w h col 2 q ∧ ¬ ug_M w h col 1 q) (fun z => (ug_Alc z).1) (fun z => z.1) (fun z => z.1) (fun z => z.1.1)
    rw [this]
    refine and_congr_right fun hq => ?_
    unfold ug_O2 ug_Lv
    simp only [hq, true_and]
  · rw [pk_uLn (by decide), pk_uLs, ub_or, ub_and, t1]
    have : ¬ (ub_t x7 q ∧ (q < w * h ∧ col q = 0 ∧ ¬ ub_t em q) ∧ ug_M w h col 1 q ∧ ¬ ug_M w h col 2 q) := fun z => z.2.1.2.2 ((hem q).mpr ⟨z.2.1.1, by rw [← hcol]; exact z.2.1.2.1⟩)
    exact ⟨Or.inl, fun z => z.elim id fun y => absurd y this⟩
  · rw [pk_uLs, ub_or, ub_and, t2]
    have : ¬ (ub_t x7 q ∧ (q < w * h ∧ col q = 0 ∧ ¬ ub_t em q) ∧ ug_M w h col 2 q ∧ ¬ ug_M w h col 1 q) := fun z => z.2.1.2.2 ((hem q).mpr ⟨z.2.1.1, by rw [← hcol]; exact z.2.1.2.1⟩)
    exact ⟨Or.inl, fun z => z.elim id fun y => absurd y this⟩
theorem ux_FKf {col : Nat → Nat} {ch' vr' : Nat → Int64} {cC' : Nat → Int32} (F : ux_FK w h col 1 ch vr cC) (hf : ∀ j, j < ux_of 2 ∨ ux_of 2 + 49 ≤ j → ch' j = ch j ∧ vr' j = vr j) (hc : cC' 1 = cC 1) : ux_FK w h col 1 ch' vr' cC' := by
  obtain ⟨nC, h1, h2, h3, h4⟩ := F
  have e : ∀ i, i < nC → ch' (ux_of 1 + i) = ch (ux_of 1 + i) ∧ vr' (ux_of 1 + i) = vr (ux_of 1 + i) := by
    intro i hi
    apply hf
    left
    show 0 + i < 49
    omega
  refine ⟨nC, h1, hc.trans h2, ⟨fun i hi => ?_, fun i j q hi hj a b => ?_, fun q hq => ?_, h3.2.2.2⟩, fun c hc t ht => ?_⟩
  · have z := h3.1 i hi
    dsimp only at z ⊢
    rw [(e i hi).1]; exact z
  · dsimp only at a b
    rw [(e i hi).1] at a
    rw [(e j hj).1] at b
    exact h3.2.1 i j q hi hj a b
  · obtain ⟨i, hi, hb⟩ := h3.2.2.1 q hq
    refine ⟨i, hi, ?_⟩
    dsimp only at hb ⊢
    rw [(e i hi).1]; exact hb
  · rw [(e c hc).1] at ht
    rw [(e c hc).2]
    exact h4 c hc t ht
theorem ux_refresh (g : ux_G w h fu fc lc) (P : ux_P w h (bA n) (wA n)) (hn : n ≤ 128) {post : SX → Prop} (F : fr = 0 ∨ ux_FR w h (ux_col (bA n) (wA n)) ch vr cC al ow)
    (H : ∀ fr' ch' vr' re' rE' rB' cC' rC' al' se' ow', ux_FR w h (ux_col (bA n) (wA n)) ch' vr' cC' al' ow' → post ((nI w), (nI (w * h)), lm, fu, fc, lc, nI n, fr', mv, bA, wA, lB, lW, ch', vr', re', rE', rB', cC', rC', al', se', ow')) : wpX_refresh post ((nI w), (nI (w * h)), lm, fu, fc, lc, nI n, fr, mv, bA, wA, lB, lW, ch, vr, re, rE, rB, cC, rC, al, se, ow) := by
  unfold wpX_refresh
  dsimp only
  refine br_c (fun hf => ?_) (fun hf => ?_)
  · refine ux_an g P hn (k := 1) (Or.inl rfl) (fun ch1 vr1 re1 rE1 rB1 nC1 nR1 A1 S1 F1 f1 ha1 hs1 => ?_)
    dsimp only
    refine ux_an g P hn (k := 2) (Or.inr rfl) (fun ch2 vr2 re2 rE2 rB2 nC2 nR2 A2 S2 F2 f2 ha2 hs2 => ?_)
    dsimp only
    refine ux_own g P hn rfl (fun q => ?_) (fun q => ?_) (fun q => ?_) (fun q => ?_) (fun ow' o1 o2 => ?_)
    · rw [pk_uLn (by decide), pk_uLs]; exact ha1 q
    · rw [pk_uLs]; exact ha2 q
    · rw [pk_uLn (by decide), pk_uLs]; exact hs1 q
    · rw [pk_uLs]; exact hs2 q
    · refine H 1 ch2 vr2 re2 rE2 rB2 (upd (upd cC 1 (nI nC1)) 2 (nI nC2)) (upd (upd rC 1 (nI nR1)) 2 (nI nR2)) (vp_updL (vp_updL al 1 A1) 2 A2) (vp_updL (vp_updL se 1 S1) 2 S2) ow' ⟨ux_FKf F1 f2 (pk_un (by decide)), F2, fun q => ?_, fun q => ?_, o1, o2⟩
      · rw [pk_uLn (by decide), pk_uLs]; exact ha1 q
      · rw [pk_uLs]; exact ha2 q
  · exact H fr ch vr re rE rB cC rC al se ow (F.elim (fun z => absurd z hf) id)
end
end
section
/-! Y: touches, names -/
def uy_T (w h : Nat) (na : Nat → Int32) (k p : Nat) (s : Int32) : Prop := ∃ a, ug_ad w h p a ∧ na (k * 49 + a) = s
theorem uy_ix (k p : Nat) : nI k * 49 + nI p = nI (k * 49 + p) := by
  rw [show (49 : Int32) = nI 49 from rfl, pk_mul, nI_add]
section
variable {w h : Nat} {lm fn : Int32} {ml pa bo na de li : Nat → Int32}
theorem uy_t82 {post : Int32 → Prop} {k p : Nat} {s : Int32} (hN : w * h ≤ 49) (hw : w ≤ 7) (hk : k < 3) (hp : p < w * h) (H1 : p + w < w * h ∧ na (k * 49 + p + w) = s → post 1) (H0 : ¬ (p + w < w * h ∧ na (k * 49 + p + w) = s) → post 0) : wY_touches_82 post (nI p) s (nI (k * 49 + p)) (nI w) (nI h) lm fn ml pa bo na de li := by
  unfold wY_touches_82
  refine pk_le (w * h) (p + w) (fun h1 => H0 fun z => by omega) (fun h1 => ?_) (pk_mul w h) (nI_add p w)
  rw [nI_add, nI_clamp (by omega)]
  exact ⟨vp_in_nI (by omega) (by decide), br_c (fun h2 => H1 ⟨h1, h2⟩) (fun h2 => H0 fun z => h2 z.2)⟩
theorem uy_t58 {post : Int32 → Prop} {k p : Nat} {s : Int32} (hN : w * h ≤ 49) (hw : w ≤ 7) (hk : k < 3) (hp : p < w * h) (H1 : w ≤ p ∧ na (k * 49 + p - w) = s → post 1) (H0 : ¬ (w ≤ p ∧ na (k * 49 + p - w) = s) → wY_touches_82 post (nI p) s (nI (k * 49 + p)) (nI w) (nI h) lm fn ml pa bo na de li) : wY_touches_58 post (nI p) s (nI (k * 49 + p)) (nI w) (nI h) lm fn ml pa bo na de li := by
  unfold wY_touches_58
  refine pk_lt p w (fun h1 => H0 fun z => by omega) (fun h1 => ?_)
  rw [pk_sub (by omega), nI_clamp (by omega)]
  exact ⟨vp_in_nI (by omega) (by decide), br_c (fun h2 => H1 ⟨h1, h2⟩) (fun h2 => H0 fun z => h2 z.2)⟩
theorem uy_t30 {post : Int32 → Prop} {k p : Nat} {s : Int32} (g : ug_G w h) (hk : k < 3) (hp : p < w * h) (H1 : p % w + 1 < w ∧ na (k * 49 + p + 1) = s → post 1) (H0 : ¬ (p % w + 1 < w ∧ na (k * 49 + p + 1) = s) → wY_touches_58 post (nI p) s (nI (k * 49 + p)) (nI w) (nI h) lm fn ml pa bo na de li) : wY_touches_30 post (nI p) s (nI (k * 49 + p)) (nI w) (nI h) lm fn ml pa bo na de li := by
  have hN := ug_N g
  have hw := g.1
  have hw7 := g.2.1
  have hr : nI p - nI p / nI w * nI w = nI (p % w) := pk_rem (by omega) (by omega) (by omega)
  have hm : p % w < w := Nat.mod_lt _ (by omega)
  unfold wY_touches_30
  rw [hr]
  refine ⟨nI_ne0 (by omega) (by omega), ?_⟩
  refine pk_le (w - 1) (p % w) (fun h1 => H0 fun z => by omega) (fun h1 => ?_) (pk_sub (b := 1) (by omega)) rfl
  have hp1 := ug_alt g hp (show ug_ad w h p (p + 1) from Or.inr (Or.inl ⟨by omega, rfl⟩))
  rw [nI_1, nI_clamp (by omega)]
  exact ⟨vp_in_nI (by omega) (by decide), br_c (fun h2 => H1 ⟨by omega, h2⟩) (fun h2 => H0 fun z => h2 z.2)⟩
theorem uy_touch {post : Int32 → Prop} {k p : Nat} {s : Int32} (g : ug_G w h) (hk : k < 3) (hp : p < w * h) (H1 : uy_T w h na k p s → post 1) (H0 : ¬ uy_T w h na k p s → post 0) : wpY_touches post ((nI w), (nI h), lm, fn, ml, pa, bo, na, de, li) (nI k) (nI p) s := by
  have hN := ug_N g
  have hw := g.1
  have hw7 := g.2.1
  have hr : nI p - nI p / nI w * nI w = nI (p % w) := pk_rem (by omega) (by omega) (by omega)
  have hm : p % w ≤ p := Nat.mod_le _ _
  unfold wpY_touches
  dsimp only
  refine nm_r (uy_ix k p) ?_
  rw [hr]
  have go : ¬ (0 < p % w ∧ na (k * 49 + p - 1) = s) → wY_touches_30 post (nI p) s (nI (k * 49 + p)) (nI w) (nI h) lm fn ml pa bo na de li := by
    intro d1
    refine uy_t30 g hk hp (fun d2 => H1 ⟨p + 1, Or.inr (Or.inl ⟨d2.1, rfl⟩), d2.2⟩) (fun d2 => ?_)
    refine uy_t58 hN.2 hw7 hk hp (fun d3 => H1 ⟨p - w, Or.inr (Or.inr (Or.inl ⟨d3.1, by omega⟩)), by rw [← Nat.add_sub_assoc d3.1]; exact d3.2⟩) (fun d3 => ?_)
    refine uy_t82 hN.2 hw7 hk hp (fun d4 => H1 ⟨p + w, Or.inr (Or.inr (Or.inr ⟨d4.1, rfl⟩)), by rw [← Nat.add_assoc]; exact d4.2⟩) (fun d4 => H0 fun ⟨a, ha, hs⟩ => ?_)
    rcases ha with ⟨z1, z2⟩ | ⟨z1, z2⟩ | ⟨z1, z2⟩ | ⟨z1, z2⟩
    · exact d1 ⟨z1, by rw [show k * 49 + p - 1 = k * 49 + a by omega]; exact hs⟩
    · exact d2 ⟨z1, by rw [show k * 49 + p + 1 = k * 49 + a by omega]; exact hs⟩
    · exact d3 ⟨z1, by rw [show k * 49 + p - w = k * 49 + a by omega]; exact hs⟩
    · exact d4 ⟨z1, by rw [show k * 49 + p + w = k * 49 + a by omega]; exact hs⟩
  refine ⟨nI_ne0 (by omega) (by omega), pk_le (p % w) 0 (fun h1 => go fun z => by omega) (fun h1 => ?_)⟩
  rw [show nI (k * 49 + p) - 1 = nI (k * 49 + p - 1) from pk_sub (b := 1) (by omega), nI_clamp (by omega)]
  exact ⟨vp_in_nI (by omega) (by decide), br_c (fun h2 => H1 ⟨p - 1, Or.inl ⟨h1, by omega⟩, by rw [← Nat.add_sub_assoc (by omega)]; exact h2⟩) (fun h2 => go fun z => h2 z.2)⟩
theorem uy_onB {j : Nat} {post : Int32 → Prop} (hN : w * h ≤ 49) (hj : j < w * h) (H : post 1) : wpY_onBoard post ((nI w), (nI h), lm, fn, ml, pa, bo, na, de, li) (nI j) := by
  unfold wpY_onBoard
  dsimp only
  rw [pk_mul]
  exact br_f (nI_pos (by omega)) (br_f (nI_ge hj (by omega)) H)
theorem uy_onBn {p : Int32} {post : Int32 → Prop} (hp : p < 0 ∨ nI (w * h) ≤ p) (H : post 0) : wpY_onBoard post ((nI w), (nI h), lm, fn, ml, pa, bo, na, de, li) p := by
  unfold wpY_onBoard
  dsimp only
  rw [pk_mul]
  exact br_c (fun _ => H) (fun h1 => br_t (hp.elim (fun z => absurd z h1) id) H)
theorem uy_over {n : Nat} {post : Int32 → Prop} (hn : n ≤ 128) (H1 : ux_Ov ml n → post 1) (H0 : ¬ ux_Ov ml n → post 0) : wpY_over post ((nI w), (nI h), lm, nI n, ml, pa, bo, na, de, li) := by
  unfold wpY_over
  dsimp only
  refine pk_lt n 2 (fun h1 => H0 fun o => by have := o.1; omega) (fun h1 => ?_)
  rw [show nI n - 1 = nI (n - 1) from pk_sub (b := 1) (by omega), show nI n - 2 = nI (n - 2) from pk_sub (b := 2) (by omega), nI_clamp (by omega), nI_clamp (by omega)]
  exact ⟨vp_in_nI (by omega) (by decide), br_c (fun h2 => ⟨vp_in_nI (by omega) (by decide), br_c (fun h3 => H1 ⟨h1, h2, h3⟩) (fun h3 => H0 fun o => h3 o.2.2)⟩) (fun h2 => H0 fun o => h2 o.2.1)⟩
end
/-! the naming: kinds -/
def uy_F (col : Nat → Nat) (k s b : Nat) : Prop := (k = 0 → col b = col s) ∧ (k ≠ 0 → col b ≠ k)
def uy_K (w h : Nat) (col : Nat → Nat) (k p q : Nat) : Prop := ug_R w h (fun b => b < w * h ∧ uy_F col k p b) p q
def uy_NM (w h : Nat) (col : Nat → Nat) (k : Nat) (na : Nat → Int32) : Prop := ∀ p, p < w * h → (¬ uy_F col k p p → na (k * 49 + p) = -1) ∧
  (uy_F col k p p → ∃ m, m < w * h ∧ na (k * 49 + p) = nI m ∧ uy_K w h col k p m ∧ ∀ q, uy_K w h col k p q → m ≤ q ∧ na (k * 49 + q) = nI m)
section
variable {w h : Nat} {col : Nat → Nat} {k p q r b : Nat}
theorem uy_FA (f : uy_F col k p q) : uy_F col k q b ↔ uy_F col k p b := by
  unfold uy_F at f ⊢
  constructor
  · intro z
    exact ⟨fun e => (z.1 e).trans (f.1 e), z.2⟩
  · intro z
    exact ⟨fun e => (z.1 e).trans (f.1 e).symm, z.2⟩
theorem uy_Fq (f : uy_F col k p q) : uy_F col k q q := (uy_FA f).mpr f
theorem uy_Ka (c : uy_K w h col k p q) (hp : p < w * h) (hf : uy_F col k p p) : q < w * h ∧ uy_F col k p q := ug_RA (A := fun b => b < w * h ∧ uy_F col k p b) c ⟨hp, hf⟩
theorem uy_Kc (f : uy_F col k p q) : uy_K w h col k q r ↔ ug_R w h (fun b => b < w * h ∧ uy_F col k p b) q r := ug_Rc fun b => and_congr_right fun _ => uy_FA f
theorem uy_Ky (g : ug_G w h) (c : uy_K w h col k p q) (hp : p < w * h) (hf : uy_F col k p p) : uy_K w h col k q p :=
  (uy_Kc (uy_Ka c hp hf).2).mpr (ug_Ry g (fun x hx => hx.1) c ⟨hp, hf⟩)
theorem uy_Kt (c : uy_K w h col k p q) (hp : p < w * h) (hf : uy_F col k p p) (d : uy_K w h col k q r) : uy_K w h col k p r :=
  ug_Rt c ((uy_Kc (uy_Ka c hp hf).2).mp d)
theorem uy_K0 : uy_K w h col 0 p q ↔ ug_C w h col p q := ug_Rc fun b => and_congr_right fun _ => ⟨fun z => z.1 rfl, fun z => ⟨fun _ => z, fun y => absurd rfl y⟩⟩
theorem uy_KQ (hk : k ≠ 0) : uy_K w h col k p q ↔ ug_Q w h col k p q := ug_Rc fun b => and_congr_right fun _ => ⟨fun z => z.2 hk, fun z => ⟨fun y => absurd y hk, fun _ => z⟩⟩
theorem uy_F0 : uy_F col 0 p p := ⟨fun _ => rfl, fun z => absurd rfl z⟩
theorem uy_Fk (hk : k ≠ 0) : uy_F col k p q ↔ col q ≠ k := ⟨fun z => z.2 hk, fun z => ⟨fun y => absurd y hk, fun _ => z⟩⟩
theorem uy_NMf {na na' : Nat → Int32} (M : uy_NM w h col k na) (e : ∀ q, q < w * h → na' (k * 49 + q) = na (k * 49 + q)) : uy_NM w h col k na' := by
  intro p hp
  obtain ⟨h1, h2⟩ := M p hp
  refine ⟨fun z => by rw [e p hp]; exact h1 z, fun z => ?_⟩
  obtain ⟨m, h3, h4, h5, h6⟩ := h2 z
  refine ⟨m, h3, by rw [e p hp]; exact h4, h5, fun q hq => ⟨(h6 q hq).1, ?_⟩⟩
  rw [e q (uy_Ka hq hp z).1]
  exact (h6 q hq).2
end
end
section
/-! Y: the names are spread -/
/-- what a spread has done so far -/
def uy_SI (w h : Nat) (col : Nat → Nat) (k s : Nat) (na0 na : Nat → Int32) : Prop := ∀ j, na j = na0 j ∨ (na j = nI s ∧ ∃ q, q < w * h ∧ j = k * 49 + q ∧ uy_K w h col k s q)
/-- a point that would grow the set -/
def uy_Gr (w h : Nat) (col : Nat → Nat) (k s : Nat) (na : Nat → Int32) (q : Nat) : Prop := uy_F col k s q ∧ na (k * 49 + q) < 0 ∧ uy_T w h na k q (nI s)
section
variable {w h : Nat} {lm fn : Int32} {ml pa bo na de li : Nat → Int32}
theorem uy_sp98 {post : SY → Prop} {J17 J40 : Int32 → Int32 → (Nat → Int32) → (Nat → Int32) → (Nat → Int32) → (Nat → Int32) → (Nat → Int32) → (Nat → Int32) → Prop} {k s q : Nat} {gr rd z0 : Int32} {Z : Prop} (g : ug_G w h) (hk : k < 3) (hq : q < w * h) (hz : z0 = 0 ↔ ¬ Z)
    (H0 : ¬ (Z ∧ na (k * 49 + q) < 0 ∧ uy_T w h na k q (nI s)) → J40 gr (nI (q + 1)) ml pa bo na de li)
    (H1 : Z ∧ na (k * 49 + q) < 0 ∧ uy_T w h na k q (nI s) → J40 1 (nI (q + 1)) ml pa bo (upd na (k * 49 + q) (nI s)) de li) : wY_spread_98 post J17 J40 (nI k) (nI s) gr rd (nI q) z0 (nI w) (nI h) lm fn ml pa bo na de li := by
  have hN := ug_N g
  unfold wY_spread_98
  rw [uy_ix, nI_clamp (by omega)]
  have hin : vp_in (nI (k * 49 + q)) 147 := vp_in_nI (by omega) (by decide)
  refine ek_if hz (fun h1 => nm_r (nI_1 q) (H0 fun z => h1 z.1)) (fun h1 => ⟨hin, br_c (fun h2 => nm_r (nI_1 q) (H0 fun z => absurd z.2.1 (Int32.not_lt.mpr h2))) (fun h2 => ?_)⟩)
  exact uy_touch g hk hq (fun t => br_f (by decide) ⟨hin, nm_e (nm_r (nI_1 q) (H1 ⟨Classical.not_not.mp h1, Int32.not_le.mp h2, t⟩))⟩) (fun t => br_t rfl (nm_r (nI_1 q) (H0 fun z => t z.2.2)))
theorem uy_sp40s {post : SY → Prop} {J17 : Int32 → Int32 → (Nat → Int32) → (Nat → Int32) → (Nat → Int32) → (Nat → Int32) → (Nat → Int32) → (Nat → Int32) → Prop} {k s q m : Nat} {gr rd : Int32} {col : Nat → Nat} (g : ug_G w h) (hb : ∀ q, q < w * h → bo q = nI (col q)) (hc : ∀ q, col q ≤ 2) (hk : k < 3) (hq : q < w * h) (hs : s < w * h)
    (H0 : ¬ uy_Gr w h col k s na q → wY_spread_40 post J17 (nI k) (nI s) rd (nI w) (nI h) lm fn m gr (nI (q + 1)) ml pa bo na de li)
    (H1 : uy_Gr w h col k s na q → wY_spread_40 post J17 (nI k) (nI s) rd (nI w) (nI h) lm fn m 1 (nI (q + 1)) ml pa bo (upd na (k * 49 + q) (nI s)) de li) : wY_spread_40 post J17 (nI k) (nI s) rd (nI w) (nI h) lm fn (m + 1) gr (nI q) ml pa bo na de li := by
  have hN := ug_N g
  have eq : (nI q).toNatClampNeg = q := nI_clamp (by omega)
  have es : (nI s).toNatClampNeg = s := nI_clamp (by omega)
  have hq2 := hc q
  have hs2 := hc s
  refine br_f (by rw [pk_mul]; exact nI_ge hq (by omega)) ?_
  rw [eq, es, hb q hq, hb s hs]
  refine pk_eq k 0 (fun h1 => ?_) (fun h1 => ?_)
  · refine ⟨pk_in q 49 (by omega), pk_in s 49 (by omega), pk_eq (col q) (col s) (fun h2 => ?_) (fun h2 => ?_)⟩
    · exact uy_sp98 (Z := uy_F col k s q) g hk hq ⟨fun z => absurd z (by decide), fun z => absurd ⟨fun _ => h2, fun y => absurd h1 y⟩ z⟩ H0 H1
    · exact uy_sp98 (Z := uy_F col k s q) g hk hq ⟨fun _ z => h2 (z.1 h1), fun _ => rfl⟩ H0 H1
  · refine ⟨pk_in q 49 (by omega), pk_eq (col q) k (fun h2 => ?_) (fun h2 => ?_)⟩
    · exact uy_sp98 (Z := uy_F col k s q) g hk hq ⟨fun _ z => z.2 h1 h2, fun _ => rfl⟩ H0 H1
    · exact uy_sp98 (Z := uy_F col k s q) g hk hq ⟨fun z => absurd z (by decide), fun z => absurd ⟨fun y => absurd y h1, fun _ => h2⟩ z⟩ H0 H1
theorem uy_sp40 {post : SY → Prop} {J17 : Int32 → Int32 → (Nat → Int32) → (Nat → Int32) → (Nat → Int32) → (Nat → Int32) → (Nat → Int32) → (Nat → Int32) → Prop} {k s rd : Nat} {col : Nat → Nat} {na0 naR : Nat → Int32} (g : ug_G w h) (hb : ∀ q, q < w * h → bo q = nI (col q)) (hc : ∀ q, col q ≤ 2) (hk : k < 3) (hs : s < w * h) (hz2 : ∀ a, a < w * h → na0 (k * 49 + a) ≠ nI s)
    (HJ : ∀ (gr : Int32) (na : Nat → Int32), uy_SI w h col k s na0 na → na (k * 49 + s) = nI s → ((gr = 0 ∧ na = naR ∧ ∀ q, q < w * h → ¬ uy_Gr w h col k s na q) ∨ (gr = 1 ∧ cn (fun q => naR (k * 49 + q) = nI s) (w * h) < cn (fun q => na (k * 49 + q) = nI s) (w * h))) → J17 gr (nI (rd + 1)) ml pa bo na de li) :
    ∀ (m q : Nat) (gr : Int32) (na : Nat → Int32), q ≤ w * h → w * h - q < m → uy_SI w h col k s na0 na → na (k * 49 + s) = nI s → ((gr = 0 ∧ na = naR ∧ ∀ z, z < q → ¬ uy_Gr w h col k s na z) ∨ (gr = 1 ∧ cn (fun q => naR (k * 49 + q) = nI s) (w * h) < cn (fun q => na (k * 49 + q) = nI s) (w * h))) →
      wY_spread_40 post J17 (nI k) (nI s) (nI rd) (nI w) (nI h) lm fn m gr (nI q) ml pa bo na de li := by
  intro m
  have hN := ug_N g
  induction m with
  | zero => intro q gr na _ h2; omega
  | succ m ih =>
    intro q gr na h1 h2 h3 h4 h5
    rcases Nat.lt_or_ge q (w * h) with hq | hq
    · refine uy_sp40s g hb hc hk hq hs (fun h6 => ih (q + 1) gr na (by omega) (by omega) h3 h4 ?_) (fun h6 => ih (q + 1) 1 _ (by omega) (by omega) ?_ ?_ (Or.inr ⟨rfl, ?_⟩))
      · refine h5.elim (fun z => Or.inl ⟨z.1, z.2.1, fun y hy => ?_⟩) Or.inr
        rcases Nat.lt_or_ge y q with x | x
        · exact z.2.2 y x
        · have e : y = q := by omega
          rw [e]; exact h6
      · intro j
        rcases Classical.em (j = k * 49 + q) with e | e
        · right
          refine ⟨by rw [e, pk_us], q, hq, e, ?_⟩
          obtain ⟨f1, f2, a, f3, f4⟩ := h6
          have ha := ug_alt g hq f3
          rcases h3 (k * 49 + a) with z | ⟨_, q', z1, z2, z3⟩
          · exact absurd (z.symm.trans f4) (hz2 a ha)
          · have e2 : a = q' := by omega
            subst e2
            exact ug_Rs z3 ⟨hq, f1⟩ (ug_as g hq f3)
        · rw [pk_un e]; exact h3 j
      · rcases Classical.em (s = q) with e | e
        · rw [e, pk_us]
        · rw [pk_un (by omega)]; exact h4
      · have hlt := cn_lt (P := fun z => na (k * 49 + z) = nI s) (Q := fun z => upd na (k * 49 + q) (nI s) (k * 49 + z) = nI s) (a := q) (fun z => absurd h6.2.1 (by rw [z]; exact nI_pos (by omega))) pk_us (N := w * h) (fun z _ hz => by
          rcases Classical.em (z = q) with e | e
          · rw [e, pk_us]
          · rw [pk_un (by omega)]; exact hz) hq
        rcases h5 with z | z
        · rw [z.2.1] at hlt
          rw [z.2.1]; exact hlt
        · exact Nat.lt_trans z.2 hlt
    · have e : q = w * h := by omega
      subst e
      refine br_t (by rw [pk_mul]; exact nI_le (Nat.le_refl _) (by omega)) (nm_r (nI_1 rd) (HJ gr na h3 h4 h5))
theorem uy_spcl {k s : Nat} {col : Nat → Nat} {na0 : Nat → Int32} (g : ug_G w h) (hs : s < w * h) (hf : uy_F col k s s) (hz1 : ∀ q, uy_K w h col k s q → na0 (k * 49 + q) = -1) (S : uy_SI w h col k s na0 na) (h1 : na (k * 49 + s) = nI s) (hcl : ∀ q, q < w * h → ¬ uy_Gr w h col k s na q) : ∀ q, uy_K w h col k s q → na (k * 49 + q) = nI s := by
  intro q hq
  refine ug_Ri (P := fun z => na (k * 49 + z) = nI s) hq h1 (fun a b ha pa hb hd => ?_)
  rcases S (k * 49 + b) with z | z
  · exfalso
    refine hcl b hb.1 ⟨hb.2, ?_, a, ug_as g (uy_Ka ha hs hf).1 hd, pa⟩
    rw [z, hz1 b (ug_Rs ha hb hd)]
    decide
  · exact z.1
theorem uy_sp17 {post : SY → Prop} {k s : Nat} {col : Nat → Nat} {na0 : Nat → Int32} (g : ug_G w h) (hb : ∀ q, q < w * h → bo q = nI (col q)) (hc : ∀ q, col q ≤ 2) (hk : k < 3) (hs : s < w * h) (hf : uy_F col k s s) (hz1 : ∀ q, uy_K w h col k s q → na0 (k * 49 + q) = -1) (hz2 : ∀ a, a < w * h → na0 (k * 49 + a) ≠ nI s)
    (H : ∀ na', (∀ q, uy_K w h col k s q → na' (k * 49 + q) = nI s) → uy_SI w h col k s na0 na' → post ((nI w), (nI h), lm, fn, ml, pa, bo, na', de, li)) :
    ∀ (m rd : Nat) (gr : Int32) (na : Nat → Int32), w * h - rd < m → rd ≤ w * h → uy_SI w h col k s na0 na → na (k * 49 + s) = nI s → ((gr = 0 ∧ ∀ q, q < w * h → ¬ uy_Gr w h col k s na q) ∨ (gr = 1 ∧ rd ≤ cn (fun q => na (k * 49 + q) = nI s) (w * h))) →
      wY_spread_17 post (nI k) (nI s) (nI w) (nI h) lm fn m gr (nI rd) ml pa bo na de li := by
  intro m
  have hN := ug_N g
  induction m with
  | zero => intro rd gr na h1; omega
  | succ m ih =>
    intro rd gr na h1 h2 h3 h4 h5
    rcases h5 with ⟨e, h5⟩ | ⟨e, h5⟩
    · subst e
      exact br_t rfl (H na (uy_spcl g hs hf hz1 h3 h4 h5) h3)
    · subst e
      refine br_f (by decide) ?_
      rw [pk_mul]
      refine pk_le (w * h) rd (fun h6 => ?_) (fun h6 => ⟨w * h + 1, ?_⟩)
      · exact H na (fun q hq => cn_all (P := fun q => na (k * 49 + q) = nI s) (by omega) q (uy_Ka hq hs hf).1) h3
      · refine uy_sp40 (naR := na) (na0 := na0) g hb hc hk hs hz2 (fun gr' na' k1 k2 k3 => ih (rd + 1) gr' na' (by omega) (by omega) k1 k2 ?_) (w * h + 1) 0 0 na (by omega) (by omega) h3 h4 (Or.inl ⟨rfl, rfl, fun z hz => by omega⟩)
        exact k3.elim (fun z => Or.inl ⟨z.1, z.2.2⟩) (fun z => Or.inr ⟨z.1, by omega⟩)
theorem uy_spread {post : SY → Prop} {k s : Nat} {col : Nat → Nat} (g : ug_G w h) (hb : ∀ q, q < w * h → bo q = nI (col q)) (hc : ∀ q, col q ≤ 2) (hk : k < 3) (hs : s < w * h) (hf : uy_F col k s s) (hz1 : ∀ q, uy_K w h col k s q → na (k * 49 + q) = -1) (hz2 : ∀ a, a < w * h → na (k * 49 + a) ≠ nI s)
    (H : ∀ na', (∀ q, uy_K w h col k s q → na' (k * 49 + q) = nI s) → uy_SI w h col k s na na' → post ((nI w), (nI h), lm, fn, ml, pa, bo, na', de, li)) : wpY_spread post ((nI w), (nI h), lm, fn, ml, pa, bo, na, de, li) (nI k) (nI s) := by
  have hN := ug_N g
  unfold wpY_spread
  dsimp only
  rw [uy_ix, nI_clamp (by omega)]
  refine ⟨vp_in_nI (by omega) (by decide), nm_e ⟨w * h + 1, ?_⟩⟩
  refine uy_sp17 (na0 := na) g hb hc hk hs hf hz1 hz2 H (w * h + 1) 0 1 _ (by omega) (by omega) (fun j => ?_) pk_us (Or.inr ⟨rfl, Nat.zero_le _⟩)
  rcases Classical.em (j = k * 49 + s) with e | e
  · right
    exact ⟨by rw [e, pk_us], s, hs, e, ug_Rr⟩
  · left
    exact pk_un e
/-- the names so far -/
def uy_NI (w h : Nat) (col : Nat → Nat) (k : Nat) (naS : Nat → Int32) (p : Nat) (na : Nat → Int32) : Prop :=
  (∀ j, (∀ q, q < w * h → j ≠ k * 49 + q) → na j = naS j) ∧
  ∀ q, q < w * h → (na (k * 49 + q) = -1 ∨ (uy_F col k q q ∧ ∃ m, m < p ∧ na (k * 49 + q) = nI m ∧ uy_K w h col k q m ∧ ∀ z, uy_K w h col k q z → m ≤ z ∧ na (k * 49 + z) = nI m)) ∧ (q < p → uy_F col k q q → na (k * 49 + q) ≠ -1)
theorem uy_m1n {m : Nat} (hm : m < 2 ^ 31) : nI m ≠ -1 := by
  intro e
  have := nI_pos' hm
  rw [e] at this
  exact absurd this (by decide)
theorem uy_NIskip {k p : Nat} {col : Nat → Nat} {naS : Nat → Int32} (I : uy_NI w h col k naS p na) (hp : uy_F col k p p → na (k * 49 + p) ≠ -1) : uy_NI w h col k naS (p + 1) na := by
  refine ⟨I.1, fun q hq => ⟨?_, fun h1 h2 => ?_⟩⟩
  · rcases (I.2 q hq).1 with z | ⟨z1, m, z2, z3⟩
    · exact Or.inl z
    · exact Or.inr ⟨z1, m, by omega, z3⟩
  · rcases Nat.lt_or_ge q p with z | z
    · exact (I.2 q hq).2 z h2
    · have e : q = p := by omega
      subst e
      exact hp h2
theorem uy_NIsp {k p : Nat} {col : Nat → Nat} {naS na' : Nat → Int32} (g : ug_G w h) (hp : p < w * h) (hf : uy_F col k p p) (I : uy_NI w h col k naS p na) (h0 : na (k * 49 + p) < 0) :
    (∀ q, uy_K w h col k p q → na (k * 49 + q) = -1) ∧ (∀ a, a < w * h → na (k * 49 + a) ≠ nI p) ∧
    ((∀ q, uy_K w h col k p q → na' (k * 49 + q) = nI p) → uy_SI w h col k p na na' → uy_NI w h col k naS (p + 1) na') := by
  have hN := ug_N g
  have z1 : ∀ q, uy_K w h col k p q → na (k * 49 + q) = -1 := by
    intro q hq
    have hq2 := uy_Ka hq hp hf
    rcases (I.2 q hq2.1).1 with z | ⟨y1, m, y2, y3, y4, y5⟩
    · exact z
    · have := (y5 p (uy_Ky g hq hp hf)).2
      rw [this] at h0
      exact absurd h0 (nI_pos (by omega))
  have z2 : ∀ a, a < w * h → na (k * 49 + a) ≠ nI p := by
    intro a ha e
    rcases (I.2 a ha).1 with z | ⟨y1, m, y2, y3, y4, y5⟩
    · rw [e] at z
      exact uy_m1n (by omega) z
    · rw [e, nI_eq (by omega) (by omega)] at y3
      omega
  refine ⟨z1, z2, fun h1 S => ⟨fun j hj => ?_, fun q hq => ?_⟩⟩
  · rcases S j with z | ⟨_, q, y1, y2, _⟩
    · rw [z]; exact I.1 j hj
    · exact absurd y2 (hj q y1)
  · rcases Classical.em (uy_K w h col k p q) with c | c
    · have hq2 := uy_Ka c hp hf
      refine ⟨Or.inr ⟨uy_Fq hq2.2, p, by omega, h1 q c, uy_Ky g c hp hf, fun z hz => ?_⟩, fun _ _ => by rw [h1 q c]; exact uy_m1n (by omega)⟩
      have hz2 := uy_Kt c hp hf hz
      refine ⟨?_, h1 z hz2⟩
      rcases Nat.lt_or_ge z p with y | y
      · have hz3 := uy_Ka hz2 hp hf
        exact absurd (z1 z hz2) ((I.2 z hz3.1).2 y (uy_Fq hz3.2))
      · exact y
    · have keep : ∀ z, z < w * h → ¬ uy_K w h col k p z → na' (k * 49 + z) = na (k * 49 + z) := by
        intro z hz hc
        rcases S (k * 49 + z) with y | ⟨_, q', y1, y2, y3⟩
        · exact y
        · have e : z = q' := by omega
          subst e
          exact absurd y3 hc
      have eq := keep q hq c
      rw [eq]
      refine ⟨?_, fun h2 h3 => ?_⟩
      · rcases (I.2 q hq).1 with z | ⟨y1, m, y2, y3, y4, y5⟩
        · exact Or.inl z
        · refine Or.inr ⟨y1, m, by omega, y3, y4, fun z hz => ⟨(y5 z hz).1, ?_⟩⟩
          have hz2 := uy_Ka hz hq y1
          rw [keep z hz2.1 (fun d => c (uy_Kt d hp hf (uy_Ky g hz hq y1)))]
          exact (y5 z hz).2
      · rcases Nat.lt_or_ge q p with z | z
        · exact (I.2 q hq).2 z h3
        · have e : q = p := by omega
          subst e
          exact absurd ug_Rr c
theorem uy_ns35 {post : SY → Prop} {k : Nat} {col : Nat → Nat} {naS : Nat → Int32} (g : ug_G w h) (hb : ∀ q, q < w * h → bo q = nI (col q)) (hc : ∀ q, col q ≤ 2) (hk : k < 3)
    (H : ∀ na', uy_NM w h col k na' → (∀ j, (∀ q, q < w * h → j ≠ k * 49 + q) → na' j = naS j) → post ((nI w), (nI h), lm, fn, ml, pa, bo, na', de, li)) :
    ∀ (m p : Nat) (na : Nat → Int32), w * h - p < m → p ≤ w * h → uy_NI w h col k naS p na → wY_nameSets_35 post (nI k) m (nI p) (nI w) (nI h) lm fn ml pa bo na de li := by
  intro m
  have hN := ug_N g
  induction m with
  | zero => intro p na h1; omega
  | succ m ih =>
    intro p na h1 h2 I
    rcases Nat.lt_or_ge p (w * h) with hp | hp
    · refine br_f (by rw [pk_mul]; exact nI_ge hp (by omega)) ?_
      have ep : (nI p).toNatClampNeg = p := nI_clamp (by omega)
      have hcp := hc p
      rw [uy_ix, nI_clamp (by omega), ep, hb p hp]
      have sp : uy_F col k p p → na (k * 49 + p) < 0 → wY_nameSets_76 post (wY_nameSets_35 post (nI k) m) (nI k) (nI p) (nI w) (nI h) lm fn ml pa bo na de li := by
        intro hf h0
        have hh := fun na' => uy_NIsp (na' := na') g hp hf I h0
        unfold wY_nameSets_76
        refine uy_spread g hb hc hk hp hf (hh na).1 (hh na).2.1 (fun na' k1 k2 => ?_)
        exact nm_r (nI_1 p) (ih (p + 1) na' (by omega) (by omega) ((hh na').2.2 k1 k2))
      refine ⟨vp_in_nI (by omega) (by decide), br_c (fun h3 => nm_r (nI_1 p) (ih (p + 1) na (by omega) (by omega) (uy_NIskip I fun _ e => ?_))) (fun h3 => ?_)⟩
      · rw [e] at h3
        exact absurd h3 (by decide)
      · refine pk_eq k 0 (fun h4 => ?_) (fun h4 => ⟨pk_in p 49 (by omega), pk_eq (col p) k (fun h5 => ?_) (fun h5 => ?_)⟩)
        · exact sp (by rw [h4]; exact uy_F0) (Int32.not_le.mp h3)
        · exact nm_r (nI_1 p) (ih (p + 1) na (by omega) (by omega) (uy_NIskip I fun hf => absurd h5 (hf.2 h4)))
        · exact sp ((uy_Fk h4).mpr h5) (Int32.not_le.mp h3)
    · have e : p = w * h := by omega
      subst e
      refine br_t (by rw [pk_mul]; exact nI_le (Nat.le_refl _) (by omega)) (H na (fun q hq => ⟨fun hf => ?_, fun hf => ?_⟩) I.1)
      · rcases (I.2 q hq).1 with z | ⟨y1, _⟩
        · exact z
        · exact absurd y1 hf
      · rcases (I.2 q hq).1 with z | ⟨y1, m, y2, y3, y4, y5⟩
        · exact absurd z ((I.2 q hq).2 hq hf)
        · exact ⟨m, y2, y3, y4, y5⟩
theorem uy_ns2 {post : SY → Prop} {k : Nat} {col : Nat → Nat} {naS : Nat → Int32} (g : ug_G w h) (hb : ∀ q, q < w * h → bo q = nI (col q)) (hc : ∀ q, col q ≤ 2) (hk : k < 3)
    (H : ∀ na', uy_NM w h col k na' → (∀ j, (∀ q, q < w * h → j ≠ k * 49 + q) → na' j = naS j) → post ((nI w), (nI h), lm, fn, ml, pa, bo, na', de, li)) :
    ∀ (m p : Nat) (na : Nat → Int32), w * h - p < m → p ≤ w * h → (∀ j, (∀ q, q < w * h → j ≠ k * 49 + q) → na j = naS j) → (∀ q, q < p → na (k * 49 + q) = -1) → wY_nameSets_2 post (nI k) (nI w) (nI h) lm fn m (nI p) ml pa bo na de li := by
  intro m
  have hN := ug_N g
  induction m with
  | zero => intro p na h1; omega
  | succ m ih =>
    intro p na h1 h2 h3 h4
    rcases Nat.lt_or_ge p (w * h) with hp | hp
    · refine br_f (by rw [pk_mul]; exact nI_ge hp (by omega)) ?_
      rw [uy_ix, nI_clamp (by omega)]
      refine ⟨vp_in_nI (by omega) (by decide), nm_e (nm_r (nI_1 p) (ih (p + 1) _ (by omega) (by omega) (fun j hj => ?_) (fun q hq => ?_)))⟩
      · rw [pk_un (hj p hp)]; exact h3 j hj
      · rcases Nat.lt_or_ge q p with z | z
        · rw [pk_un (by omega)]; exact h4 q z
        · have e : q = p := by omega
          subst e
          exact pk_us
    · have e : p = w * h := by omega
      subst e
      refine br_t (by rw [pk_mul]; exact nI_le (Nat.le_refl _) (by omega)) ⟨w * h + 1, ?_⟩
      exact uy_ns35 g hb hc hk H (w * h + 1) 0 na (by omega) (by omega) ⟨h3, fun q hq => ⟨Or.inl (h4 q hq), fun z => by omega⟩⟩
theorem uy_names {post : SY → Prop} {k : Nat} {col : Nat → Nat} (g : ug_G w h) (hb : ∀ q, q < w * h → bo q = nI (col q)) (hc : ∀ q, col q ≤ 2) (hk : k < 3)
    (H : ∀ na', uy_NM w h col k na' → (∀ j, (∀ q, q < w * h → j ≠ k * 49 + q) → na' j = na j) → post ((nI w), (nI h), lm, fn, ml, pa, bo, na', de, li)) : wpY_nameSets post ((nI w), (nI h), lm, fn, ml, pa, bo, na, de, li) (nI k) :=
  ⟨w * h + 1, uy_ns2 g hb hc hk H (w * h + 1) 0 na (by omega) (by omega) (fun _ _ => rfl) (fun q hq => by omega)⟩
theorem uy_ld43 {post : SY → Prop} {col : Nat → Nat} (g : ug_G w h) (hb : ∀ q, q < w * h → bo q = nI (col q)) (hc : ∀ q, col q ≤ 2) (H : ∀ na', (∀ k, k < 3 → uy_NM w h col k na') → post ((nI w), (nI h), lm, fn, ml, pa, bo, na', de, li)) :
    ∀ (m k : Nat) (na : Nat → Int32), 3 - k < m → k ≤ 3 → (∀ j, j < k → uy_NM w h col j na) → wY_load_43 post m (nI k) (nI w) (nI h) lm fn ml pa bo na de li := by
  intro m
  have hN := ug_N g
  induction m with
  | zero => intro k na h1; omega
  | succ m ih =>
    intro k na h1 h2 h3
    refine pk_le 3 k (fun h4 => ?_) (fun h4 => ?_)
    · have e : k = 3 := by omega
      subst e
      exact H na h3
    · refine uy_names g hb hc h4 (fun na' k1 k2 => nm_r (nI_1 k) (ih (k + 1) na' (by omega) (by omega) (fun j hj => ?_)))
      rcases Nat.lt_or_ge j k with z | z
      · exact uy_NMf (h3 j z) (fun q hq => k2 _ (fun q' hq' => by omega))
      · have e : j = k := by omega
        subst e
        exact k1
theorem uy_ld2 {post : SY → Prop} {n : Nat} {col : Nat → Nat} (g : ug_G w h) (hn : n ≤ 128) (hp : ∀ q, q < w * h → pa (n * 49 + q) = nI (col q)) (hc : ∀ q, col q ≤ 2) (H : ∀ bo' na', (∀ q, q < w * h → bo' q = nI (col q)) → (∀ k, k < 3 → uy_NM w h col k na') → post ((nI w), (nI h), lm, nI n, ml, pa, bo', na', de, li)) :
    ∀ (m p : Nat) (bo : Nat → Int32), w * h - p < m → p ≤ w * h → (∀ q, q < p → bo q = nI (col q)) → wY_load_2 post (nI w) (nI h) lm (nI n) m (nI p) ml pa bo na de li := by
  intro m
  have hN := ug_N g
  induction m with
  | zero => intro p na h1; omega
  | succ m ih =>
    intro p bo h1 h2 h3
    rcases Nat.lt_or_ge p (w * h) with hq | hq
    · refine br_f (by rw [pk_mul]; exact nI_ge hq (by omega)) ?_
      rw [uy_ix, nI_clamp (by omega), nI_clamp (by omega), hp p hq]
      refine ⟨vp_in_nI (by omega) (by decide), vp_in_nI (by omega) (by decide), nm_e (nm_r (nI_1 p) (ih (p + 1) _ (by omega) (by omega) (fun q hq => ?_)))⟩
      rcases Nat.lt_or_ge q p with z | z
      · rw [pk_un (by omega)]; exact h3 q z
      · have e : q = p := by omega
        subst e
        exact pk_us
    · have e : p = w * h := by omega
      subst e
      refine br_t (by rw [pk_mul]; exact nI_le (Nat.le_refl _) (by omega)) ⟨4, ?_⟩
      exact uy_ld43 g h3 hc (fun na' k1 => H bo na' h3 k1) 4 0 na (by omega) (by omega) (fun j hj => by omega)
theorem uy_load {post : SY → Prop} {n : Nat} {col : Nat → Nat} (g : ug_G w h) (hn : n ≤ 128) (hp : ∀ q, q < w * h → pa (n * 49 + q) = nI (col q)) (hc : ∀ q, col q ≤ 2) (H : ∀ bo' na', (∀ q, q < w * h → bo' q = nI (col q)) → (∀ k, k < 3 → uy_NM w h col k na') → post ((nI w), (nI h), lm, nI n, ml, pa, bo', na', de, li)) : wpY_load post ((nI w), (nI h), lm, nI n, ml, pa, bo, na, de, li) :=
  ⟨w * h + 1, uy_ld2 g hn hp hc H (w * h + 1) 0 bo (by omega) (by omega) (fun q hq => by omega)⟩
end
end
section
/-! Y: what the names tell -/
section
variable {w h : Nat} {col : Nat → Nat} {na : Nat → Int32} {k p q r m : Nat}
theorem uy_N0 (M : uy_NM w h col 0 na) (hp : p < w * h) : ∃ m, m < w * h ∧ na p = nI m ∧ ug_C w h col p m ∧ ∀ q, ug_C w h col p q → m ≤ q ∧ na q = nI m := by
  obtain ⟨m, h1, h2, h3, h4⟩ := (M p hp).2 uy_F0
  have z : ∀ x, 0 * 49 + x = x := fun x => by omega
  refine ⟨m, h1, by rw [z] at h2; exact h2, uy_K0.mp h3, fun q hq => ?_⟩
  have := h4 q (uy_K0.mpr hq)
  rw [z] at this
  exact this
theorem uy_Nk (hk : k ≠ 0) (M : uy_NM w h col k na) (hp : p < w * h) : (col p = k → na (k * 49 + p) = -1) ∧ (col p ≠ k → ∃ m, m < w * h ∧ na (k * 49 + p) = nI m ∧ ug_Q w h col k p m ∧ ∀ q, ug_Q w h col k p q → m ≤ q ∧ na (k * 49 + q) = nI m) := by
  refine ⟨fun e => (M p hp).1 (fun f => (uy_Fk hk).mp f e), fun e => ?_⟩
  obtain ⟨m, h1, h2, h3, h4⟩ := (M p hp).2 ((uy_Fk hk).mpr e)
  exact ⟨m, h1, h2, (uy_KQ hk).mp h3, fun q hq => h4 q ((uy_KQ hk).mpr hq)⟩
/-- a chain's name -/
theorem uy_n0 (g : ug_G w h) (M : uy_NM w h col 0 na) (hp : p < w * h) (hm : m < w * h) (hr : na m = nI m) : na p = nI m ↔ ug_C w h col m p := by
  have hN := ug_N g
  constructor
  · intro e
    obtain ⟨m', h1, h2, h3, h4⟩ := uy_N0 M hp
    rw [e, nI_eq (by omega) (by omega)] at h2
    subst h2
    exact ug_Cy g h3 hp
  · intro c
    obtain ⟨m', h1, h2, h3, h4⟩ := uy_N0 M hm
    rw [hr, nI_eq (by omega) (by omega)] at h2
    subst h2
    exact (h4 p c).2
theorem uy_T0 (g : ug_G w h) (M : uy_NM w h col 0 na) (hq : q < w * h) (hm : m < w * h) (hr : na m = nI m) : uy_T w h na 0 q (nI m) ↔ ∃ a, ug_C w h col m a ∧ ug_ad w h q a := by
  have z : ∀ x, 0 * 49 + x = x := fun x => by omega
  constructor
  · intro ⟨a, h1, h2⟩
    rw [z] at h2
    exact ⟨a, (uy_n0 g M (ug_alt g hq h1) hm hr).mp h2, h1⟩
  · intro ⟨a, h1, h2⟩
    refine ⟨a, h2, ?_⟩
    rw [z]
    exact (uy_n0 g M (ug_alt g hq h2) hm hr).mpr h1
theorem uy_rep (g : ug_G w h) (hk : k ≠ 0) (M : uy_NM w h col k na) (hr : r < w * h) : na (k * 49 + r) = nI r ↔ ug_Ls w h col k r := by
  have hN := ug_N g
  obtain ⟨h1, h2⟩ := uy_Nk hk M hr
  constructor
  · intro e
    have hc : col r ≠ k := fun c => by
      have := h1 c
      rw [e] at this
      exact uy_m1n (by omega) this
    obtain ⟨m, h3, h4, h5, h6⟩ := h2 hc
    rw [e, nI_eq (by omega) (by omega)] at h4
    subst h4
    exact ⟨hr, hc, fun q hq => (h6 q hq).1⟩
  · intro l
    obtain ⟨m, h3, h4, h5, h6⟩ := h2 l.2.1
    have := l.2.2 m h5
    have := (h6 r ug_Qr).1
    have e : m = r := by omega
    rw [h4, e]
theorem uy_mem (g : ug_G w h) (hk : k ≠ 0) (M : uy_NM w h col k na) (l : ug_Ls w h col k r) (hq : q < w * h) : na (k * 49 + q) = nI r ↔ ug_Q w h col k r q := by
  have hN := ug_N g
  have hr := l.1
  have e := (uy_rep g hk M hr).mpr l
  obtain ⟨m, h3, h4, h5, h6⟩ := (uy_Nk hk M hr).2 l.2.1
  rw [e, nI_eq (by omega) (by omega)] at h4
  subst h4
  constructor
  · intro e2
    obtain ⟨h1, h2⟩ := uy_Nk hk M hq
    have hc : col q ≠ k := fun c => by
      have := h1 c
      rw [e2] at this
      exact uy_m1n (by omega) this
    obtain ⟨m, h7, h8, h9, _⟩ := h2 hc
    rw [e2, nI_eq (by omega) (by omega)] at h8
    subst h8
    exact ug_Qy g h9 hq hc
  · intro c
    exact (h6 q c).2
theorem uy_Tk (g : ug_G w h) (hk : k ≠ 0) (M : uy_NM w h col k na) (l : ug_Ls w h col k r) (hq : q < w * h) : uy_T w h na k q (nI r) ↔ ∃ b, ug_Q w h col k r b ∧ ug_ad w h q b := by
  constructor
  · intro ⟨a, h1, h2⟩
    exact ⟨a, (uy_mem g hk M l (ug_alt g hq h1)).mp h2, h1⟩
  · intro ⟨a, h1, h2⟩
    exact ⟨a, h2, (uy_mem g hk M l (ug_alt g hq h2)).mpr h1⟩
end
section
variable {w h : Nat} {lm fn : Int32} {ml pa bo na de li : Nat → Int32}
theorem uy_lib4 {post : Int32 → Prop} {m0 : Nat} {col : Nat → Nat} (g : ug_G w h) (hb : ∀ q, q < w * h → bo q = nI (col q)) (hc : ∀ q, col q ≤ 2) (M : uy_NM w h col 0 na) (hm : m0 < w * h) (hr : na m0 = nI m0) (H : post (nI (ug_ln w h col m0))) :
    ∀ (m q : Nat), w * h - q < m → q ≤ w * h → wY_libertiesOf_4 post (nI m0) (nI w) (nI h) lm fn ml pa bo na de li m (nI (cn (ug_Li w h col m0) q)) (nI q) := by
  intro m
  have hN := ug_N g
  induction m with
  | zero => intro q h1; omega
  | succ m ih =>
    intro q h1 h2
    rcases Nat.lt_or_ge q (w * h) with hq | hq
    · refine br_f (by rw [pk_mul]; exact nI_ge hq (by omega)) ?_
      have hcq := hc q
      have ih2 := ih (q + 1) (by omega) (by omega)
      have T := uy_T0 g M hq hm hr
      rw [cn_S] at ih2
      rw [nI_clamp (by omega), hb q hq]
      refine ⟨pk_in q 49 (by omega), pk_eq (col q) 0 (fun h3 => ?_) (fun h3 => ?_)⟩
      · refine uy_touch (k := 0) g (by omega) hq (fun t => br_f (by decide) ?_) (fun t => br_t rfl ?_)
        · rw [b01_t ⟨hq, h3, T.mp t⟩] at ih2
          exact nm_r (nI_1 _) (nm_r (nI_1 q) ih2)
        · rw [b01_f (fun z => t (T.mpr z.2.2))] at ih2
          exact nm_r (nI_1 q) ih2
      · rw [b01_f (fun z => h3 z.2.1)] at ih2
        exact nm_r (nI_1 q) ih2
    · have e : q = w * h := by omega
      subst e
      exact br_t (by rw [pk_mul]; exact nI_le (Nat.le_refl _) (by omega)) H
theorem uy_lib {post : Int32 → Prop} {m0 : Nat} {col : Nat → Nat} (g : ug_G w h) (hb : ∀ q, q < w * h → bo q = nI (col q)) (hc : ∀ q, col q ≤ 2) (M : uy_NM w h col 0 na) (hm : m0 < w * h) (hr : na m0 = nI m0) (H : post (nI (ug_ln w h col m0))) : wpY_libertiesOf post ((nI w), (nI h), lm, fn, ml, pa, bo, na, de, li) (nI m0) :=
  ⟨w * h + 1, uy_lib4 g hb hc M hm hr H (w * h + 1) 0 (by omega) (by omega)⟩
/-- by any stone of the chain -/
theorem uy_libp {post : Int32 → Prop} {p : Nat} {col : Nat → Nat} (g : ug_G w h) (hb : ∀ q, q < w * h → bo q = nI (col q)) (hc : ∀ q, col q ≤ 2) (M : uy_NM w h col 0 na) (hp : p < w * h) (H : post (nI (ug_ln w h col p))) : wpY_libertiesOf post ((nI w), (nI h), lm, fn, ml, pa, bo, na, de, li) (na p) := by
  obtain ⟨m, h1, h2, h3, h4⟩ := uy_N0 M hp
  rw [h2]
  refine uy_lib g hb hc M h1 (h4 m h3).2 ?_
  rw [← ug_lnC g hp h3]
  exact H
/-- it has an empty point -/
def uy_Em (w h : Nat) (col : Nat → Nat) (k r : Nat) : Prop := ∃ q, ug_Q w h col k r q ∧ col q = 0
theorem uy_vt65 {post : Int32 → Prop} {k r : Nat} {col : Nat → Nat} (g : ug_G w h) (hb : ∀ q, q < w * h → bo q = nI (col q)) (hc : ∀ q, col q ≤ 2) (hk : k = 1 ∨ k = 2) (M : uy_NM w h col k na) (l : ug_Ls w h col k r) (H1 : uy_Em w h col k r → post 1) (H0 : ¬ uy_Em w h col k r → post 0) :
    ∀ (m q : Nat), w * h - q < m → q ≤ w * h → (∀ z, z < q → ¬ (ug_Q w h col k r z ∧ col z = 0)) → wY_vitalTo_65 post (nI k) (nI r) (nI w) (nI h) lm fn ml pa bo na de li m (nI q) := by
  intro m
  have hN := ug_N g
  have hr := l.1
  induction m with
  | zero => intro q h1; omega
  | succ m ih =>
    intro q h1 h2 h3
    rcases Nat.lt_or_ge q (w * h) with hq | hq
    · refine br_f (by rw [pk_mul]; exact nI_ge hq (by omega)) ?_
      have hcq := hc q
      have go : ¬ (ug_Q w h col k r q ∧ col q = 0) → wY_vitalTo_65 post (nI k) (nI r) (nI w) (nI h) lm fn ml pa bo na de li m (nI (q + 1)) := fun hn => ih (q + 1) (by omega) (by omega) (fun z hz => by
        rcases Nat.lt_or_ge z q with y | y
        · exact h3 z y
        · have e : z = q := by omega
          rw [e]; exact hn)
      rw [uy_ix, nI_clamp (by omega), nI_clamp (by omega), hb q hq]
      refine ⟨vp_in_nI (by omega) (by decide), ek_if (uy_mem g (by omega) M l hq) (fun h4 => ⟨pk_in q 49 (by omega), pk_eq (col q) 0 (fun h5 => H1 ⟨q, h4, h5⟩) (fun h5 => nm_r (nI_1 q) (go fun z => h5 z.2))⟩) (fun h4 => nm_r (nI_1 q) (go fun z => h4 z.1))⟩
    · have e : q = w * h := by omega
      subst e
      exact br_t (by rw [pk_mul]; exact nI_le (Nat.le_refl _) (by omega)) (H0 fun ⟨q, z1, z2⟩ => h3 q (ug_Qa z1 l.1 l.2.1).1 ⟨z1, z2⟩)
theorem uy_vt3 {post : Int32 → Prop} {k r m0 : Nat} {col : Nat → Nat} (g : ug_G w h) (hb : ∀ q, q < w * h → bo q = nI (col q)) (hc : ∀ q, col q ≤ 2) (hk : k = 1 ∨ k = 2) (M0 : uy_NM w h col 0 na) (M : uy_NM w h col k na) (l : ug_Ls w h col k r) (hm : m0 < w * h) (hr : na m0 = nI m0) (H1 : ug_V w h col k r m0 → post 1) (H0 : ¬ ug_V w h col k r m0 → post 0) :
    ∀ (m q : Nat), w * h - q < m → q ≤ w * h → (∀ z, z < q → ug_Q w h col k r z → col z = 0 → ug_Li w h col m0 z) → wY_vitalTo_3 post (nI k) (nI r) (nI m0) (nI w) (nI h) lm fn ml pa bo na de li m (nI q) := by
  intro m
  have hN := ug_N g
  have hrl := l.1
  induction m with
  | zero => intro q h1; omega
  | succ m ih =>
    intro q h1 h2 h3
    rcases Nat.lt_or_ge q (w * h) with hq | hq
    · refine br_f (by rw [pk_mul]; exact nI_ge hq (by omega)) ?_
      have hcq := hc q
      have go : (ug_Q w h col k r q → col q = 0 → ug_Li w h col m0 q) → wY_vitalTo_3 post (nI k) (nI r) (nI m0) (nI w) (nI h) lm fn ml pa bo na de li m (nI (q + 1)) := fun hn => ih (q + 1) (by omega) (by omega) (fun z hz => by
        rcases Nat.lt_or_ge z q with y | y
        · exact h3 z y
        · have e : z = q := by omega
          rw [e]; exact hn)
      have T := uy_T0 g M0 hq hm hr
      rw [uy_ix, nI_clamp (by omega), nI_clamp (by omega), hb q hq]
      refine ⟨vp_in_nI (by omega) (by decide), ek_if (uy_mem g (by omega) M l hq) (fun h4 => ⟨pk_in q 49 (by omega), pk_eq (col q) 0 (fun h5 => ?_) (fun h5 => nm_r (nI_1 q) (go fun _ z => absurd z h5))⟩) (fun h4 => nm_r (nI_1 q) (go fun z => absurd z h4))⟩
      refine uy_touch (k := 0) g (by omega) hq (fun t => br_f (by decide) (nm_r (nI_1 q) (go fun _ _ => ⟨hq, h5, T.mp t⟩))) (fun t => br_t rfl (H0 fun v => t (T.mpr (v.1 q h4 h5).2.2)))
    · have e : q = w * h := by omega
      subst e
      refine br_t (by rw [pk_mul]; exact nI_le (Nat.le_refl _) (by omega)) ⟨w * h + 1, ?_⟩
      exact uy_vt65 g hb hc hk M l (fun z => H1 ⟨fun q z1 z2 => h3 q (ug_Qa z1 l.1 l.2.1).1 z1 z2, z⟩) (fun z => H0 fun v => z v.2) (w * h + 1) 0 (by omega) (by omega) (fun z hz => by omega)
theorem uy_vt {post : Int32 → Prop} {k r m0 : Nat} {col : Nat → Nat} (g : ug_G w h) (hb : ∀ q, q < w * h → bo q = nI (col q)) (hc : ∀ q, col q ≤ 2) (hk : k = 1 ∨ k = 2) (M0 : uy_NM w h col 0 na) (M : uy_NM w h col k na) (l : ug_Ls w h col k r) (hm : m0 < w * h) (hr : na m0 = nI m0) (H1 : ug_V w h col k r m0 → post 1) (H0 : ¬ ug_V w h col k r m0 → post 0) : wpY_vitalTo post ((nI w), (nI h), lm, fn, ml, pa, bo, na, de, li) (nI k) (nI r) (nI m0) :=
  ⟨w * h + 1, uy_vt3 g hb hc hk M0 M l hm hr H1 H0 (w * h + 1) 0 (by omega) (by omega) (fun z hz => by omega)⟩
/-- not struck out -/
def uy_LV (na li : Nat → Int32) (q : Nat) : Prop := ¬ li (na q).toNatClampNeg = 0
theorem uy_bd2 {post : Int32 → Prop} {k r : Nat} {col : Nat → Nat} (g : ug_G w h) (hb : ∀ q, q < w * h → bo q = nI (col q)) (hc : ∀ q, col q ≤ 2) (hk : k = 1 ∨ k = 2) (M0 : uy_NM w h col 0 na) (M : uy_NM w h col k na) (l : ug_Ls w h col k r) (H1 : ug_Bd w h col k r (uy_LV na li) → post 1) (H0 : ¬ ug_Bd w h col k r (uy_LV na li) → post 0) :
    ∀ (m q : Nat), w * h - q < m → q ≤ w * h → (∀ z, z < q → col z = k → (∃ b, ug_Q w h col k r b ∧ ug_ad w h z b) → uy_LV na li z) → wY_bordered_2 post (nI k) (nI r) (nI w) (nI h) lm fn ml pa bo na de li m (nI q) := by
  intro m
  have hN := ug_N g
  have hrl := l.1
  induction m with
  | zero => intro q h1; omega
  | succ m ih =>
    intro q h1 h2 h3
    rcases Nat.lt_or_ge q (w * h) with hq | hq
    · refine br_f (by rw [pk_mul]; exact nI_ge hq (by omega)) ?_
      have hcq := hc q
      have go : (col q = k → (∃ b, ug_Q w h col k r b ∧ ug_ad w h q b) → uy_LV na li q) → wY_bordered_2 post (nI k) (nI r) (nI w) (nI h) lm fn ml pa bo na de li m (nI (q + 1)) := fun hn => ih (q + 1) (by omega) (by omega) (fun z hz => by
        rcases Nat.lt_or_ge z q with y | y
        · exact h3 z y
        · have e : z = q := by omega
          rw [e]; exact hn)
      have T := uy_Tk g (by omega) M l hq
      obtain ⟨m1, n1, n2, _, _⟩ := uy_N0 M0 hq
      rw [nI_clamp (by omega), hb q hq]
      refine ⟨pk_in q 49 (by omega), pk_eq (col q) k (fun h4 => ⟨pk_in q 147 (by omega), by rw [n2]; exact pk_in m1 49 (by omega), br_c (fun h5 => ?_) (fun h5 => nm_r (nI_1 q) (go fun _ _ => h5))⟩) (fun h4 => nm_r (nI_1 q) (go fun z => absurd z h4))⟩
      refine uy_touch g (by omega) hq (fun t => br_f (by decide) (H0 fun B => B q hq h4 (T.mp t) h5)) (fun t => br_t rfl (nm_r (nI_1 q) (go fun _ z => absurd (T.mpr z) t)))
    · have e : q = w * h := by omega
      subst e
      exact br_t (by rw [pk_mul]; exact nI_le (Nat.le_refl _) (by omega)) (H1 fun q z1 z2 z3 => h3 q z1 z2 z3)
theorem uy_bd {post : Int32 → Prop} {k r : Nat} {col : Nat → Nat} (g : ug_G w h) (hb : ∀ q, q < w * h → bo q = nI (col q)) (hc : ∀ q, col q ≤ 2) (hk : k = 1 ∨ k = 2) (M0 : uy_NM w h col 0 na) (M : uy_NM w h col k na) (l : ug_Ls w h col k r) (H1 : ug_Bd w h col k r (uy_LV na li) → post 1) (H0 : ¬ ug_Bd w h col k r (uy_LV na li) → post 0) : wpY_bordered post ((nI w), (nI h), lm, fn, ml, pa, bo, na, de, li) (nI k) (nI r) :=
  ⟨w * h + 1, uy_bd2 g hb hc hk M0 M l H1 H0 (w * h + 1) 0 (by omega) (by omega) (fun z hz => by omega)⟩
theorem uy_vr13 {post : Int32 → Prop} {k m0 : Nat} {col : Nat → Nat} {fl : Int32} {P : Prop} (hfl : fl = 0 ↔ ¬ P) (g : ug_G w h) (hb : ∀ q, q < w * h → bo q = nI (col q)) (hc : ∀ q, col q ≤ 2) (hk : k = 1 ∨ k = 2) (M0 : uy_NM w h col 0 na) (M : uy_NM w h col k na) (hm : m0 < w * h) (hr : na m0 = nI m0)
    (H : post (nI (cn (fun r => ug_Ls w h col k r ∧ ug_V w h col k r m0 ∧ (P → ug_Bd w h col k r (uy_LV na li))) (w * h)))) :
    ∀ (m q : Nat), w * h - q < m → q ≤ w * h → wY_vitalRegions_13 post (nI m0) fl (nI k) (nI w) (nI h) lm fn ml pa bo na de li m (nI (cn (fun r => ug_Ls w h col k r ∧ ug_V w h col k r m0 ∧ (P → ug_Bd w h col k r (uy_LV na li))) q)) (nI q) := by
  intro m
  have hN := ug_N g
  induction m with
  | zero => intro q h1; omega
  | succ m ih =>
    intro q h1 h2
    rcases Nat.lt_or_ge q (w * h) with hq | hq
    · refine br_f (by rw [pk_mul]; exact nI_ge hq (by omega)) ?_
      have ih2 := ih (q + 1) (by omega) (by omega)
      rw [cn_S] at ih2
      rw [uy_ix, nI_clamp (by omega)]
      refine ⟨vp_in_nI (by omega) (by decide), ek_if (uy_rep g (by omega) M hq) (fun l => ?_) (fun l => ?_)⟩
      · refine uy_vt g hb hc hk M0 M l hm hr (fun v => br_f (by decide) (ek_if hfl (fun np => ?_) (fun np => ?_))) (fun v => br_t rfl ?_)
        · rw [b01_t ⟨l, v, fun p => absurd p np⟩] at ih2
          exact nm_r (nI_1 _) (nm_r (nI_1 q) ih2)
        · refine uy_bd g hb hc hk M0 M l (fun B => br_f (by decide) ?_) (fun B => br_t rfl ?_)
          · rw [b01_t ⟨l, v, fun _ => B⟩] at ih2
            exact nm_r (nI_1 _) (nm_r (nI_1 q) ih2)
          · rw [b01_f (fun z => B (z.2.2 (Classical.not_not.mp np)))] at ih2
            exact nm_r (nI_1 q) ih2
        · rw [b01_f (fun z => v z.2.1)] at ih2
          exact nm_r (nI_1 q) ih2
      · rw [b01_f (fun z => l z.1)] at ih2
        exact nm_r (nI_1 q) ih2
    · have e : q = w * h := by omega
      subst e
      exact br_t (by rw [pk_mul]; exact nI_le (Nat.le_refl _) (by omega)) H
theorem uy_vr {post : Int32 → Prop} {m0 : Nat} {col : Nat → Nat} {fl : Int32} {P : Prop} (hfl : fl = 0 ↔ ¬ P) (g : ug_G w h) (hb : ∀ q, q < w * h → bo q = nI (col q)) (hc : ∀ q, col q ≤ 2) (M : ∀ k, k < 3 → uy_NM w h col k na) (hm : m0 < w * h) (h0 : col m0 ≠ 0) (hr : na m0 = nI m0)
    (H : post (nI (cn (fun r => ug_Ls w h col (col m0) r ∧ ug_V w h col (col m0) r m0 ∧ (P → ug_Bd w h col (col m0) r (uy_LV na li))) (w * h)))) : wpY_vitalRegions post ((nI w), (nI h), lm, fn, ml, pa, bo, na, de, li) (nI m0) fl := by
  have hN := ug_N g
  have hc0 := hc m0
  unfold wpY_vitalRegions
  dsimp only
  rw [nI_clamp (by omega), hb m0 hm]
  exact ⟨pk_in m0 49 (by omega), nm_e ⟨w * h + 1, uy_vr13 hfl g hb hc (by omega) (M 0 (by omega)) (M (col m0) (by omega)) hm hr H (w * h + 1) 0 (by omega) (by omega)⟩⟩
end
end
section
/-! Y: life -/
noncomputable def uy_cl (w h : Nat) (na li : Nat → Int32) : Nat := cn (fun t => na t = nI t ∧ ¬ li t = 0) (w * h)
noncomputable def uy_ey (w h : Nat) (col : Nat → Nat) (na li : Nat → Int32) (t : Nat) : Nat := cn (fun r => ug_Ls w h col (col t) r ∧ ug_V w h col (col t) r t ∧ (True → ug_Bd w h col (col t) r (uy_LV na li))) (w * h)
def uy_A (w h : Nat) (col : Nat → Nat) (na li : Nat → Int32) : Prop := ∀ q, q < w * h → ug_Lv w h col q → uy_LV na li q
def uy_B (w h : Nat) (col : Nat → Nat) (na li : Nat → Int32) : Prop := ∀ q, q < w * h → uy_LV na li q → col q ≠ 0
def uy_St (w h : Nat) (col : Nat → Nat) (na li : Nat → Int32) (e : Nat) : Prop := ∀ t, t < e → t < w * h → na t = nI t → ¬ li t = 0 → 2 ≤ uy_ey w h col na li t
section
variable {w h : Nat} {col : Nat → Nat} {na li : Nat → Int32} {t q : Nat}
theorem uy_LVu (z : uy_LV na (upd li t 0) q) : uy_LV na li q := by
  unfold uy_LV at z ⊢
  rcases Classical.em ((na q).toNatClampNeg = t) with e | e
  · rw [e, pk_us] at z
    exact absurd rfl z
  · rw [pk_un e] at z
    exact z
theorem uy_strike (g : ug_G w h) (M0 : uy_NM w h col 0 na) (A : uy_A w h col na li) (ht : t < w * h) (h2 : ¬ 2 ≤ uy_ey w h col na li t) : uy_A w h col na (upd li t 0) := by
  have hN := ug_N g
  intro q hq hl
  obtain ⟨m, n1, n2, n3, n4⟩ := uy_N0 M0 hq
  have em : (nI m).toNatClampNeg = m := nI_clamp (by omega)
  have hA := A q hq hl
  unfold uy_LV at hA ⊢
  rw [n2, em] at hA ⊢
  rcases Classical.em (m = t) with e | e
  · exfalso
    subst e
    have key : ∀ k, ug_Al w h col k q → (∀ z, ug_Al w h col k z → ug_Lv w h col z) → False := by
      intro k ak hk
      have am := ug_AlC n3 ak
      obtain ⟨a1, a2, _, r1, r2, hne, e1, e2⟩ := ug_AlCl m am
      apply h2
      unfold uy_ey
      rw [a2]
      have tr : ∀ r, ug_E w h col k (ug_Al w h col k) m r → ug_Ls w h col k r ∧ ug_V w h col k r m ∧ (True → ug_Bd w h col k r (uy_LV na li)) := fun r hr => ⟨hr.1, hr.2.1, fun _ => ug_Bdm hr.2.2 (fun z hz _ az => A z hz (hk z az))⟩
      exact cn_two.mpr ⟨r1, r2, e1.1.1, e2.1.1, hne, tr r1 e1, tr r2 e2⟩
    rcases hl with a | a
    · exact key 1 a (fun z az => Or.inl az)
    · exact key 2 a (fun z az => Or.inr az)
  · rw [pk_un e]
    exact hA
theorem uy_stab (g : ug_G w h) (hc : ∀ q, col q ≤ 2) (M0 : uy_NM w h col 0 na) (B : uy_B w h col na li) (S : uy_St w h col na li (w * h)) (hq : q < w * h) (hv : uy_LV na li q) : ug_Lv w h col q := by
  have hN := ug_N g
  have cl : ∀ k, ug_Cl w h col k (fun z => z < w * h ∧ col z = k ∧ uy_LV na li z) := by
    intro k a ⟨a1, a2, a3⟩
    obtain ⟨m, n1, n2, n3, n4⟩ := uy_N0 M0 a1
    have em : (nI m).toNatClampNeg = m := nI_clamp (by omega)
    have hm := ug_Ca n3 a1
    refine ⟨a1, a2, fun b hb => ?_, ?_⟩
    · have hb2 := ug_Ca hb a1
      refine ⟨hb2.1, hb2.2.trans a2, ?_⟩
      unfold uy_LV at a3 ⊢
      rw [(n4 b hb).2, ← n2]
      exact a3
    · have h2 := S m n1 n1 (n4 m n3).2 (by unfold uy_LV at a3; rw [n2, em] at a3; exact a3)
      unfold uy_ey at h2
      rw [hm.2, a2] at h2
      obtain ⟨r1, r2, _, _, hne, e1, e2⟩ := cn_two.mp h2
      have tr : ∀ r, (ug_Ls w h col k r ∧ ug_V w h col k r m ∧ (True → ug_Bd w h col k r (uy_LV na li))) → ug_E w h col k (fun z => z < w * h ∧ col z = k ∧ uy_LV na li z) a r := fun r hr => ⟨hr.1, (ug_VC g a1 n3).mpr hr.2.1, ug_Bdm (hr.2.2 trivial) (fun z z1 z2 z3 => ⟨z1, z2, z3⟩)⟩
      exact ⟨r1, r2, hne, tr r1 e1, tr r2 e2⟩
  have h0 := B q hq hv
  have h2 := hc q
  have h3 : col q = 1 ∨ col q = 2 := by omega
  rcases h3 with e | e
  · exact Or.inl ⟨_, cl 1, hq, e, hv⟩
  · exact Or.inr ⟨_, cl 2, hq, e, hv⟩
theorem uy_none (g : ug_G w h) (M0 : uy_NM w h col 0 na) (h0 : uy_cl w h na li = 0) (hq : q < w * h) (hv : uy_LV na li q) : False := by
  have hN := ug_N g
  obtain ⟨m, n1, n2, n3, n4⟩ := uy_N0 M0 hq
  have em : (nI m).toNatClampNeg = m := nI_clamp (by omega)
  unfold uy_LV at hv
  rw [n2, em] at hv
  have := cn_pos (P := fun t => na t = nI t ∧ ¬ li t = 0) n1 ⟨(n4 m n3).2, hv⟩
  unfold uy_cl at h0
  omega
end
section
variable {w h : Nat} {lm fn : Int32} {ml pa bo na de li : Nat → Int32}
theorem uy_l62 {post : SY → Prop} {J47 : Int32 → (Nat → Int32) → (Nat → Int32) → (Nat → Int32) → (Nat → Int32) → (Nat → Int32) → (Nat → Int32) → Prop} {rd : Nat} {col : Nat → Nat} {liR : Nat → Int32} (g : ug_G w h) (hb : ∀ q, q < w * h → bo q = nI (col q)) (hc : ∀ q, col q ≤ 2) (M : ∀ k, k < 3 → uy_NM w h col k na)
    (HJ : ∀ li, uy_A w h col na li → uy_B w h col na li → (∀ q, uy_LV na li q → uy_LV na liR q) → ((li = liR ∧ uy_St w h col na li (w * h)) ∨ uy_cl w h na li < uy_cl w h na liR) → J47 (nI (rd + 1)) ml pa bo na de li) :
    ∀ (m t : Nat) (li : Nat → Int32), w * h - t < m → t ≤ w * h → uy_A w h col na li → uy_B w h col na li → (∀ q, uy_LV na li q → uy_LV na liR q) → ((li = liR ∧ uy_St w h col na li t) ∨ uy_cl w h na li < uy_cl w h na liR) → wY_life_62 post J47 (nI rd) (nI w) (nI h) lm fn m (nI t) ml pa bo na de li := by
  intro m
  have hN := ug_N g
  have M0 := M 0 (by omega)
  induction m with
  | zero => intro t li h1; omega
  | succ m ih =>
    intro t li h1 h2 A B C D
    rcases Nat.lt_or_ge t (w * h) with ht | ht
    · refine br_f (by rw [pk_mul]; exact nI_ge ht (by omega)) ?_
      have et : (nI t).toNatClampNeg = t := nI_clamp (by omega)
      have skip : (na t = nI t → ¬ li t = 0 → 2 ≤ uy_ey w h col na li t) → wY_life_62 post J47 (nI rd) (nI w) (nI h) lm fn m (nI (t + 1)) ml pa bo na de li := by
        intro hs
        refine ih (t + 1) li (by omega) (by omega) A B C ?_
        rcases D with ⟨d1, d2⟩ | d
        · refine Or.inl ⟨d1, fun z z1 z2 z3 z4 => ?_⟩
          rcases Nat.lt_or_ge z t with y | y
          · exact d2 z y z2 z3 z4
          · have e : z = t := by omega
            subst e
            exact hs z3 z4
        · exact Or.inr d
      rw [et]
      refine ⟨pk_in t 49 (by omega), br_c (fun h3 => nm_r (nI_1 t) (skip fun _ z => absurd h3 z)) (fun h3 => ⟨pk_in t 147 (by omega), br_c (fun h4 => ?_) (fun h4 => nm_r (nI_1 t) (skip fun z => absurd z h4))⟩)⟩
      have h0 : col t ≠ 0 := B t ht (by unfold uy_LV; rw [h4, et]; exact h3)
      refine uy_vr (P := True) (fl := 1) ⟨fun z => absurd z (by decide), fun z => absurd trivial z⟩ g hb hc M ht h0 h4 ?_
      have hle : uy_ey w h col na li t ≤ w * h := cn_le _ _
      refine pk_le 2 (uy_ey w h col na li t) (fun h5 => nm_r (nI_1 t) (skip fun _ _ => h5)) (fun h5 => ⟨pk_in t 49 (by omega), nm_r (e' := upd li t 0) rfl (nm_r (nI_1 t) ?_)⟩)
      have hlt : uy_cl w h na (upd li t 0) < uy_cl w h na li := cn_lt (P := fun z => na z = nI z ∧ ¬ upd li t 0 z = 0) (Q := fun z => na z = nI z ∧ ¬ li z = 0) (a := t) (fun z => z.2 pk_us) ⟨h4, h3⟩ (fun z _ hz => ⟨hz.1, fun e => hz.2 (by
        rcases Classical.em (z = t) with y | y
        · rw [y, pk_us]
        · rw [pk_un y]; exact e)⟩) ht
      refine ih (t + 1) (upd li t 0) (by omega) (by omega) (uy_strike g M0 A ht (by omega)) (fun q hq hv => B q hq (uy_LVu hv)) (fun q hv => C q (uy_LVu hv)) (Or.inr ?_)
      rcases D with ⟨d1, _⟩ | d
      · rw [d1] at hlt ⊢
        exact hlt
      · exact Nat.lt_trans hlt d
    · have e : t = w * h := by omega
      subst e
      exact br_t (by rw [pk_mul]; exact nI_le (Nat.le_refl _) (by omega)) (nm_r (nI_1 rd) (HJ li A B C D))
theorem uy_l47 {post : SY → Prop} {col : Nat → Nat} (g : ug_G w h) (hb : ∀ q, q < w * h → bo q = nI (col q)) (hc : ∀ q, col q ≤ 2) (M : ∀ k, k < 3 → uy_NM w h col k na)
    (H : ∀ li, (∀ q, q < w * h → (uy_LV na li q ↔ ug_Lv w h col q)) → post ((nI w), (nI h), lm, fn, ml, pa, bo, na, de, li)) :
    ∀ (m rd : Nat) (li : Nat → Int32), w * h - rd < m → rd ≤ w * h → uy_A w h col na li → uy_B w h col na li → ((∀ q, q < w * h → uy_LV na li q → ug_Lv w h col q) ∨ uy_cl w h na li + rd ≤ w * h) → wY_life_47 post (nI w) (nI h) lm fn m (nI rd) ml pa bo na de li := by
  intro m
  have hN := ug_N g
  have M0 := M 0 (by omega)
  induction m with
  | zero => intro t li h1; omega
  | succ m ih =>
    intro rd li h1 h2 A B D
    rcases Nat.lt_or_ge rd (w * h) with ht | ht
    · refine br_f (by rw [pk_mul]; exact nI_ge ht (by omega)) ⟨w * h + 1, ?_⟩
      refine uy_l62 (liR := li) g hb hc M (fun li' A' B' C' D' => ih (rd + 1) li' (by omega) (by omega) A' B' ?_) (w * h + 1) 0 li (by omega) (by omega) A B (fun q z => z) (Or.inl ⟨rfl, fun t z => by omega⟩)
      rcases D' with ⟨_, d2⟩ | d
      · exact Or.inl fun q hq hv => uy_stab g hc M0 B' d2 hq hv
      · rcases D with z | z
        · exact Or.inl fun q hq hv => z q hq (C' q hv)
        · exact Or.inr (by omega)
    · have e : rd = w * h := by omega
      subst e
      refine br_t (by rw [pk_mul]; exact nI_le (Nat.le_refl _) (by omega)) (H li fun q hq => ⟨fun hv => ?_, A q hq⟩)
      rcases D with z | z
      · exact z q hq hv
      · exact (uy_none g M0 (by omega) hq hv).elim
theorem uy_l6 {post : SY → Prop} {col : Nat → Nat} (g : ug_G w h) (hb : ∀ q, q < w * h → bo q = nI (col q)) (hc : ∀ q, col q ≤ 2) (M : ∀ k, k < 3 → uy_NM w h col k na)
    (H : ∀ li, (∀ q, q < w * h → (uy_LV na li q ↔ ug_Lv w h col q)) → post ((nI w), (nI h), lm, fn, ml, pa, bo, na, de, li)) :
    ∀ (m p : Nat) (li : Nat → Int32), w * h - p < m → p ≤ w * h → (∀ q, q < p → (li q = 0 ↔ col q = 0)) → wY_life_6 post (nI w) (nI h) lm fn m (nI p) ml pa bo na de li := by
  intro m
  have hN := ug_N g
  have M0 := M 0 (by omega)
  induction m with
  | zero => intro t li h1; omega
  | succ m ih =>
    intro p li h1 h2 D
    rcases Nat.lt_or_ge p (w * h) with ht | ht
    · refine br_f (by rw [pk_mul]; exact nI_ge ht (by omega)) ?_
      have et : (nI p).toNatClampNeg = p := nI_clamp (by omega)
      have hcp := hc p
      rw [et, hb p ht]
      have step : ∀ v : Int32, (v = 0 ↔ col p = 0) → wY_life_6 post (nI w) (nI h) lm fn m (nI (p + 1)) ml pa bo na de (upd li p v) := by
        intro v hv
        refine ih (p + 1) _ (by omega) (by omega) (fun q hq => ?_)
        rcases Nat.lt_or_ge q p with z | z
        · rw [pk_un (by omega)]; exact D q z
        · have e : q = p := by omega
          subst e
          rw [pk_us]; exact hv
      refine ⟨pk_in p 49 (by omega), pk_eq (col p) 0 (fun h3 => ⟨pk_in p 49 (by omega), nm_r (e' := upd li p 0) rfl (nm_r (nI_1 p) (step 0 ⟨fun _ => h3, fun _ => rfl⟩))⟩) (fun h3 => ⟨pk_in p 49 (by omega), nm_r (e' := upd li p 1) rfl (nm_r (nI_1 p) (step 1 ⟨fun z => absurd z (by decide), fun z => absurd z h3⟩))⟩)⟩
    · have e : p = w * h := by omega
      subst e
      refine br_t (by rw [pk_mul]; exact nI_le (Nat.le_refl _) (by omega)) ⟨w * h + 1, ?_⟩
      have key : ∀ q, q < w * h → (uy_LV na li q ↔ col q ≠ 0) := by
        intro q hq
        obtain ⟨m, n1, n2, n3, n4⟩ := uy_N0 M0 hq
        have em : (nI m).toNatClampNeg = m := nI_clamp (by omega)
        unfold uy_LV
        rw [n2, em, D m n1, (ug_Ca n3 hq).2]
      refine uy_l47 g hb hc M H (w * h + 1) 0 li (by omega) (by omega) (fun q hq hl => (key q hq).mpr ?_) (fun q hq hv => (key q hq).mp hv) (Or.inr (by have := cn_le (fun t => na t = nI t ∧ ¬ li t = 0) (w * h); unfold uy_cl; omega))
      rcases hl with a | a
      · have := (ug_Alc a).2; omega
      · have := (ug_Alc a).2; omega
theorem uy_life {post : SY → Prop} {n : Nat} {col : Nat → Nat} (g : ug_G w h) (hn : n ≤ 128) (hp : ∀ q, q < w * h → pa (n * 49 + q) = nI (col q)) (hc : ∀ q, col q ≤ 2)
    (H : ∀ bo' na' li', (∀ q, q < w * h → bo' q = nI (col q)) → (∀ k, k < 3 → uy_NM w h col k na') → (∀ q, q < w * h → (uy_LV na' li' q ↔ ug_Lv w h col q)) → post ((nI w), (nI h), lm, nI n, ml, pa, bo', na', de, li')) : wpY_life post ((nI w), (nI h), lm, nI n, ml, pa, bo, na, de, li) := by
  unfold wpY_life
  dsimp only
  refine uy_load g hn hp hc (fun bo' na' h1 h2 => ⟨w * h + 1, ?_⟩)
  exact uy_l6 g h1 hc h2 (fun li' h3 => H bo' na' li' h1 h2 h3) (w * h + 1) 0 li (by omega) (by omega) (fun q hq => by omega)
/-! Y: owners -/
def uy_SV (w h : Nat) (col : Nat → Nat) (na : Nat → Int32) (k r : Nat) : Prop := ∃ t, t < w * h ∧ col t = k ∧ na t = nI t ∧ ug_V w h col k r t
theorem uy_se30 {post : Int32 → Prop} {k r : Nat} {col : Nat → Nat} (g : ug_G w h) (hb : ∀ q, q < w * h → bo q = nI (col q)) (hc : ∀ q, col q ≤ 2) (hk : k = 1 ∨ k = 2) (M0 : uy_NM w h col 0 na) (M : uy_NM w h col k na) (l : ug_Ls w h col k r) (H1 : uy_SV w h col na k r → post 1) (H0 : ¬ uy_SV w h col na k r → post 0) :
    ∀ (m t : Nat), w * h - t < m → t ≤ w * h → (∀ z, z < t → ¬ (col z = k ∧ na z = nI z ∧ ug_V w h col k r z)) → wY_secured_30 post (nI k) (nI r) (nI w) (nI h) lm fn ml pa bo na de li m (nI t) := by
  intro m
  have hN := ug_N g
  have hrl := l.1
  induction m with
  | zero => intro q h1; omega
  | succ m ih =>
    intro q h1 h2 h3
    rcases Nat.lt_or_ge q (w * h) with hq | hq
    · refine br_f (by rw [pk_mul]; exact nI_ge hq (by omega)) ?_
      have hcq := hc q
      have go : ¬ (col q = k ∧ na q = nI q ∧ ug_V w h col k r q) → wY_secured_30 post (nI k) (nI r) (nI w) (nI h) lm fn ml pa bo na de li m (nI (q + 1)) := fun hn => ih (q + 1) (by omega) (by omega) (fun z hz => by
        rcases Nat.lt_or_ge z q with y | y
        · exact h3 z y
        · have e : z = q := by omega
          rw [e]; exact hn)
      rw [nI_clamp (by omega), hb q hq]
      refine ⟨pk_in q 49 (by omega), pk_eq (col q) k (fun h4 => ⟨pk_in q 147 (by omega), br_c (fun h5 => ?_) (fun h5 => nm_r (nI_1 q) (go fun z => h5 z.2.1))⟩) (fun h4 => nm_r (nI_1 q) (go fun z => h4 z.1))⟩
      exact uy_vt g hb hc hk M0 M l hq h5 (fun v => br_f (by decide) (H1 ⟨q, hq, h4, h5, v⟩)) (fun v => br_t rfl (nm_r (nI_1 q) (go fun z => v z.2.2)))
    · have e : q = w * h := by omega
      subst e
      exact br_t (by rw [pk_mul]; exact nI_le (Nat.le_refl _) (by omega)) (H0 fun ⟨t, z1, z2⟩ => h3 t z1 z2)
theorem uy_sec {post : Int32 → Prop} {k p : Nat} {col : Nat → Nat} (g : ug_G w h) (hb : ∀ q, q < w * h → bo q = nI (col q)) (hc : ∀ q, col q ≤ 2) (M : ∀ k, k < 3 → uy_NM w h col k na) (hl : ∀ q, q < w * h → (uy_LV na li q ↔ ug_Lv w h col q)) (hk : k = 1 ∨ k = 2) (hp : p < w * h) (H1 : ug_Se w h col k p → post 1) (H0 : ¬ ug_Se w h col k p → post 0) : wpY_secured post ((nI w), (nI h), lm, fn, ml, pa, bo, na, de, li) (nI k) (nI p) := by
  have hN := ug_N g
  have M0 := M 0 (by omega)
  have Mk := M k (by omega)
  have hk0 : k ≠ 0 := by omega
  obtain ⟨n1, n2⟩ := uy_Nk hk0 Mk hp
  unfold wpY_secured
  dsimp only
  rw [uy_ix, nI_clamp (by omega)]
  refine ⟨vp_in_nI (by omega) (by decide), ?_⟩
  rcases Classical.em (col p = k) with hc1 | hc1
  · rw [n1 hc1]
    exact nm_e (br_t (by decide) (H0 fun s => s.2.1 hc1))
  · obtain ⟨r, r1, r2, r3, r4⟩ := n2 hc1
    have hra := ug_Qa r3 hp hc1
    have l : ug_Ls w h col k r := ⟨hra.1, hra.2, fun q hq => (r4 q (ug_Qt r3 hq)).1⟩
    have hB : ug_Bd w h col k r (uy_LV na li) ↔ ug_Bd w h col k p (ug_Al w h col k) := by
      rw [ug_BdQ g hp hc1 r3]
      have hA : ∀ q, q < w * h → col q = k → (uy_LV na li q ↔ ug_Al w h col k q) := by
        intro q hq e
        rw [hl q hq]
        constructor
        · intro z
          rcases z with z | z
          · rw [← e, (ug_Alc z).2]; exact z
          · rw [← e, (ug_Alc z).2]; exact z
        · intro z
          rcases hk with e2 | e2
          · subst e2; exact Or.inl z
          · subst e2; exact Or.inr z
      exact ⟨fun b => ug_Bdm b fun q h1 h2 h3 => (hA q h1 h2).mp h3, fun b => ug_Bdm b fun q h1 h2 h3 => (hA q h1 h2).mpr h3⟩
    rw [r2]
    refine nm_e (br_f (nI_pos (by omega)) ?_)
    refine uy_bd g hb hc hk M0 Mk l (fun b => br_f (by decide) ⟨w * h + 1, ?_⟩) (fun b => br_t rfl (H0 fun s => b (hB.mpr s.2.2.1)))
    refine uy_se30 g hb hc hk M0 Mk l (fun s => H1 ?_) (fun s => H0 fun s2 => s ?_) (w * h + 1) 0 (by omega) (by omega) (fun z hz => by omega)
    · obtain ⟨t, t1, t2, _, t4⟩ := s
      exact ⟨hp, hc1, hB.mp b, t, t1, t2, (ug_VQ g hp hc1 r3).mpr t4⟩
    · obtain ⟨_, _, _, t, t1, t2, t4⟩ := s2
      obtain ⟨m, m1, m2, m3, m4⟩ := uy_N0 M0 t1
      have hm := ug_Ca m3 t1
      exact ⟨m, m1, hm.2.trans t2, (m4 m m3).2, (ug_VC g t1 m3).mp ((ug_VQ g hp hc1 r3).mp t4)⟩
def uy_Mx (w h : Nat) (col : Nat → Nat) (p k e : Nat) : Prop := ∃ q, q < e ∧ q < w * h ∧ col q = k ∧ ∃ a, ug_C w h col p a ∧ ug_ad w h q a
theorem uy_Mx0 {col : Nat → Nat} {p k e : Nat} (hn : ¬ (e < w * h ∧ col e = k ∧ ∃ a, ug_C w h col p a ∧ ug_ad w h e a)) : uy_Mx w h col p k (e + 1) ↔ uy_Mx w h col p k e := by
  constructor
  · intro ⟨q, z1, z2⟩
    rcases Nat.lt_or_ge q e with y | y
    · exact ⟨q, y, z2⟩
    · have e2 : q = e := by omega
      subst e2
      exact absurd z2 hn
  · intro ⟨q, z1, z2⟩
    exact ⟨q, by omega, z2⟩
theorem uy_Mx1 {col : Nat → Nat} {p k e : Nat} (hn : e < w * h ∧ col e = k ∧ ∃ a, ug_C w h col p a ∧ ug_ad w h e a) : uy_Mx w h col p k (e + 1) := ⟨e, by omega, hn⟩
theorem uy_or1 : ∀ a, a < 4 → nI a ||| nI 1 = nI (a ||| 1) ∧ (a ||| 1) < 4 ∧ (a ||| 1) % 2 = 1 ∧ (2 ≤ (a ||| 1) ↔ 2 ≤ a) := by decide +kernel
theorem uy_or2 : ∀ a, a < 4 → nI a ||| nI 2 = nI (a ||| 2) ∧ (a ||| 2) < 4 ∧ 2 ≤ (a ||| 2) ∧ ((a ||| 2) % 2 = 1 ↔ a % 2 = 1) := by decide +kernel
theorem uy_ow72 {post : Int32 → Prop} {p : Nat} {col : Nat → Nat} (g : ug_G w h) (hb : ∀ q, q < w * h → bo q = nI (col q)) (hc : ∀ q, col q ≤ 2) (M0 : uy_NM w h col 0 na) (hp : p < w * h)
    (H : ∀ a, a < 4 → (a % 2 = 1 ↔ uy_Mx w h col p 1 (w * h)) → (2 ≤ a ↔ uy_Mx w h col p 2 (w * h)) → ((nI a = 3 → post 0) ∧ (¬ nI a = 3 → post (nI a)))) :
    ∀ (m q a : Nat), w * h - q < m → q ≤ w * h → a < 4 → (a % 2 = 1 ↔ uy_Mx w h col p 1 q) → (2 ≤ a ↔ uy_Mx w h col p 2 q) → wY_ownerOf_72 post (nI p) (nI w) (nI h) lm fn ml pa bo na de li m (nI a) (nI q) := by
  intro m
  have hN := ug_N g
  obtain ⟨m1, n1, n2, n3, n4⟩ := uy_N0 M0 hp
  induction m with
  | zero => intro q a h1; omega
  | succ m ih =>
    intro q a h1 h2 ha h3 h4
    rcases Nat.lt_or_ge q (w * h) with hq | hq
    · refine br_f (by rw [pk_mul]; exact nI_ge hq (by omega)) ?_
      have hcq := hc q
      have T := uy_T0 g M0 hq n1 (n4 m1 n3).2
      have T2 : uy_T w h na 0 q (nI m1) ↔ ∃ a, ug_C w h col p a ∧ ug_ad w h q a := by
        rw [T]
        exact ⟨fun ⟨a, z1, z2⟩ => ⟨a, ug_Ct n3 hp z1, z2⟩, fun ⟨a, z1, z2⟩ => ⟨a, ug_Ct (ug_Cy g n3 hp) n1 z1, z2⟩⟩
      have skip : ¬ (col q ≠ 0 ∧ ∃ a, ug_C w h col p a ∧ ug_ad w h q a) → wY_ownerOf_72 post (nI p) (nI w) (nI h) lm fn ml pa bo na de li m (nI a) (nI (q + 1)) := by
        intro hn
        refine ih (q + 1) a (by omega) (by omega) ha ?_ ?_
        · rw [uy_Mx0 fun z => hn ⟨by omega, z.2.2⟩]; exact h3
        · rw [uy_Mx0 fun z => hn ⟨by omega, z.2.2⟩]; exact h4
      rw [nI_clamp (show q < 2 ^ 31 by omega), nI_clamp (show p < 2 ^ 31 by omega), hb q hq, n2]
      refine ⟨pk_in q 49 (by omega), pk_eq (col q) 0 (fun h5 => nm_r (nI_1 q) (skip fun z => z.1 h5)) (fun h5 => ⟨pk_in p 147 (by omega), ?_⟩)⟩
      refine uy_touch (k := 0) g (by omega) hq (fun t => br_f (by decide) ⟨pk_in q 49 (by omega), ?_⟩) (fun t => br_t rfl (nm_r (nI_1 q) (skip fun z => t (T2.mpr z.2))))
      have ht := T2.mp t
      have h6 : col q = 1 ∨ col q = 2 := by omega
      rcases h6 with e | e
      · rw [e]
        obtain ⟨o1, o2, o3, o4⟩ := uy_or1 a ha
        refine nm_r o1 (nm_r (nI_1 q) (ih (q + 1) (a ||| 1) (by omega) (by omega) o2 ⟨fun _ => uy_Mx1 ⟨hq, e, ht⟩, fun _ => o3⟩ ?_))
        rw [uy_Mx0 fun z => by omega, o4]; exact h4
      · rw [e]
        obtain ⟨o1, o2, o3, o4⟩ := uy_or2 a ha
        refine nm_r o1 (nm_r (nI_1 q) (ih (q + 1) (a ||| 2) (by omega) (by omega) o2 ?_ ⟨fun _ => uy_Mx1 ⟨hq, e, ht⟩, fun _ => o3⟩))
        rw [uy_Mx0 fun z => by omega, o4]; exact h3
    · have e : q = w * h := by omega
      subst e
      exact br_t (by rw [pk_mul]; exact nI_le (Nat.le_refl _) (by omega)) (H a ha h3 h4)
theorem uy_own {post : Int32 → Prop} {p : Nat} {col : Nat → Nat} (g : ug_G w h) (hb : ∀ q, q < w * h → bo q = nI (col q)) (hc : ∀ q, col q ≤ 2) (M : ∀ k, k < 3 → uy_NM w h col k na) (hl : ∀ q, q < w * h → (uy_LV na li q ↔ ug_Lv w h col q)) (hp : p < w * h) (H : post (nI (ug_ow w h col p))) : wpY_ownerOf post ((nI w), (nI h), lm, fn, ml, pa, bo, na, de, li) (nI p) := by
  have hN := ug_N g
  have M0 := M 0 (by omega)
  have hcp := hc p
  obtain ⟨m1, n1, n2, n3, n4⟩ := uy_N0 M0 hp
  have ep : (nI p).toNatClampNeg = p := nI_clamp (by omega)
  have w1 : ug_O1 w h col p → post 1 := fun o => by rw [ug_ow1 o (fun o2 => ug_O12 o o2)] at H; exact H
  have w2 : ug_O2 w h col p → post 2 := fun o => by rw [ug_ow2 (fun o1 => ug_O12 o1 o) o] at H; exact H
  have w0 : ¬ ug_O1 w h col p → ¬ ug_O2 w h col p → post 0 := fun o o' => by rw [ug_ow0 o o'] at H; exact H
  have j32 : ¬ ug_Lv w h col p → wY_ownerOf_32 post (nI p) 0 (nI w) (nI h) lm fn ml pa bo na de li := by
    intro nl
    unfold wY_ownerOf_32
    refine uy_sec g hb hc M hl (k := 1) (Or.inl rfl) hp (fun s1 => br_f (by decide) (w1 (Or.inr ⟨nl, Or.inl s1⟩))) (fun s1 => br_t rfl ?_)
    refine uy_sec g hb hc M hl (k := 2) (Or.inr rfl) hp (fun s2 => br_f (by decide) (w2 (Or.inr ⟨nl, s1, Or.inl s2⟩))) (fun s2 => br_t rfl ?_)
    rw [ep, hb p hp]
    refine ⟨pk_in p 49 (by omega), pk_eq (col p) 0 (fun h0 => ⟨w * h + 1, ?_⟩) (fun h0 => ⟨pk_in p 49 (by omega), ?_⟩)⟩
    · have hM : ∀ k, uy_Mx w h col p k (w * h) ↔ ug_M w h col k p := fun k => ⟨fun ⟨q, z1, z2⟩ => ⟨q, z2⟩, fun ⟨q, z1, z2⟩ => ⟨q, z1, z1, z2⟩⟩
      refine uy_ow72 g hb hc M0 hp (fun a ha e1 e2 => ?_) (w * h + 1) 0 0 (by omega) (by omega) (by omega) ⟨fun z => by omega, fun ⟨q, z, _⟩ => by omega⟩ ⟨fun z => by omega, fun ⟨q, z, _⟩ => by omega⟩
      rw [hM] at e1 e2
      have o1 : ug_O1 w h col p ↔ ug_M w h col 1 p ∧ ¬ ug_M w h col 2 p := by
        constructor
        · intro o
          rcases o with o | ⟨_, o⟩
          · exact absurd (Or.inl o) nl
          · rcases o with o | ⟨_, o⟩
            · exact absurd o s1
            · rcases o with o | o
              · omega
              · exact o.2
        · intro o
          exact Or.inr ⟨nl, Or.inr ⟨s2, Or.inr ⟨h0, o⟩⟩⟩
      have o2 : ug_O2 w h col p ↔ ug_M w h col 2 p ∧ ¬ ug_M w h col 1 p := by
        constructor
        · intro o
          rcases o with o | ⟨_, _, o⟩
          · exact absurd (Or.inr o) nl
          · rcases o with o | o
            · exact absurd o s2
            · rcases o with o | o
              · omega
              · exact o.2
        · intro o
          exact Or.inr ⟨nl, s1, Or.inr (Or.inr ⟨h0, o⟩)⟩
      have h4 : a = 0 ∨ a = 1 ∨ a = 2 ∨ a = 3 := by omega
      rcases h4 with e | e | e | e
      · subst e
        exact br_f (by decide) (w0 (fun o => by have := e1.mpr (o1.mp o).1; omega) (fun o => by have := e2.mpr (o2.mp o).1; omega))
      · subst e
        exact br_f (by decide) (w1 (o1.mpr ⟨e1.mp (by omega), fun z => by have := e2.mpr z; omega⟩))
      · subst e
        exact br_f (by decide) (w2 (o2.mpr ⟨e2.mp (by omega), fun z => by have := e1.mpr z; omega⟩))
      · subst e
        exact br_t (by decide) (w0 (fun o => (o1.mp o).2 (e2.mp (by omega))) (fun o => (o2.mp o).2 (e1.mp (by omega))))
    · have h6 : col p = 1 ∨ col p = 2 := by omega
      rcases h6 with e | e
      · rw [e]; exact w1 (Or.inr ⟨nl, Or.inr ⟨s2, Or.inl e⟩⟩)
      · rw [e]; exact w2 (Or.inr ⟨nl, s1, Or.inr (Or.inl e)⟩)
  unfold wpY_ownerOf
  dsimp only
  rw [ep, hb p hp]
  refine ⟨pk_in p 49 (by omega), pk_eq (col p) 0 (fun h0 => j32 fun z => ?_) (fun h0 => ⟨pk_in p 147 (by omega), by rw [n2]; exact pk_in m1 49 (by omega), br_c (fun h1 => j32 fun z => (hl p hp).mpr z h1) (fun h1 => ⟨pk_in p 49 (by omega), ?_⟩)⟩)⟩
  · rcases z with z | z
    · have := (ug_Alc z).2; omega
    · have := (ug_Alc z).2; omega
  · have hv := (hl p hp).mp h1
    rcases hv with z | z
    · rw [(ug_Alc z).2]; exact w1 (Or.inl z)
    · rw [(ug_Alc z).2]; exact w2 (Or.inl z)
theorem uy_sc1 (a b : Nat) : nI a - nI b + 1 = nI (a + 1) - nI b := by
  rw [← nI_1]
  grind
theorem uy_sc2 (a b : Nat) : nI a - nI b + (-1) = nI a - nI (b + 1) := by
  rw [← nI_1]
  grind
theorem uy_sc8 {post : Int32 → SY → Prop} {col : Nat → Nat} (g : ug_G w h) (hb : ∀ q, q < w * h → bo q = nI (col q)) (hc : ∀ q, col q ≤ 2) (M : ∀ k, k < 3 → uy_NM w h col k na) (hl : ∀ q, q < w * h → (uy_LV na li q ↔ ug_Lv w h col q))
    (H : post (nI (cn (ug_O1 w h col) (w * h)) - nI (cn (ug_O2 w h col) (w * h))) ((nI w), (nI h), lm, fn, ml, pa, bo, na, de, li)) :
    ∀ (m q : Nat), w * h - q < m → q ≤ w * h → wY_score_8 post (nI w) (nI h) lm fn ml pa bo na de li m (nI (cn (ug_O1 w h col) q) - nI (cn (ug_O2 w h col) q)) (nI q) := by
  intro m
  have hN := ug_N g
  induction m with
  | zero => intro q h1; omega
  | succ m ih =>
    intro q h1 h2
    rcases Nat.lt_or_ge q (w * h) with hq | hq
    · refine br_f (by rw [pk_mul]; exact nI_ge hq (by omega)) ?_
      have ih2 := ih (q + 1) (by omega) (by omega)
      rw [cn_S, cn_S] at ih2
      refine uy_own g hb hc M hl hq ?_
      rcases Classical.em (ug_O1 w h col q) with o1 | o1
      · have o2 : ¬ ug_O2 w h col q := fun z => ug_O12 o1 z
        rw [ug_ow1 o1 o2]
        rw [b01_t o1, b01_f o2] at ih2
        exact br_t rfl (nm_r (uy_sc1 _ _) (nm_r (nI_1 q) ih2))
      · rcases Classical.em (ug_O2 w h col q) with o2 | o2
        · rw [ug_ow2 o1 o2]
          rw [b01_f o1, b01_t o2] at ih2
          exact br_f (by decide) (br_t rfl (nm_r (uy_sc2 _ _) (nm_r (nI_1 q) ih2)))
        · rw [ug_ow0 o1 o2]
          rw [b01_f o1, b01_f o2] at ih2
          exact br_f (by decide) (br_f (by decide) (nm_r (Int32.add_zero _) (nm_r (nI_1 q) ih2)))
    · have e : q = w * h := by omega
      subst e
      exact br_t (by rw [pk_mul]; exact nI_le (Nat.le_refl _) (by omega)) H
end
end
section
/-! the effect of a play, purely -/
def ur_c1 (col : Nat → Nat) (c p : Nat) : Nat → Nat := fun q => if q = p then c else col q
def ur_dd (w h : Nat) (c1 : Nat → Nat) (o q : Nat) : Prop := q < w * h ∧ c1 q = o ∧ ug_ln w h c1 q = 0
noncomputable def ur_c2 (w h : Nat) (c1 : Nat → Nat) (o : Nat) : Nat → Nat := fun q => @ite Nat (ur_dd w h c1 o q) (Classical.propDecidable _) 0 (c1 q)
/-- the position after it -/
noncomputable def ur_n2 (w h : Nat) (col : Nat → Nat) (n p : Nat) : Nat → Nat := ur_c2 w h (ur_c1 col (n % 2 + 1) p) (2 - n % 2)
def ur_KO (w h : Nat) (bA wA : Nat → Int64) (n : Nat) (c2 : Nat → Nat) : Prop := ∃ k, k ≤ n ∧ ∀ q, q < w * h → c2 q = ux_col (bA k) (wA k) q
noncomputable def ur_tk (w h : Nat) (col : Nat → Nat) (n p : Nat) : Nat := cn (ur_dd w h (ur_c1 col (n % 2 + 1) p) (2 - n % 2)) (w * h)
def ur_JE (w h : Nat) (bA wA : Nat → Int64) (n p : Nat) (r : Int32) : Prop :=
  (ug_ln w h (ur_n2 w h (ux_col (bA n) (wA n)) n p) p = 0 ∧ r = -5) ∨
  (ug_ln w h (ur_n2 w h (ux_col (bA n) (wA n)) n p) p ≠ 0 ∧ ur_KO w h bA wA n (ur_n2 w h (ux_col (bA n) (wA n)) n p) ∧ r = -6) ∨
  (ug_ln w h (ur_n2 w h (ux_col (bA n) (wA n)) n p) p ≠ 0 ∧ ¬ ur_KO w h bA wA n (ur_n2 w h (ux_col (bA n) (wA n)) n p) ∧ r = nI (ur_tk w h (ux_col (bA n) (wA n)) n p))
def ur_J (w h lim n : Nat) (mv : Nat → Int32) (bA wA : Nat → Int64) (v r : Int32) : Prop :=
  (ux_Ov mv n ∧ r = -1) ∨ (¬ ux_Ov mv n ∧ lim ≤ n ∧ r = -2) ∨ (¬ ux_Ov mv n ∧ n < lim ∧ (v < 0 ∨ nI (w * h) ≤ v) ∧ r = -3) ∨
  (¬ ux_Ov mv n ∧ n < lim ∧ ∃ p, p < w * h ∧ v = nI p ∧ ((ux_col (bA n) (wA n) p ≠ 0 ∧ r = -4) ∨ (ux_col (bA n) (wA n) p = 0 ∧ ur_JE w h bA wA n p r)))
theorem ur_JEu {w h n p : Nat} {bA wA : Nat → Int64} {r r' : Int32} (a : ur_JE w h bA wA n p r) (b : ur_JE w h bA wA n p r') : r = r' := by
  rcases a with ⟨a1, a2⟩ | ⟨a1, a2, a3⟩ | ⟨a1, a2, a3⟩ <;> rcases b with ⟨b1, b2⟩ | ⟨b1, b2, b3⟩ | ⟨b1, b2, b3⟩
  · rw [a2, b2]
  · exact absurd a1 b1
  · exact absurd a1 b1
  · exact absurd b1 a1
  · rw [a3, b3]
  · exact absurd a2 b2
  · exact absurd b1 a1
  · exact absurd b2 a2
  · rw [a3, b3]
theorem ur_Ju {w h lim n : Nat} {mv : Nat → Int32} {bA wA : Nat → Int64} {v r r' : Int32} (hN : w * h ≤ 49) (a : ur_J w h lim n mv bA wA v r) (b : ur_J w h lim n mv bA wA v r') : r = r' := by
  have out : ∀ p, p < w * h → v = nI p → ¬ (v < 0 ∨ nI (w * h) ≤ v) := by
    intro p hp e z
    subst e
    rcases z with z | z
    · exact nI_pos (by omega) z
    · exact nI_ge hp (by omega) z
  rcases a with ⟨a1, a2⟩ | ⟨a1, a2, a3⟩ | ⟨a1, a2, a3, a4⟩ | ⟨a1, a2, p, a3, a4, a5⟩ <;> rcases b with ⟨b1, b2⟩ | ⟨b1, b2, b3⟩ | ⟨b1, b2, b3, b4⟩ | ⟨b1, b2, q, b3, b4, b5⟩
  · rw [a2, b2]
  · exact absurd a1 b1
  · exact absurd a1 b1
  · exact absurd a1 b1
  · exact absurd b1 a1
  · rw [a3, b3]
  · omega
  · omega
  · exact absurd b1 a1
  · omega
  · rw [a4, b4]
  · exact absurd a3 (out q b3 b4)
  · exact absurd b1 a1
  · omega
  · exact absurd b3 (out p a3 a4)
  · rw [a4, nI_eq (by omega) (by omega)] at b4
    subst b4
    rcases a5 with ⟨a5, a6⟩ | ⟨a5, a6⟩ <;> rcases b5 with ⟨b5, b6⟩ | ⟨b5, b6⟩
    · rw [a6, b6]
    · exact absurd b5 a5
    · exact absurd a5 b5
    · exact ur_JEu a6 b6
theorem ur_ln0 {w h : Nat} {col : Nat → Nat} {p : Nat} : ug_ln w h col p = 0 ↔ ¬ ∃ z, ug_Li w h col p z := by
  constructor
  · intro h1 ⟨z, hz⟩
    have := cn_pos (P := ug_Li w h col p) hz.1 hz
    unfold ug_ln at h1
    omega
  · intro h1
    exact cn_z fun k _ hk => h1 ⟨k, hk⟩
theorem ur_c2d {w h : Nat} {c1 : Nat → Nat} {o q : Nat} (d : ur_dd w h c1 o q) : ur_c2 w h c1 o q = 0 := by unfold ur_c2; rw [if_pos d]
theorem ur_c2n {w h : Nat} {c1 : Nat → Nat} {o q : Nat} (d : ¬ ur_dd w h c1 o q) : ur_c2 w h c1 o q = c1 q := by unfold ur_c2; rw [if_neg d]
theorem ur_c1p {col : Nat → Nat} {c p : Nat} : ur_c1 col c p p = c := if_pos rfl
theorem ur_c1n {col : Nat → Nat} {c p q : Nat} (hq : q ≠ p) : ur_c1 col c p q = col q := if_neg hq
/-- what X's and Y's steps are told of it -/
theorem ur_le2 {w h n p : Nat} {col : Nat → Nat} (hc : ∀ q, col q ≤ 2) : (∀ q, ur_c1 col (n % 2 + 1) p q ≤ 2) ∧ ∀ q, ur_n2 w h col n p q ≤ 2 := by
  have h1 : ∀ q, ur_c1 col (n % 2 + 1) p q ≤ 2 := by
    intro q
    rcases Classical.em (q = p) with e | e
    · rw [e, ur_c1p]; omega
    · rw [ur_c1n e]; exact hc q
  refine ⟨h1, fun q => ?_⟩
  unfold ur_n2
  rcases Classical.em (ur_dd w h (ur_c1 col (n % 2 + 1) p) (2 - n % 2) q) with e | e
  · rw [ur_c2d e]; omega
  · rw [ur_c2n e]; exact h1 q
theorem ur_n2p {w h n p : Nat} {col : Nat → Nat} : ur_n2 w h col n p p = n % 2 + 1 := by
  unfold ur_n2
  rw [ur_c2n (fun d => by have := d.2.1; rw [ur_c1p] at this; omega), ur_c1p]
section
variable {w h n : Nat} {lm mc fr : Int32} {fu fc lc : Int64} {mv lB lW cC rC : Nat → Int32} {bA wA ch vr re rE rB al se ow : Nat → Int64}
/-- the bits of the stones after a play -/
theorem ux_je0 (P : ux_P w h (bA n) (wA n)) {p : Nat} (hN : w * h ≤ 49) (hp : p < w * h) (h0 : ux_col (bA n) (wA n) p = 0) :
    (∀ q, ub_t (ux_st (bA n) (wA n) (n % 2 + 1) ||| ((1 : Int64) <<< ((nI p).toInt64 &&& 63))) q ↔ q < w * h ∧ ur_c1 (ux_col (bA n) (wA n)) (n % 2 + 1) p q = n % 2 + 1) ∧
    (∀ q, ub_t (ux_st (bA n) (wA n) (2 - n % 2)) q ↔ q < w * h ∧ ur_c1 (ux_col (bA n) (wA n)) (n % 2 + 1) p q = 2 - n % 2) := by
  constructor
  · intro q
    rw [ub_orb (by omega), ux_stk P (by omega)]
    rcases Classical.em (q = p) with e | e
    · subst e
      rw [ur_c1p]
      exact ⟨fun _ => ⟨hp, rfl⟩, fun _ => Or.inr rfl⟩
    · rw [ur_c1n e]
      exact ⟨fun z => z.elim id fun y => absurd y e, Or.inl⟩
  · intro q
    rw [ux_stk P (by omega)]
    rcases Classical.em (q = p) with e | e
    · subst e
      rw [ur_c1p, h0]
      exact ⟨fun z => by omega, fun z => by omega⟩
    · rw [ur_c1n e]
/-- taken -/
theorem ux_je1 {c1 : Nat → Nat} {c o : Nat} (hco : (c = 1 ∧ o = 2) ∨ (c = 2 ∧ o = 1)) (h2 : ∀ q, c1 q ≤ 2) {own ot tk : Int64} (hown : ∀ q, ub_t own q ↔ q < w * h ∧ c1 q = c) (hot : ∀ q, ub_t ot q ↔ q < w * h ∧ c1 q = o)
    (ht : ∀ q, ub_t tk q ↔ ub_t ot q ∧ ¬ ∃ z, z < w * h ∧ ¬ ub_t own z ∧ ¬ ub_t ot z ∧ ∃ a, ug_R w h (ub_t ot) q a ∧ ug_ad w h z a) (q : Nat) : ub_t tk q ↔ ur_dd w h c1 o q := by
  unfold ur_dd
  rw [ht, hot, ← and_assoc]
  refine and_congr_right fun hq => ?_
  rw [ur_ln0]
  refine not_congr ?_
  have hC : ∀ a, ug_R w h (ub_t ot) q a ↔ ug_C w h c1 q a := by
    intro a
    unfold ug_C
    rw [hq.2]
    exact ug_Rc hot
  constructor
  · intro ⟨z, z1, z2, z3, a, z4, z5⟩
    rw [hown] at z2
    rw [hot] at z3
    have := h2 z
    refine ⟨z, z1, ?_, a, (hC a).mp z4, z5⟩
    have y2 : ¬ c1 z = c := fun e => z2 ⟨z1, e⟩
    have y3 : ¬ c1 z = o := fun e => z3 ⟨z1, e⟩
    omega
  · intro ⟨z, z1, z2, a, z4, z5⟩
    refine ⟨z, z1, fun y => ?_, fun y => ?_, a, (hC a).mpr z4, z5⟩
    · have := ((hown z).mp y).2; omega
    · have := ((hot z).mp y).2; omega
theorem ux_je2 {c1 : Nat → Nat} {c o : Nat} (hco : (c = 1 ∧ o = 2) ∨ (c = 2 ∧ o = 1)) {own ot tk : Int64} (hown : ∀ q, ub_t own q ↔ q < w * h ∧ c1 q = c) (hot : ∀ q, ub_t ot q ↔ q < w * h ∧ c1 q = o) (ht : ∀ q, ub_t tk q ↔ ur_dd w h c1 o q) :
    (∀ q, ub_t own q ↔ q < w * h ∧ ur_c2 w h c1 o q = c) ∧ (∀ q, ub_t (ot &&& (tk ^^^ (-1))) q ↔ q < w * h ∧ ur_c2 w h c1 o q = o) := by
  constructor
  · intro q
    rw [hown]
    refine and_congr_right fun hq => ?_
    rcases Classical.em (ur_dd w h c1 o q) with d | d
    · rw [ur_c2d d]
      have := d.2.1
      constructor <;> intro z <;> omega
    · rw [ur_c2n d]
  · intro q
    rw [ub_andn, hot, ht]
    rcases Classical.em (ur_dd w h c1 o q) with d | d
    · rw [ur_c2d d]
      exact ⟨fun z => absurd d z.2, fun z => by omega⟩
    · rw [ur_c2n d]
      exact ⟨fun z => z.1, fun z => ⟨z, d⟩⟩
/-- the position seen before -/
theorem ux_ko {c2 : Nat → Nat} {b v : Int64} (PP : ∀ k, k ≤ n → ux_P w h (bA k) (wA k)) (h2 : ∀ q, c2 q ≤ 2) (hb : ∀ q, ub_t b q ↔ q < w * h ∧ c2 q = 1) (hv : ∀ q, ub_t v q ↔ q < w * h ∧ c2 q = 2) : (∃ k, k ≤ n ∧ bA k = b ∧ wA k = v) ↔ ur_KO w h bA wA n c2 := by
  unfold ur_KO
  constructor
  · intro ⟨k, hk, e1, e2⟩
    refine ⟨k, hk, fun q hq => ?_⟩
    have P := PP k hk
    have i1 := ux_c1 (b := bA k) (v := wA k) (i := q)
    have i2 := ux_c2 (i := q) P
    rw [e1, e2, hb] at i1
    rw [e1, e2, hv] at i2
    have h3 := ux_c3 b v q
    have h4 := h2 q
    rw [e1, e2]
    rcases h3 with z | z | z
    · have y1 : ¬ c2 q = 1 := fun e => by have := i1.mpr ⟨hq, e⟩; omega
      have y2 : ¬ c2 q = 2 := fun e => by have := i2.mpr ⟨hq, e⟩; omega
      omega
    · rw [z]; exact (i1.mp z).2
    · rw [z]; exact (i2.mp z).2
  · intro ⟨k, hk, e⟩
    have P := PP k hk
    refine ⟨k, hk, ub_ext fun q => ?_, ub_ext fun q => ?_⟩
    · rw [hb]
      constructor
      · intro z
        exact ⟨P.1 q z, by rw [e q (P.1 q z)]; exact ux_c1.mpr z⟩
      · intro ⟨z1, z2⟩
        rw [e q z1] at z2
        exact ux_c1.mp z2
    · rw [hv]
      constructor
      · intro z
        exact ⟨P.2.1 q z, by rw [e q (P.2.1 q z)]; exact (ux_c2 P).mpr z⟩
      · intro ⟨z1, z2⟩
        rw [e q z1] at z2
        exact (ux_c2 P).mp z2
theorem ux_3m {n : Nat} : (3 : Int32) - nI (n % 2 + 1) = nI (2 - n % 2) := by
  rw [show (3 : Int32) - nI (n % 2 + 1) = nI (3 - (n % 2 + 1)) from pk_sub (a := 3) (by omega)]
  rw [show 3 - (n % 2 + 1) = 2 - n % 2 by omega]
theorem ux_je (g : ux_G w h fu fc lc) (PP : ∀ k, k ≤ n → ux_P w h (bA k) (wA k)) (hn : n ≤ 128) {p : Nat} (hp : p < w * h) (h0 : ux_col (bA n) (wA n) p = 0) {post : Int32 → Prop}
    (H : ∀ r, ur_JE w h bA wA n p r → post r) : wpX_judgeEffect post ((nI w), (nI (w * h)), lm, fu, fc, lc, nI n, fr, mv, bA, wA, lB, lW, ch, vr, re, rE, rB, cC, rC, al, se, ow) (nI p) := by
  have hN := ug_N g.1
  have P := PP n (Nat.le_refl n)
  have hc3 : ∀ q, ux_col (bA n) (wA n) q ≤ 2 := fun q => by have := ux_c3 (bA n) (wA n) q; omega
  have hco : (n % 2 + 1 = 1 ∧ 2 - n % 2 = 2) ∨ (n % 2 + 1 = 2 ∧ 2 - n % 2 = 1) := by omega
  obtain ⟨hown, hot⟩ := ux_je0 P hN.2 hp h0
  obtain ⟨hl1, hl2⟩ := ur_le2 (w := w) (h := h) (n := n) (p := p) hc3
  unfold wpX_judgeEffect
  dsimp only
  refine ux_turn hn (nm_e (ux_stones hn (by omega) (nm_e ?_)))
  rw [ux_3m]
  refine ux_stones hn (by omega) ?_
  refine ux_cap g (fun q hq => ((hot q).mp hq).1) (fun tk htk => ?_)
  have ht := ux_je1 hco hl1 hown hot htk
  obtain ⟨c2o, c2l⟩ := ux_je2 hco hown hot ht
  refine nm_e (ux_flood g (fun bd hbd => ?_) (fun q hq => ((hown q).mp hq).1))
  have hpo : ub_t (ux_st (bA n) (wA n) (n % 2 + 1) ||| ((1 : Int64) <<< ((nI p).toInt64 &&& 63))) p := (hown p).mpr ⟨hp, ur_c1p⟩
  have hbd2 : ∀ q, ub_t bd q ↔ ug_C w h (ur_n2 w h (ux_col (bA n) (wA n)) n p) p q := by
    intro q
    rw [hbd]
    unfold ug_C
    rw [ur_n2p]
    constructor
    · intro ⟨s, s1, _, s3⟩
      rw [ub_one (by omega)] at s1
      subst s1
      exact (ug_Rc c2o).mp s3
    · intro s3
      exact ⟨p, (ub_one (by omega) p).mpr rfl, hpo, (ug_Rc c2o).mpr s3⟩
  refine ux_nb g (fun nb hnb => nm_e ?_) (fun q hq => (ug_Ca ((hbd2 q).mp hq) hp).1)
  have hfree : nb &&& ((ux_st (bA n) (wA n) (n % 2 + 1) ||| ((1 : Int64) <<< ((nI p).toInt64 &&& 63)) ||| ux_st (bA n) (wA n) (2 - n % 2) &&& (tk ^^^ (-1))) ^^^ (-1)) = 0 ↔ ug_ln w h (ur_n2 w h (ux_col (bA n) (wA n)) n p) p = 0 := by
    rw [ub_eq0, ur_ln0]
    constructor
    · intro h1 ⟨z, z1, z2, a, z3, z4⟩
      refine h1 z ((ub_andn _ _ _).mpr ⟨(hnb z).mpr ⟨z1, a, (hbd2 a).mpr z3, z4⟩, fun y => ?_⟩)
      unfold ur_n2 at z2
      rcases (ub_or _ _ _).mp y with y | y
      · have := ((c2o z).mp y).2; omega
      · have := ((c2l z).mp y).2; omega
    · intro h1 z hz
      obtain ⟨y1, y2⟩ := (ub_andn _ _ _).mp hz
      obtain ⟨z1, a, z3, z4⟩ := (hnb z).mp y1
      refine h1 ⟨z, z1, ?_, a, (hbd2 a).mp z3, z4⟩
      rw [ub_or, not_or, c2o, c2l] at y2
      have := hl2 z
      unfold ur_n2 at this ⊢
      have y3 : ¬ ur_c2 w h (ur_c1 (ux_col (bA n) (wA n)) (n % 2 + 1) p) (2 - n % 2) z = n % 2 + 1 := fun e => y2.1 ⟨z1, e⟩
      have y4 : ¬ ur_c2 w h (ur_c1 (ux_col (bA n) (wA n)) (n % 2 + 1) p) (2 - n % 2) z = 2 - n % 2 := fun e => y2.2 ⟨z1, e⟩
      omega
  refine ek_if hfree (fun f0 => H _ (Or.inl ⟨f0, rfl⟩)) (fun f0 => ?_)
  have cnt : cn (ub_t tk) (w * h) = ur_tk w h (ux_col (bA n) (wA n)) n p := cn_eq fun q _ => ht q
  have j109 : ∀ z : Int32, (z = 0 ↔ ¬ ur_KO w h bA wA n (ur_n2 w h (ux_col (bA n) (wA n)) n p)) → wX_judgeEffect_109 post tk z (nI w) (nI (w * h)) lm fu fc lc (nI n) fr mv bA wA lB lW ch vr re rE rB cC rC al se ow := by
    intro z hz
    unfold wX_judgeEffect_109
    refine ek_if hz (fun k0 => ?_) (fun k0 => H _ (Or.inr (Or.inl ⟨f0, Classical.not_not.mp k0, rfl⟩)))
    refine ux_cbN (by omega) (fun q hq => ((ht q).mp hq).1) ?_
    rw [cnt]
    exact H _ (Or.inr (Or.inr ⟨f0, k0, rfl⟩))
  have c2o' : ∀ q, ub_t (ux_st (bA n) (wA n) (n % 2 + 1) ||| ((1 : Int64) <<< ((nI p).toInt64 &&& 63))) q ↔ q < w * h ∧ ur_n2 w h (ux_col (bA n) (wA n)) n p q = n % 2 + 1 := c2o
  have c2l' : ∀ q, ub_t (ux_st (bA n) (wA n) (2 - n % 2) &&& (tk ^^^ (-1))) q ↔ q < w * h ∧ ur_n2 w h (ux_col (bA n) (wA n)) n p q = 2 - n % 2 := c2l
  rcases hco with ⟨e1, e2⟩ | ⟨e1, e2⟩
  · have hko := ux_ko (c2 := ur_n2 w h (ux_col (bA n) (wA n)) n p) PP hl2 (fun q => (c2o' q).trans (and_congr_right fun _ => by rw [e1])) (fun q => (c2l' q).trans (and_congr_right fun _ => by rw [e2]))
    refine br_t (by rw [e1]; rfl) (ux_stood hn (fun k1 => j109 1 ⟨fun z => absurd z (by decide), fun z => absurd (hko.mp k1) z⟩) (fun k1 => j109 0 ⟨fun _ z => k1 (hko.mpr z), fun _ => rfl⟩))
  · have hko := ux_ko (c2 := ur_n2 w h (ux_col (bA n) (wA n)) n p) PP hl2 (fun q => (c2l' q).trans (and_congr_right fun _ => by rw [e2])) (fun q => (c2o' q).trans (and_congr_right fun _ => by rw [e1]))
    refine br_f (by rw [e1]; decide) (ux_stood hn (fun k1 => j109 1 ⟨fun z => absurd z (by decide), fun z => absurd (hko.mp k1) z⟩) (fun k1 => j109 0 ⟨fun _ z => k1 (hko.mpr z), fun _ => rfl⟩))
theorem ux_judge {lim : Nat} (g : ux_G w h fu fc lc) (PP : ∀ k, k ≤ n → ux_P w h (bA k) (wA k)) (hn : n ≤ 128) (hl : lim ≤ 128) {v : Int32} {post : Int32 → Prop}
    (H : ∀ r, ur_J w h lim n mv bA wA v r → post r) : wpX_judge post ((nI w), (nI (w * h)), nI lim, fu, fc, lc, nI n, fr, mv, bA, wA, lB, lW, ch, vr, re, rE, rB, cC, rC, al, se, ow) v := by
  have hN := ug_N g.1
  unfold wpX_judge
  dsimp only
  refine ux_isOver hn (fun o => br_f (by decide) (H _ (Or.inl ⟨o, rfl⟩))) (fun o => br_t rfl (pk_lt n lim (fun h1 => ?_) (fun h1 => H _ (Or.inr (Or.inl ⟨o, h1, rfl⟩)))))
  have out : (v < 0 ∨ nI (w * h) ≤ v) → wpX_onBoard (fun r_27 => (((r_27 = 0 → (post (-3))) ∧ (¬ r_27 = 0 → (wpX_colourAt (fun r_52 => (((r_52 = 0 → (wpX_judgeEffect (fun r_77 => (post r_77)) ((nI w), (nI (w * h)), nI lim, fu, fc, lc, nI n, fr, mv, bA, wA, lB, lW, ch, vr, re, rE, rB, cC, rC, al, se, ow) v)) ∧ (¬ r_52 = 0 → (post (-4)))))) ((nI w), (nI (w * h)), nI lim, fu, fc, lc, nI n, fr, mv, bA, wA, lB, lW, ch, vr, re, rE, rB, cC, rC, al, se, ow) v))))) ((nI w), (nI (w * h)), nI lim, fu, fc, lc, nI n, fr, mv, bA, wA, lB, lW, ch, vr, re, rE, rB, cC, rC, al, se, ow) v := fun z => ux_onBn z (br_t rfl (H _ (Or.inr (Or.inr (Or.inl ⟨o, h1, z, rfl⟩)))))
  rcases pk_ix v (n := w * h) (by omega) with z | z | ⟨p, hp, e⟩
  · exact out (Or.inl z)
  · exact out (Or.inr z)
  · subst e
    have hc3 := ux_c3 (bA n) (wA n) p
    refine ux_onB hN.2 hp (br_f (by decide) (ux_colAt hn (by omega) (pk_eq (ux_col (bA n) (wA n) p) 0 (fun h2 => ?_) (fun h2 => ?_))))
    · exact ux_je g PP hn hp h2 (fun r hr => H r (Or.inr (Or.inr (Or.inr ⟨o, h1, p, hp, rfl, Or.inr ⟨h2, hr⟩⟩))))
    · exact H _ (Or.inr (Or.inr (Or.inr ⟨o, h1, p, hp, rfl, Or.inl ⟨h2, rfl⟩⟩)))
end
end
section
/-! Y: check -/
def ur_Sm (w h : Nat) (c2 ck : Nat → Nat) (e : Nat) : Prop := ∀ q, q < e → q < w * h → c2 q = ck q
section
variable {w h : Nat} {lm fn : Int32} {ml pa bo na de li : Nat → Int32}
theorem uy_c224 {post : Int32 → SY → Prop} {J209 : Int32 → Prop} {rm : Int32} {k : Nat} {c2 ck : Nat → Nat} (g : ug_G w h) (hk : k ≤ 128) (hb : ∀ q, q < w * h → bo q = nI (c2 q)) (hc : ∀ q, c2 q ≤ 2) (hp : ∀ q, q < w * h → pa (k * 49 + q) = nI (ck q)) (hck : ∀ q, ck q ≤ 2)
    (H1 : ur_Sm w h c2 ck (w * h) → post (-6) ((nI w), (nI h), lm, fn, ml, pa, bo, na, de, li)) (H0 : ¬ ur_Sm w h c2 ck (w * h) → J209 (nI (k + 1))) :
    ∀ (m q : Nat) (fl : Int32), w * h - q < m → q ≤ w * h → ((fl = 1 ∧ ur_Sm w h c2 ck q) ∨ (fl = 0 ∧ ¬ ur_Sm w h c2 ck q)) → wY_check_224 post J209 rm (nI k) (nI w) (nI h) lm fn ml pa bo na de li m fl (nI q) := by
  intro m
  have hN := ug_N g
  induction m with
  | zero => intro q fl h1; omega
  | succ m ih =>
    intro q fl h1 h2 D
    rcases Nat.lt_or_ge q (w * h) with hq | hq
    · refine br_f (by rw [pk_mul]; exact nI_ge hq (by omega)) ?_
      have h3 := hc q
      have h4 := hck q
      rcases D with ⟨e, D⟩ | ⟨e, D⟩
      · subst e
        refine br_f (by decide) ?_
        rw [uy_ix, nI_clamp (show q < 2 ^ 31 by omega), nI_clamp (show k * 49 + q < 2 ^ 31 by omega), hb q hq, hp q hq]
        refine ⟨pk_in q 49 (by omega), vp_in_nI (by omega) (by decide), pk_eq (c2 q) (ck q) (fun h5 => nm_r (nI_1 q) (ih (q + 1) 1 (by omega) (by omega) (Or.inl ⟨rfl, fun z z1 z2 => ?_⟩))) (fun h5 => nm_r (nI_1 q) (ih (q + 1) 0 (by omega) (by omega) (Or.inr ⟨rfl, fun s => h5 (s q (by omega) hq)⟩)))⟩
        rcases Nat.lt_or_ge z q with y | y
        · exact D z y z2
        · have e : z = q := by omega
          subst e
          exact h5
      · subst e
        exact br_t rfl (nm_r (nI_1 q) (ih (q + 1) 0 (by omega) (by omega) (Or.inr ⟨rfl, fun s => D fun z z1 z2 => s z (by omega) z2⟩)))
    · have e : q = w * h := by omega
      subst e
      refine br_t (by rw [pk_mul]; exact nI_le (Nat.le_refl _) (by omega)) ?_
      rcases D with ⟨e, D⟩ | ⟨e, D⟩
      · subst e
        exact br_f (by decide) (H1 D)
      · subst e
        exact br_t rfl (nm_r (nI_1 k) (H0 D))
theorem uy_c209 {post : Int32 → SY → Prop} {n : Nat} {bA wA : Nat → Int64} {rm : Int32} {c2 : Nat → Nat} (g : ug_G w h) (hn : n ≤ 128) (hb : ∀ q, q < w * h → bo q = nI (c2 q)) (hc : ∀ q, c2 q ≤ 2) (hp : ∀ k, k ≤ n → ∀ q, q < w * h → pa (k * 49 + q) = nI (ux_col (bA k) (wA k) q))
    (H1 : ur_KO w h bA wA n c2 → post (-6) ((nI w), (nI h), lm, nI n, ml, pa, bo, na, de, li)) (H0 : ¬ ur_KO w h bA wA n c2 → post rm ((nI w), (nI h), lm, nI n, ml, pa, bo, na, de, li)) :
    ∀ (m k : Nat), n + 1 - k < m → k ≤ n + 1 → (∀ j, j < k → ¬ ur_Sm w h c2 (ux_col (bA j) (wA j)) (w * h)) → wY_check_209 post rm (nI w) (nI h) lm (nI n) ml pa bo na de li m (nI k) := by
  intro m
  have hN := ug_N g
  induction m with
  | zero => intro k h1; omega
  | succ m ih =>
    intro k h1 h2 D
    refine pk_lt n k (fun h3 => H0 fun ⟨j, j1, j2⟩ => D j (by omega) fun q _ hq => j2 q hq) (fun h3 => ⟨w * h + 1, ?_⟩)
    have hck : ∀ q, ux_col (bA k) (wA k) q ≤ 2 := fun q => by have := ux_c3 (bA k) (wA k) q; omega
    refine uy_c224 g (by omega) hb hc (hp k h3) hck (fun s => H1 ⟨k, h3, fun q hq => s q hq hq⟩) (fun s => ih (k + 1) (by omega) (by omega) (fun j hj => ?_)) (w * h + 1) 0 1 (by omega) (by omega) (Or.inl ⟨rfl, fun z z1 => by omega⟩)
    rcases Nat.lt_or_ge j k with y | y
    · exact D j y
    · have e : j = k := by omega
      subst e
      exact s
theorem uy_c144 {post : Int32 → SY → Prop} {n p o : Nat} {bA wA : Nat → Int64} {c1 : Nat → Nat} (g : ug_G w h) (hn : n ≤ 128) (hpp : p < w * h) (hc : ∀ q, c1 q ≤ 2) (hde : ∀ q, q < w * h → (de q = 0 ↔ ¬ ur_dd w h c1 o q)) (hp : ∀ k, k ≤ n → ∀ q, q < w * h → pa (k * 49 + q) = nI (ux_col (bA k) (wA k) q))
    (H : ∀ r bo' na', ((ug_ln w h (ur_c2 w h c1 o) p = 0 ∧ r = -5) ∨ (ug_ln w h (ur_c2 w h c1 o) p ≠ 0 ∧ ur_KO w h bA wA n (ur_c2 w h c1 o) ∧ r = -6) ∨ (ug_ln w h (ur_c2 w h c1 o) p ≠ 0 ∧ ¬ ur_KO w h bA wA n (ur_c2 w h c1 o) ∧ r = nI (cn (ur_dd w h c1 o) (w * h)))) → (∀ q, q < w * h → bo' q = nI (ur_c2 w h c1 o q)) → post r ((nI w), (nI h), lm, nI n, ml, pa, bo', na', de, li)) :
    ∀ (m q : Nat) (bo : Nat → Int32), w * h - q < m → q ≤ w * h → (∀ z, z < w * h → z < q → bo z = nI (ur_c2 w h c1 o z)) → (∀ z, z < w * h → q ≤ z → bo z = nI (c1 z)) → wY_check_144 post (nI p) (nI w) (nI h) lm (nI n) m (nI (cn (ur_dd w h c1 o) q)) (nI q) ml pa bo na de li := by
  intro m
  have hN := ug_N g
  have hc2 : ∀ q, ur_c2 w h c1 o q ≤ 2 := by
    intro q
    rcases Classical.em (ur_dd w h c1 o q) with d | d
    · rw [ur_c2d d]; omega
    · rw [ur_c2n d]; exact hc q
  induction m with
  | zero => intro q bo h1; omega
  | succ m ih =>
    intro q bo h1 h2 D1 D2
    rcases Nat.lt_or_ge q (w * h) with hq | hq
    · refine br_f (by rw [pk_mul]; exact nI_ge hq (by omega)) ?_
      rw [nI_clamp (show q < 2 ^ 31 by omega)]
      refine ⟨pk_in q 49 (by omega), ek_if (hde q hq) (fun d => ?_) (fun d => ⟨pk_in q 49 (by omega), nm_e ?_⟩)⟩
      · have ih2 := ih (q + 1) bo (by omega) (by omega) (fun z z1 z2 => by
          rcases Nat.lt_or_ge z q with y | y
          · exact D1 z z1 y
          · have e : z = q := by omega
            subst e
            rw [ur_c2n d]; exact D2 z z1 (by omega)) (fun z z1 z2 => D2 z z1 (by omega))
        rw [cn_S, b01_f d] at ih2
        exact nm_r (nI_1 q) ih2
      · have d2 := Classical.not_not.mp d
        have ih2 := ih (q + 1) (upd bo q 0) (by omega) (by omega) (fun z z1 z2 => by
          rcases Nat.lt_or_ge z q with y | y
          · rw [pk_un (by omega)]; exact D1 z z1 y
          · have e : z = q := by omega
            subst e
            rw [ur_c2d d2, pk_us]; rfl) (fun z z1 z2 => by rw [pk_un (by omega)]; exact D2 z z1 (by omega))
        rw [cn_S, b01_t d2] at ih2
        exact nm_r (nI_1 _) (nm_r (nI_1 q) ih2)
    · have e : q = w * h := by omega
      subst e
      have hbo : ∀ z, z < w * h → bo z = nI (ur_c2 w h c1 o z) := fun z hz => D1 z hz hz
      refine br_t (by rw [pk_mul]; exact nI_le (Nat.le_refl _) (by omega)) ?_
      refine uy_names (k := 0) g hbo hc2 (by omega) (fun na' M0 _ => ?_)
      dsimp only
      rw [nI_clamp (show p < 2 ^ 31 by omega)]
      refine ⟨pk_in p 147 (by omega), uy_libp g hbo hc2 M0 hpp ?_⟩
      have hle : ug_ln w h (ur_c2 w h c1 o) p ≤ w * h := cn_le _ _
      refine pk_eq (ug_ln w h (ur_c2 w h c1 o) p) 0 (fun l0 => H _ bo na' (Or.inl ⟨l0, rfl⟩) hbo) (fun l0 => ⟨n + 2, ?_⟩)
      exact uy_c209 g hn hbo hc2 hp (fun ko => H _ bo na' (Or.inr (Or.inl ⟨l0, ko, rfl⟩)) hbo) (fun ko => H _ bo na' (Or.inr (Or.inr ⟨l0, ko, rfl⟩)) hbo) (n + 2) 0 (by omega) (by omega) (fun j hj => by omega)
theorem uy_c82 {post : Int32 → SY → Prop} {n p c o : Nat} {bA wA : Nat → Int64} {c1 : Nat → Nat} (g : ug_G w h) (hn : n ≤ 128) (hpp : p < w * h) (hc : ∀ q, c1 q ≤ 2) (hb : ∀ q, q < w * h → bo q = nI (c1 q)) (M0 : uy_NM w h c1 0 na) (hco : (3 : Int32) - nI c = nI o) (ho : o ≤ 2) (hp : ∀ k, k ≤ n → ∀ q, q < w * h → pa (k * 49 + q) = nI (ux_col (bA k) (wA k) q))
    (H : ∀ r bo' na' de', ((ug_ln w h (ur_c2 w h c1 o) p = 0 ∧ r = -5) ∨ (ug_ln w h (ur_c2 w h c1 o) p ≠ 0 ∧ ur_KO w h bA wA n (ur_c2 w h c1 o) ∧ r = -6) ∨ (ug_ln w h (ur_c2 w h c1 o) p ≠ 0 ∧ ¬ ur_KO w h bA wA n (ur_c2 w h c1 o) ∧ r = nI (cn (ur_dd w h c1 o) (w * h)))) → (∀ q, q < w * h → bo' q = nI (ur_c2 w h c1 o q)) → post r ((nI w), (nI h), lm, nI n, ml, pa, bo', na', de', li)) :
    ∀ (m q : Nat) (de : Nat → Int32), w * h - q < m → q ≤ w * h → (∀ z, z < q → (de z = 0 ↔ ¬ ur_dd w h c1 o z)) → wY_check_82 post (nI p) (nI c) 0 (nI w) (nI h) lm (nI n) m (nI q) ml pa bo na de li := by
  intro m
  have hN := ug_N g
  induction m with
  | zero => intro q de h1; omega
  | succ m ih =>
    intro q de h1 h2 D
    rcases Nat.lt_or_ge q (w * h) with hq | hq
    · refine br_f (by rw [pk_mul]; exact nI_ge hq (by omega)) ?_
      have hcq := hc q
      rw [nI_clamp (show q < 2 ^ 31 by omega), hb q hq, hco]
      have step : ∀ v : Int32, (v = 0 ↔ ¬ ur_dd w h c1 o q) → wY_check_82 post (nI p) (nI c) 0 (nI w) (nI h) lm (nI n) m (nI (q + 1)) ml pa bo na (upd de q v) li := by
        intro v hv
        refine ih (q + 1) _ (by omega) (by omega) (fun z hz => ?_)
        rcases Nat.lt_or_ge z q with y | y
        · rw [pk_un (by omega)]; exact D z y
        · have e : z = q := by omega
          subst e
          rw [pk_us]; exact hv
      have hin : vp_in (nI q) 49 := pk_in q 49 (by omega)
      have hle : ug_ln w h c1 q ≤ w * h := cn_le _ _
      refine ⟨hin, pk_eq (c1 q) o (fun h3 => ⟨pk_in q 147 (by omega), uy_libp g hb hc M0 hq ?_⟩) (fun h3 => ⟨hin, nm_r (e' := upd de q 0) rfl (nm_r (nI_1 q) (step 0 ⟨fun _ d => h3 d.2.1, fun _ => rfl⟩))⟩)⟩
      refine pk_eq (ug_ln w h c1 q) 0 (fun l0 => ⟨hin, nm_r (e' := upd de q 1) rfl (nm_r (nI_1 q) (step 1 ⟨fun z => absurd z (by decide), fun z => absurd ⟨hq, h3, l0⟩ z⟩))⟩) (fun l0 => ⟨hin, nm_r (e' := upd de q 0) rfl (nm_r (nI_1 q) (step 0 ⟨fun _ d => l0 d.2.2, fun _ => rfl⟩))⟩)
    · have e : q = w * h := by omega
      subst e
      refine br_t (by rw [pk_mul]; exact nI_le (Nat.le_refl _) (by omega)) ⟨w * h + 1, ?_⟩
      exact uy_c144 g hn hpp hc D hp (fun r bo' na' k1 k2 => H r bo' na' de k1 k2) (w * h + 1) 0 bo (by omega) (by omega) (fun z z1 z2 => by omega) (fun z z1 _ => hb z z1)
theorem uy_check {post : Int32 → SY → Prop} {n lim : Nat} {bA wA : Nat → Int64} {v : Int32} (g : ug_G w h) (hn : n ≤ 128) (hl : lim ≤ 128) (hp : ∀ k, k ≤ n → ∀ q, q < w * h → pa (k * 49 + q) = nI (ux_col (bA k) (wA k) q))
    (H : ∀ r bo' na' de', ur_J w h lim n ml bA wA v r → (∀ p, p < w * h → v = nI p → 0 ≤ r → n < lim ∧ ux_col (bA n) (wA n) p = 0 ∧ r = nI (ur_tk w h (ux_col (bA n) (wA n)) n p) ∧ ∀ q, q < w * h → bo' q = nI (ur_n2 w h (ux_col (bA n) (wA n)) n p q)) → post r ((nI w), (nI h), nI lim, nI n, ml, pa, bo', na', de', li)) : wpY_check post ((nI w), (nI h), nI lim, nI n, ml, pa, bo, na, de, li) v := by
  have hN := ug_N g
  have hc3 : ∀ q, ux_col (bA n) (wA n) q ≤ 2 := fun q => by have := ux_c3 (bA n) (wA n) q; omega
  have neg : ∀ {r : Int32} {Q : Prop}, ¬ 0 ≤ r → 0 ≤ r → Q := fun a b => absurd b a
  unfold wpY_check
  dsimp only
  refine uy_over hn (fun ov => br_f (by decide) (H _ bo na de (Or.inl ⟨ov, rfl⟩) (fun _ _ _ => neg (by decide)))) (fun ov => br_t rfl (pk_lt n lim (fun h1 => ?_) (fun h1 => H _ bo na de (Or.inr (Or.inl ⟨ov, h1, rfl⟩)) (fun _ _ _ => neg (by decide)))))
  rcases Classical.em (v < 0 ∨ nI (w * h) ≤ v) with z | z
  · exact uy_onBn z (br_t rfl (H _ bo na de (Or.inr (Or.inr (Or.inl ⟨ov, h1, z, rfl⟩))) (fun _ _ _ => neg (by decide))))
  · have hex : ∃ p, p < w * h ∧ v = nI p := by
      rcases pk_ix v (n := w * h) (by omega) with y | y | y
      · exact absurd (Or.inl y) z
      · exact absurd (Or.inr y) z
      · exact y
    obtain ⟨p, hpp, e⟩ := hex
    subst e
    refine uy_onB hN.2 hpp (br_f (by decide) (uy_load g hn (hp n (Nat.le_refl n)) hc3 (fun bo1 na1 hb1 M1 => ?_)))
    have hcp := hc3 p
    dsimp only
    rw [nI_clamp (show p < 2 ^ 31 by omega), hb1 p hpp]
    refine ⟨pk_in p 49 (by omega), pk_eq (ux_col (bA n) (wA n) p) 0 (fun h0 => ⟨by decide, ?_⟩) (fun h0 => H _ bo1 na1 de (Or.inr (Or.inr (Or.inr ⟨ov, h1, p, hpp, rfl, Or.inl ⟨h0, rfl⟩⟩))) (fun _ _ _ => neg (by decide)))⟩
    have hrem : nI n - nI n / 2 * 2 = nI (n % 2) := pk_rem (d := 2) (by omega) (by decide) (by decide)
    rw [hrem]
    have hl1 := (ur_le2 (w := w) (h := h) (n := n) (p := p) hc3).1
    have go : wY_check_64 post (nI p) (nI (n % 2 + 1)) (nI w) (nI h) (nI lim) (nI n) ml pa bo1 na1 de li := by
      unfold wY_check_64
      rw [nI_clamp (show p < 2 ^ 31 by omega)]
      have hb2 : ∀ q, q < w * h → upd bo1 p (nI (n % 2 + 1)) q = nI (ur_c1 (ux_col (bA n) (wA n)) (n % 2 + 1) p q) := by
        intro q hq
        rcases Classical.em (q = p) with e | e
        · rw [e, pk_us, ur_c1p]
        · rw [pk_un e, ur_c1n e]; exact hb1 q hq
      refine ⟨pk_in p 49 (by omega), nm_e (uy_names (k := 0) g hb2 hl1 (by omega) (fun na2 M2 _ => ⟨w * h + 1, ?_⟩))⟩
      refine uy_c82 g hn hpp hl1 hb2 M2 ux_3m (by omega) hp (fun r bo' na' de' k1 k2 => H r bo' na' de' (Or.inr (Or.inr (Or.inr ⟨ov, h1, p, hpp, rfl, Or.inr ⟨h0, k1⟩⟩))) (fun p' hp' e' hr => ?_)) (w * h + 1) 0 de (by omega) (by omega) (fun z hz => by omega)
      rw [nI_eq (by omega) (by omega)] at e'
      subst e'
      refine ⟨h1, h0, ?_, k2⟩
      rcases k1 with ⟨_, y⟩ | ⟨_, _, y⟩ | ⟨_, _, y⟩
      · rw [y] at hr
        exact absurd hr (by decide)
      · rw [y] at hr
        exact absurd hr (by decide)
      · exact y
    refine pk_eq (n % 2) 0 (fun e => ?_) (fun e => ?_)
    · rw [e] at go; exact go
    · rw [show n % 2 = 1 by omega] at go; exact go
theorem uy_add2 {post : SY → Prop} {n : Nat} {wh : Int32} (g : ug_G w h) (hn : n < 128) {pa0 : Nat → Int32} (H : ∀ pa', (∀ q, q < w * h → pa' ((n + 1) * 49 + q) = bo q) → (∀ j, (∀ q, q < w * h → j ≠ (n + 1) * 49 + q) → pa' j = pa0 j) → post ((nI w), (nI h), lm, nI (n + 1), upd ml n wh, pa', bo, na, de, li)) :
    ∀ (m p : Nat) (pa : Nat → Int32), w * h - p < m → p ≤ w * h → (∀ q, q < p → pa ((n + 1) * 49 + q) = bo q) → (∀ j, (∀ q, q < w * h → j ≠ (n + 1) * 49 + q) → pa j = pa0 j) → wY_add_2 post wh (nI w) (nI h) lm (nI n) m (nI p) ml pa bo na de li := by
  intro m
  have hN := ug_N g
  induction m with
  | zero => intro p pa h1; omega
  | succ m ih =>
    intro p pa h1 h2 h3 h4
    rcases Nat.lt_or_ge p (w * h) with hq | hq
    · refine br_f (by rw [pk_mul]; exact nI_ge hq (by omega)) ?_
      rw [nI_1 n, uy_ix, nI_clamp (show (n + 1) * 49 + p < 2 ^ 31 by omega), nI_clamp (show p < 2 ^ 31 by omega)]
      refine ⟨pk_in p 49 (by omega), vp_in_nI (by omega) (by decide), nm_e (nm_r (nI_1 p) (ih (p + 1) _ (by omega) (by omega) (fun q hq2 => ?_) (fun j hj => ?_)))⟩
      · rcases Nat.lt_or_ge q p with z | z
        · rw [pk_un (by omega)]; exact h3 q z
        · have e : q = p := by omega
          subst e
          exact pk_us
      · rw [pk_un (hj p hq)]; exact h4 j hj
    · have e : p = w * h := by omega
      subst e
      refine br_t (by rw [pk_mul]; exact nI_le (Nat.le_refl _) (by omega)) ⟨pk_in n 128 (by omega), nm_r (e' := upd ml n wh) (by rw [nI_clamp (by omega)]) (nm_r (nI_1 n) (H pa h3 h4))⟩
theorem uy_add {post : SY → Prop} {n : Nat} {wh : Int32} (g : ug_G w h) (hn : n < 128) (H : ∀ pa', (∀ q, q < w * h → pa' ((n + 1) * 49 + q) = bo q) → (∀ j, (∀ q, q < w * h → j ≠ (n + 1) * 49 + q) → pa' j = pa j) → post ((nI w), (nI h), lm, nI (n + 1), upd ml n wh, pa', bo, na, de, li)) : wpY_add post ((nI w), (nI h), lm, nI n, ml, pa, bo, na, de, li) wh :=
  ⟨w * h + 1, uy_add2 g hn H (w * h + 1) 0 pa (by omega) (by omega) (fun q hq => by omega) (fun _ _ => rfl)⟩
def ur_lost (pa : Nat → Int32) (c i : Nat) : Prop := pa i = nI c ∧ pa (i + 49) = 0
theorem uy_pr16 {post : Int32 → Prop} {n c : Nat} (hn : n ≤ 128) (H : post (nI (cn (ur_lost pa c) (n * 49)))) :
    ∀ (m i : Nat), n * 49 - i < m → i ≤ n * 49 → wY_prisoners_16 post (nI c) (nI w) (nI h) lm (nI n) ml pa bo na de li m (nI (cn (ur_lost pa c) i)) (nI i) := by
  intro m
  induction m with
  | zero => intro i h1; omega
  | succ m ih =>
    intro i h1 h2
    have e49 : nI n * 49 = nI (n * 49) := pk_mul n 49
    rcases Nat.lt_or_ge i (n * 49) with hq | hq
    · refine br_f (by rw [e49]; exact nI_ge hq (by omega)) ?_
      have ih2 := ih (i + 1) (by omega) (by omega)
      rw [cn_S] at ih2
      rw [show nI i + 49 = nI (i + 49) from nI_add i 49, nI_clamp (show i < 2 ^ 31 by omega), nI_clamp (show i + 49 < 2 ^ 31 by omega)]
      refine ⟨vp_in_nI (by omega) (by decide), br_c (fun h3 => ⟨vp_in_nI (by omega) (by decide), br_c (fun h4 => ?_) (fun h4 => ?_)⟩) (fun h3 => ?_)⟩
      · rw [b01_t ⟨h3, h4⟩] at ih2
        exact nm_r (nI_1 _) (nm_r (nI_1 i) ih2)
      · rw [b01_f (fun z => h4 z.2)] at ih2
        exact nm_r (nI_1 i) ih2
      · rw [b01_f (fun z => h3 z.1)] at ih2
        exact nm_r (nI_1 i) ih2
    · have e : i = n * 49 := by omega
      subst e
      exact br_t (by rw [e49]; exact nI_le (Nat.le_refl _) (by omega)) H
end
end
section
/-! the relation -/
def ur_F (w h lim n : Nat) (fr : Int32) (fu fc lc : Int64) (mv lB lW : Nat → Int32) (bA wA ch vr : Nat → Int64) (cC : Nat → Int32) (al ow : Nat → Int64) (pa : Nat → Int32) : Prop :=
  ux_G w h fu fc lc ∧ (8 ≤ lim ∧ lim ≤ 128 ∧ n ≤ lim) ∧ (∀ k, k ≤ n → ux_P w h (bA k) (wA k)) ∧
  (∀ k, k ≤ n → ∀ q, q < w * h → pa (k * 49 + q) = nI (ux_col (bA k) (wA k) q)) ∧
  (∀ k q, w * h ≤ q → q < 49 → pa (k * 49 + q) = 0) ∧
  (∀ k, k ≤ n → lB k = nI (cn (ur_lost pa 1) (k * 49)) ∧ lW k = nI (cn (ur_lost pa 2) (k * 49))) ∧
  (∀ k, k < n → mv k = -8 → bA (k + 1) = bA k ∧ wA (k + 1) = wA k) ∧
  (fr = 0 ∨ ux_FR w h (ux_col (bA n) (wA n)) ch vr cC al ow)
/-- the relation at the head of a turn -/
def i_Rel (k : Nat) (u : SX) (v : SY) : Prop := match u, v with
  | (xw, xs, xl, fu, fc, lc, xn, fr, mv, bA, wA, lB, lW, ch, vr, _, _, _, cC, _, al, _, ow), (yw, yh, yl, yn, ml, pa, _, _, _, _) =>
    ∃ w h lim n : Nat, (xw = nI w ∧ xs = nI (w * h) ∧ xl = nI lim ∧ xn = nI n ∧ yw = nI w ∧ yh = nI h ∧ yl = nI lim ∧ yn = nI n ∧ ml = mv) ∧ ur_F w h lim n fr fu fc lc mv lB lW bA wA ch vr cC al ow pa
section
variable {w h n lim k : Nat} {fr : Int32} {fu fc lc : Int64} {mv lB lW cC rC : Nat → Int32} {bA wA ch vr re rE rB al se ow : Nat → Int64} {pa bo na de li : Nat → Int32}
theorem ur_in (F : ur_F w h lim n fr fu fc lc mv lB lW bA wA ch vr cC al ow pa) : i_Rel k ((nI w), (nI (w * h)), nI lim, fu, fc, lc, nI n, fr, mv, bA, wA, lB, lW, ch, vr, re, rE, rB, cC, rC, al, se, ow) ((nI w), (nI h), nI lim, nI n, mv, pa, bo, na, de, li) := by
  unfold i_Rel
  exact ⟨w, h, lim, n, ⟨rfl, rfl, rfl, rfl, rfl, rfl, rfl, rfl, rfl⟩, F⟩
end
theorem ur_el {k : Nat} {u : SX} {v : SY} {Q : SX → SY → Prop} (I : i_Rel k u v)
    (H : ∀ (w h lim n : Nat) (fr : Int32) (fu fc lc : Int64) (mv : Nat → Int32) (bA wA : Nat → Int64) (lB lW : Nat → Int32) (ch vr re rE rB : Nat → Int64) (cC rC : Nat → Int32) (al se ow : Nat → Int64) (pa bo na de li : Nat → Int32), ur_F w h lim n fr fu fc lc mv lB lW bA wA ch vr cC al ow pa → Q ((nI w), (nI (w * h)), nI lim, fu, fc, lc, nI n, fr, mv, bA, wA, lB, lW, ch, vr, re, rE, rB, cC, rC, al, se, ow) ((nI w), (nI h), nI lim, nI n, mv, pa, bo, na, de, li)) : Q u v := by
  obtain ⟨xw, xs, xl, fu, fc, lc, xn, fr, mv, bA, wA, lB, lW, ch, vr, re, rE, rB, cC, rC, al, se, ow⟩ := u
  obtain ⟨yw, yh, yl, yn, ml, pa, bo, na, de, li⟩ := v
  obtain ⟨w, h, lim, n, ⟨e1, e2, e3, e4, e5, e6, e7, e8, e9⟩, F⟩ := I
  subst e1 e2 e3 e4 e5 e6 e7 e8 e9
  exact H _ _ _ _ _ _ _ _ _ _ _ _ _ _ _ _ _ _ _ _ _ _ _ _ _ _ _ _ F
theorem i_up {k : Nat} {u : SX} {v : SY} (h : i_Rel k u v) : i_Rel (k + 2) u v := h
section
variable {w h n lim : Nat} {fr : Int32} {fu fc lc : Int64} {mv lB lW cC : Nat → Int32} {bA wA ch vr al ow : Nat → Int64} {pa : Nat → Int32}
theorem ur_lostS {pa' : Nat → Int32} {col col' : Nat → Nat} {c : Nat} (hN : w * h ≤ 49) (hc : c = 1 ∨ c = 2) (h2 : ∀ q, col q ≤ 2) (h3 : ∀ q, col' q ≤ 2) (hr : ∀ q, q < w * h → pa (n * 49 + q) = nI (col q)) (hz : ∀ q, w * h ≤ q → q < 49 → pa (n * 49 + q) = 0)
    (hrow : ∀ q, q < w * h → pa' ((n + 1) * 49 + q) = nI (col' q)) (hkeep : ∀ j, (∀ q, q < w * h → j ≠ (n + 1) * 49 + q) → pa' j = pa j) :
    cn (ur_lost pa' c) ((n + 1) * 49) = cn (ur_lost pa c) (n * 49) + cn (fun q => col q = c ∧ col' q = 0) (w * h) := by
  rw [show (n + 1) * 49 = n * 49 + 49 by omega, cn_split]
  have e1 : cn (ur_lost pa' c) (n * 49) = cn (ur_lost pa c) (n * 49) := cn_eq fun i hi => by
    unfold ur_lost
    rw [hkeep i (fun q hq => by omega), hkeep (i + 49) (fun q hq => by omega)]
  have e2 : cn (fun i => ur_lost pa' c (n * 49 + i)) 49 = cn (fun q => col q = c ∧ col' q = 0) (w * h) := by
    have e3 : cn (fun i => ur_lost pa' c (n * 49 + i)) (w * h + (49 - w * h)) = cn (fun i => ur_lost pa' c (n * 49 + i)) (w * h) + cn (fun i => ur_lost pa' c (n * 49 + (w * h + i))) (49 - w * h) := cn_split (fun i => ur_lost pa' c (n * 49 + i)) (w * h) (49 - w * h)
    rw [show w * h + (49 - w * h) = 49 by omega] at e3
    rw [e3, cn_z (P := fun i => ur_lost pa' c (n * 49 + (w * h + i))) (fun i hi z => ?_), Nat.add_zero]
    · apply cn_eq
      intro q hq
      have hcq := h2 q
      have hcq' := h3 q
      unfold ur_lost
      rw [hkeep (n * 49 + q) (fun q' hq' => by omega), hr q hq, show n * 49 + q + 49 = (n + 1) * 49 + q by omega, hrow q hq, nI_eq (by omega) (by omega)]
      refine and_congr_right fun _ => ?_
      exact nI_eq (b := 0) (by omega) (by omega)
    · have z1 := z.1
      rw [hkeep _ (fun q' hq' => by omega), hz _ (by omega) (by omega)] at z1
      have := (nI_eq (a := 0) (b := c) (by omega) (by omega)).mp z1
      omega
  rw [e1, e2]
theorem ur_step {b v : Int64} {wh fr' : Int32} {pa' : Nat → Int32} {dB dW : Nat} (F : ur_F w h lim n fr fu fc lc mv lB lW bA wA ch vr cC al ow pa) (hn : n < lim) (P : ux_P w h b v)
    (hrow : ∀ q, q < w * h → pa' ((n + 1) * 49 + q) = nI (ux_col b v q)) (hkeep : ∀ j, (∀ q, q < w * h → j ≠ (n + 1) * 49 + q) → pa' j = pa j)
    (hB : cn (fun q => ux_col (bA n) (wA n) q = 1 ∧ ux_col b v q = 0) (w * h) = dB) (hW : cn (fun q => ux_col (bA n) (wA n) q = 2 ∧ ux_col b v q = 0) (w * h) = dW)
    (hps : wh = -8 → b = bA n ∧ v = wA n) (hfr : fr' = 0 ∨ ux_FR w h (ux_col b v) ch vr cC al ow) :
    ur_F w h lim (n + 1) fr' fu fc lc (upd mv n wh) (upd lB (n + 1) (lB n + nI dB)) (upd lW (n + 1) (lW n + nI dW)) (vp_updL bA (n + 1) b) (vp_updL wA (n + 1) v) ch vr cC al ow pa' := by
  obtain ⟨g, ⟨l8, l128, nl⟩, PP, hp, hz, hlost, hpass, _⟩ := F
  have hN := ug_N g.1
  have hc3 : ∀ b v q, ux_col b v q ≤ 2 := fun b v q => by have := ux_c3 b v q; omega
  have lo : ∀ c, c = 1 ∨ c = 2 → cn (ur_lost pa' c) ((n + 1) * 49) = cn (ur_lost pa c) (n * 49) + cn (fun q => ux_col (bA n) (wA n) q = c ∧ ux_col b v q = 0) (w * h) := fun c hc => ur_lostS hN.2 hc (hc3 _ _) (hc3 _ _) (hp n (Nat.le_refl n)) (hz n) hrow hkeep
  have lk : ∀ c k, k ≤ n → cn (ur_lost pa' c) (k * 49) = cn (ur_lost pa c) (k * 49) := fun c k hk => cn_eq fun i hi => by
    unfold ur_lost
    rw [hkeep i (fun q hq => by omega), hkeep (i + 49) (fun q hq => by omega)]
  refine ⟨g, ⟨l8, l128, by omega⟩, fun k hk => ?_, fun k hk q hq => ?_, fun k q h1 h2 => ?_, fun k hk => ?_, fun k hk he => ?_, ?_⟩
  · rcases Nat.lt_or_ge k (n + 1) with z | z
    · rw [pk_uLn (by omega), pk_uLn (by omega)]; exact PP k (by omega)
    · have e : k = n + 1 := by omega
      subst e
      rw [pk_uLs, pk_uLs]; exact P
  · rcases Nat.lt_or_ge k (n + 1) with z | z
    · rw [pk_uLn (by omega), pk_uLn (by omega), hkeep _ (fun q' hq' => by omega)]; exact hp k (by omega) q hq
    · have e : k = n + 1 := by omega
      subst e
      rw [pk_uLs, pk_uLs]; exact hrow q hq
  · rw [hkeep _ (fun q' hq' => by omega)]; exact hz k q h1 h2
  · rcases Nat.lt_or_ge k (n + 1) with z | z
    · rw [pk_un (by omega), pk_un (by omega), lk 1 k (by omega), lk 2 k (by omega)]; exact hlost k (by omega)
    · have e : k = n + 1 := by omega
      subst e
      have hl := hlost n (Nat.le_refl n)
      rw [pk_us, pk_us, lo 1 (Or.inl rfl), lo 2 (Or.inr rfl), hl.1, hl.2, nI_add, nI_add, hB, hW]
      exact ⟨rfl, rfl⟩
  · rcases Nat.lt_or_ge k n with z | z
    · rw [pk_un (by omega)] at he
      rw [pk_uLn (by omega), pk_uLn (by omega), pk_uLn (by omega), pk_uLn (by omega)]
      exact hpass k z he
    · have e : k = n := by omega
      subst e
      rw [pk_us] at he
      rw [pk_uLs, pk_uLs, pk_uLn (by omega), pk_uLn (by omega)]
      exact hps he
  · rw [pk_uLs, pk_uLs]; exact hfr
theorem ur_back {fr' : Int32} (F : ur_F w h lim (n + 1) fr fu fc lc mv lB lW bA wA ch vr cC al ow pa) (hfr : fr' = 0 ∨ ux_FR w h (ux_col (bA n) (wA n)) ch vr cC al ow) : ur_F w h lim n fr' fu fc lc mv lB lW bA wA ch vr cC al ow pa := by
  obtain ⟨g, ⟨l8, l128, nl⟩, PP, hp, hz, hlost, hpass, _⟩ := F
  exact ⟨g, ⟨l8, l128, by omega⟩, fun k hk => PP k (by omega), fun k hk => hp k (by omega), hz, fun k hk => hlost k (by omega), fun k hk => hpass k (by omega), hfr⟩
theorem ur_frs {fr' : Int32} {ch' vr' al' ow' : Nat → Int64} {cC' : Nat → Int32} (F : ur_F w h lim n fr fu fc lc mv lB lW bA wA ch vr cC al ow pa) (hfr : fr' = 0 ∨ ux_FR w h (ux_col (bA n) (wA n)) ch' vr' cC' al' ow') : ur_F w h lim n fr' fu fc lc mv lB lW bA wA ch' vr' cC' al' ow' pa := by
  obtain ⟨g, l, PP, hp, hz, hlost, hpass, _⟩ := F
  exact ⟨g, l, PP, hp, hz, hlost, hpass, hfr⟩
end
/-! the constructor -/
theorem ur_clamp (x lo hi : Int32) (a b : Nat) (ha : lo = nI a) (hb : hi = nI b) (hab : a ≤ b) (hb31 : b < 2 ^ 31) : ∃ j, a ≤ j ∧ j ≤ b ∧ ∀ A : Int32 → Prop, A (nI j) → ((lo ≤ x → ((x ≤ hi → A x) ∧ (¬ x ≤ hi → A hi))) ∧ (¬ lo ≤ x → A lo)) := by
  subst ha hb
  rcases Classical.em (nI a ≤ x) with h1 | h1
  · have h0 : ¬ x < 0 := Int32.not_lt.mpr (Int32.le_trans (nI_pos' (by omega)) h1)
    obtain ⟨j, hj, rfl⟩ := nI_of h0
    rw [nI_leI (by omega) hj] at h1
    rcases Nat.lt_or_ge b j with h2 | h2
    · exact ⟨b, hab, Nat.le_refl _, fun A hA => br_t (nI_le h1 hj) (br_f (nI_ge h2 hj) hA)⟩
    · exact ⟨j, h1, h2, fun A hA => br_t (nI_le h1 hj) (br_t (nI_le h2 hb31) hA)⟩
  · exact ⟨a, Nat.le_refl _, hab, fun A hA => br_f h1 hA⟩
theorem ux_clamp {x lo hi : Int32} {j : Nat} {post : Int32 → Prop} {u : SX} (hc : ∀ A : Int32 → Prop, A (nI j) → ((lo ≤ x → ((x ≤ hi → A x) ∧ (¬ x ≤ hi → A hi))) ∧ (¬ lo ≤ x → A lo))) (H : post (nI j)) : wpX_clamp post u x lo hi := by
  obtain ⟨xw, xs, xl, fu, fc, lc, xn, fr, mv, bA, wA, lB, lW, ch, vr, re, rE, rB, cC, rC, al, se, ow⟩ := u
  exact hc post H
section
variable {w h : Nat} {lm mc fr : Int32} {fu fc lc : Int64} {mv lB lW cC rC : Nat → Int32} {bA wA ch vr re rE rB al se ow : Nat → Int64}
theorem ux_init189 {post : SX → Prop} (g : ug_G w h) (hfu : ∀ i, ub_t fu i ↔ i < w * h) (H : ∀ fc lc, ux_G w h fu fc lc → post ((nI w), (nI (w * h)), lm, fu, fc, lc, mc, fr, mv, bA, wA, lB, lW, ch, vr, re, rE, rB, cC, rC, al, se, ow)) :
    ∀ (m y : Nat) (x : Int64), h - y < m → y ≤ h → (∀ i, ub_t x i ↔ ∃ z, z < y ∧ i = z * w) → wX_init_189 post (nI h) (nI w) (nI (w * h)) lm fu fc lc mc fr mv bA wA lB lW ch vr re rE rB cC rC al se ow m x (nI y) := by
  intro m
  have hN := ug_N g
  obtain ⟨g1, g2, g3, g4⟩ := g
  induction m with
  | zero => intro y x h1; omega
  | succ m ih =>
    intro y x h1 h2 h3
    refine pk_le h y (fun h4 => ?_) (fun h4 => ?_)
    · have e : y = h := by omega
      subst e
      refine nm_e (H x _ ⟨⟨g1, g2, g3, g4⟩, hfu, fun i => ?_, fun i => ?_⟩)
      · rw [h3]
        constructor
        · intro ⟨z, z1, z2⟩
          subst z2
          exact ⟨by rw [Nat.mul_comm w]; exact Nat.mul_lt_mul_of_pos_right z1 (by omega), Nat.mul_mod_left z w⟩
        · intro ⟨z1, z2⟩
          exact ⟨i / w, Nat.div_lt_of_lt_mul z1, by have := Nat.div_add_mod i w; rw [z2, Nat.mul_comm] at this; omega⟩
      · rw [show nI w - 1 = nI (w - 1) from pk_sub (b := 1) (by omega), ub_shl _ (by omega), h3]
        constructor
        · intro ⟨z1, z2, z, z3, z4⟩
          have e : i = z * w + (w - 1) := by omega
          subst e
          refine ⟨?_, ?_⟩
          · have := Nat.mul_le_mul_right w (show z + 1 ≤ y by omega)
            rw [Nat.add_mul, Nat.one_mul, Nat.mul_comm y w] at this
            omega
          · rw [Nat.mul_comm z w, Nat.mul_add_mod, Nat.mod_eq_of_lt (by omega)]
            omega
        · intro ⟨z1, z2⟩
          have e := Nat.div_add_mod i w
          refine ⟨by omega, by omega, i / w, Nat.div_lt_of_lt_mul z1, ?_⟩
          rw [Nat.mul_comm] at e
          omega
    · have hyw : y * w < 64 := by
        have := Nat.mul_le_mul_right w (show y ≤ h by omega)
        rw [Nat.mul_comm h w] at this
        omega
      rw [pk_mul]
      refine nm_e (nm_r (nI_1 y) (ih (y + 1) _ (by omega) (by omega) (fun i => ?_)))
      rw [ub_orb hyw, h3]
      constructor
      · intro z
        rcases z with ⟨z, z1, z2⟩ | z
        · exact ⟨z, by omega, z2⟩
        · exact ⟨y, by omega, z⟩
      · intro ⟨z, z1, z2⟩
        rcases Nat.lt_or_ge z y with q | q
        · exact Or.inl ⟨z, q, z2⟩
        · have e : z = y := by omega
          subst e
          exact Or.inr z2
end
theorem ur_F0 {w h lim : Nat} {fu fc lc : Int64} (g : ux_G w h fu fc lc) (h1 : 8 ≤ lim) (h2 : lim ≤ 128) : ur_F w h lim 0 0 fu fc lc (fun _ => 0) (fun _ => 0) (fun _ => 0) (fun _ => 0) (fun _ => 0) (fun _ => 0) (fun _ => 0) (fun _ => 0) (fun _ => 0) (fun _ => 0) (fun _ => 0) := by
  refine ⟨g, ⟨h1, h2, by omega⟩, fun k hk => ⟨fun i hi => absurd hi (ub_0 i), fun i hi => absurd hi (ub_0 i), fun i hi => absurd hi (ub_0 i)⟩, fun k hk q hq => ?_, fun _ _ _ _ => rfl, fun k hk => ?_, fun k hk => by omega, Or.inl rfl⟩
  · have e : ux_col 0 0 q = 0 := ux_c0.mpr ⟨ub_0 q, ub_0 q⟩
    show (0 : Int32) = nI (ux_col 0 0 q)
    rw [e]; rfl
  · have e : k = 0 := by omega
    subst e
    exact ⟨rfl, rfl⟩
theorem uy_init {post : SY → Prop} {k0 k1 k2 : Int32} {w h l : Nat} (hw : ∀ A : Int32 → Prop, A (nI w) → ((2 ≤ k0 → ((k0 ≤ 7 → A k0) ∧ (¬ k0 ≤ 7 → A 7))) ∧ (¬ 2 ≤ k0 → A 2))) (hh : ∀ A : Int32 → Prop, A (nI h) → ((2 ≤ k1 → ((k1 ≤ 7 → A k1) ∧ (¬ k1 ≤ 7 → A 7))) ∧ (¬ 2 ≤ k1 → A 2))) (hl : ∀ A : Int32 → Prop, A (nI l) → ((8 ≤ k2 → ((k2 ≤ 128 → A k2) ∧ (¬ k2 ≤ 128 → A 128))) ∧ (¬ 8 ≤ k2 → A 8)))
    (H : post (nI w, nI h, nI l, 0, fun _ => 0, fun _ => 0, fun _ => 0, fun _ => 0, fun _ => 0, fun _ => 0)) : wpY_init post k0 k1 k2 := by
  have a3 : wY_init_102 post k2 (nI h) (nI w) 0 0 0 (fun _ => 0) (fun _ => 0) (fun _ => 0) (fun _ => 0) (fun _ => 0) (fun _ => 0) := hl (fun x => post (nI w, nI h, x, 0, fun _ => 0, fun _ => 0, fun _ => 0, fun _ => 0, fun _ => 0, fun _ => 0)) H
  have a2 : wY_init_77 post k1 k2 (nI w) 0 0 0 0 (fun _ => 0) (fun _ => 0) (fun _ => 0) (fun _ => 0) (fun _ => 0) (fun _ => 0) := hh (fun x => wY_init_102 post k2 x (nI w) 0 0 0 (fun _ => 0) (fun _ => 0) (fun _ => 0) (fun _ => 0) (fun _ => 0) (fun _ => 0)) a3
  exact hw (fun x => wY_init_77 post k1 k2 x 0 0 0 0 (fun _ => 0) (fun _ => 0) (fun _ => 0) (fun _ => 0) (fun _ => 0) (fun _ => 0)) a2
theorem i_vc0 (k0 : Int32) (k1 : Int32) (k2 : Int32) : wpX_init (fun u => wpY_init (fun v => i_Rel 3 u v) k0 k1 k2) k0 k1 k2 := by
  obtain ⟨w, w1, w2, hw⟩ := ur_clamp k0 2 7 2 7 rfl rfl (by decide) (by decide)
  obtain ⟨h, h1, h2, hh⟩ := ur_clamp k1 2 7 2 7 rfl rfl (by decide) (by decide)
  obtain ⟨l, l1, l2, hl⟩ := ur_clamp k2 8 128 8 128 rfl rfl (by decide) (by decide)
  have g : ug_G w h := ⟨w1, w2, h1, h2⟩
  have hN := ug_N g
  unfold wpX_init
  refine ux_clamp hw (ux_clamp hh (ux_clamp hl (nm_r (pk_mul w h) (nm_e ⟨h + 1, ?_⟩))))
  refine ux_init189 g (fun i => ub_full (by omega) i) (fun fc lc G => ?_) (h + 1) 0 0 (by omega) (by omega) (fun i => ⟨fun z => absurd z (ub_0 i), fun ⟨z, z1, _⟩ => by omega⟩)
  exact uy_init hw hh hl (ur_in (n := 0) (ur_F0 G l1 l2))
end
section
/-! the owed statements: the plain ones -/
theorem i_vc_moves {k : Nat} {u : SX} {v : SY} (I : i_Rel k u v) (hk : k + 2 ≤ 1027) : wpX_moves (fun r => wpY_moves (fun r' => r' = r ∧ i_Rel (k + 2) u v) v) u := by
  refine ur_el (Q := fun u v => wpX_moves (fun r => wpY_moves (fun r' => r' = r ∧ i_Rel (k + 2) u v) v) u) I ?_
  intro w h lim n fr fu fc lc mv bA wA lB lW ch vr re rE rB cC rC al se ow pa bo na de li F
  have F' := F
  obtain ⟨g, ⟨l8, l128, nl⟩, PP, hp, hz, hlost, hpass, hfr⟩ := F'
  have hN := ug_N g.1
  have hn : n ≤ 128 := by omega
  have P := PP n (Nat.le_refl n)
  have hc3 : ∀ q, ux_col (bA n) (wA n) q ≤ 2 := fun q => by have := ux_c3 (bA n) (wA n) q; omega
  have hpn := hp n (Nat.le_refl n)
  exact And.intro rfl (ur_in F)
theorem i_vc_room {k : Nat} {u : SX} {v : SY} (I : i_Rel k u v) (hk : k + 2 ≤ 1027) : wpX_room (fun r => wpY_room (fun r' => r' = r ∧ i_Rel (k + 2) u v) v) u := by
  refine ur_el (Q := fun u v => wpX_room (fun r => wpY_room (fun r' => r' = r ∧ i_Rel (k + 2) u v) v) u) I ?_
  intro w h lim n fr fu fc lc mv bA wA lB lW ch vr re rE rB cC rC al se ow pa bo na de li F
  have F' := F
  obtain ⟨g, ⟨l8, l128, nl⟩, PP, hp, hz, hlost, hpass, hfr⟩ := F'
  have hN := ug_N g.1
  have hn : n ≤ 128 := by omega
  have P := PP n (Nat.le_refl n)
  have hc3 : ∀ q, ux_col (bA n) (wA n) q ≤ 2 := fun q => by have := ux_c3 (bA n) (wA n) q; omega
  have hpn := hp n (Nat.le_refl n)
  exact And.intro rfl (ur_in F)
theorem i_vc_width {k : Nat} {u : SX} {v : SY} (I : i_Rel k u v) (hk : k + 2 ≤ 1027) : wpX_width (fun r => wpY_width (fun r' => r' = r ∧ i_Rel (k + 2) u v) v) u := by
  refine ur_el (Q := fun u v => wpX_width (fun r => wpY_width (fun r' => r' = r ∧ i_Rel (k + 2) u v) v) u) I ?_
  intro w h lim n fr fu fc lc mv bA wA lB lW ch vr re rE rB cC rC al se ow pa bo na de li F
  have F' := F
  obtain ⟨g, ⟨l8, l128, nl⟩, PP, hp, hz, hlost, hpass, hfr⟩ := F'
  have hN := ug_N g.1
  have hn : n ≤ 128 := by omega
  have P := PP n (Nat.le_refl n)
  have hc3 : ∀ q, ux_col (bA n) (wA n) q ≤ 2 := fun q => by have := ux_c3 (bA n) (wA n) q; omega
  have hpn := hp n (Nat.le_refl n)
  exact And.intro rfl (ur_in F)
theorem i_vc_toMove {k : Nat} {u : SX} {v : SY} (I : i_Rel k u v) (hk : k + 2 ≤ 1027) : wpX_toMove (fun r => wpY_toMove (fun r' => r' = r ∧ i_Rel (k + 2) u v) v) u := by
  refine ur_el (Q := fun u v => wpX_toMove (fun r => wpY_toMove (fun r' => r' = r ∧ i_Rel (k + 2) u v) v) u) I ?_
  intro w h lim n fr fu fc lc mv bA wA lB lW ch vr re rE rB cC rC al se ow pa bo na de li F
  have F' := F
  obtain ⟨g, ⟨l8, l128, nl⟩, PP, hp, hz, hlost, hpass, hfr⟩ := F'
  have hN := ug_N g.1
  have hn : n ≤ 128 := by omega
  have P := PP n (Nat.le_refl n)
  have hc3 : ∀ q, ux_col (bA n) (wA n) q ≤ 2 := fun q => by have := ux_c3 (bA n) (wA n) q; omega
  have hpn := hp n (Nat.le_refl n)
  unfold wpX_toMove wpY_toMove
  dsimp only
  refine ux_isOver hn (fun o => br_f (by decide) (uy_over hn (fun o2 => br_f (by decide) ⟨rfl, ur_in F⟩) (fun o2 => absurd o o2))) (fun o => br_t rfl (ux_turn hn (uy_over hn (fun o2 => absurd o2 o) (fun o2 => br_t rfl ⟨by decide, ?_⟩))))
  have hrem : nI n - nI n / 2 * 2 = nI (n % 2) := pk_rem (d := 2) (by omega) (by decide) (by decide)
  rw [hrem]
  refine pk_eq (n % 2) 0 (fun e => ⟨by rw [e]; rfl, ur_in F⟩) (fun e => ⟨?_, ur_in F⟩)
  rw [show n % 2 = 1 by omega]
  rfl
theorem i_vc_stone {k : Nat} {u : SX} {v : SY} (I : i_Rel k u v) (hk : k + 2 ≤ 1027) (v1 : Int32) : wpX_stone (fun r => wpY_stone (fun r' => r' = r ∧ i_Rel (k + 2) u v) v v1) u v1 := by
  refine ur_el (Q := fun u v => wpX_stone (fun r => wpY_stone (fun r' => r' = r ∧ i_Rel (k + 2) u v) v v1) u v1) I ?_
  intro w h lim n fr fu fc lc mv bA wA lB lW ch vr re rE rB cC rC al se ow pa bo na de li F
  have F' := F
  obtain ⟨g, ⟨l8, l128, nl⟩, PP, hp, hz, hlost, hpass, hfr⟩ := F'
  have hN := ug_N g.1
  have hn : n ≤ 128 := by omega
  have P := PP n (Nat.le_refl n)
  have hc3 : ∀ q, ux_col (bA n) (wA n) q ≤ 2 := fun q => by have := ux_c3 (bA n) (wA n) q; omega
  have hpn := hp n (Nat.le_refl n)
  unfold wpX_stone wpY_stone
  dsimp only
  rcases pk_ix v1 (n := w * h) (by omega) with z | z | ⟨p, hpp, e⟩
  · exact ux_onBn (Or.inl z) (br_t rfl (uy_onBn (Or.inl z) (br_t rfl ⟨rfl, ur_in F⟩)))
  · exact ux_onBn (Or.inr z) (br_t rfl (uy_onBn (Or.inr z) (br_t rfl ⟨rfl, ur_in F⟩)))
  · subst e
    refine ux_onB hN.2 hpp (br_f (by decide) (ux_colAt hn (by omega) (uy_onB hN.2 hpp (br_f (by decide) ?_))))
    rw [uy_ix, nI_clamp (show n * 49 + p < 2 ^ 31 by omega), hpn p hpp]
    exact ⟨vp_in_nI (by omega) (by decide), rfl, ur_in F⟩
theorem i_vc_moveAt {k : Nat} {u : SX} {v : SY} (I : i_Rel k u v) (hk : k + 2 ≤ 1027) (v1 : Int32) : wpX_moveAt (fun r => wpY_moveAt (fun r' => r' = r ∧ i_Rel (k + 2) u v) v v1) u v1 := by
  refine ur_el (Q := fun u v => wpX_moveAt (fun r => wpY_moveAt (fun r' => r' = r ∧ i_Rel (k + 2) u v) v v1) u v1) I ?_
  intro w h lim n fr fu fc lc mv bA wA lB lW ch vr re rE rB cC rC al se ow pa bo na de li F
  have F' := F
  obtain ⟨g, ⟨l8, l128, nl⟩, PP, hp, hz, hlost, hpass, hfr⟩ := F'
  have hN := ug_N g.1
  have hn : n ≤ 128 := by omega
  have P := PP n (Nat.le_refl n)
  have hc3 : ∀ q, ux_col (bA n) (wA n) q ≤ 2 := fun q => by have := ux_c3 (bA n) (wA n) q; omega
  have hpn := hp n (Nat.le_refl n)
  unfold wpX_moveAt wpY_moveAt
  dsimp only
  refine br_c (fun h1 => br_t h1 ⟨rfl, ur_in F⟩) (fun h1 => ?_)
  obtain ⟨j, hj, e⟩ := nI_of h1
  subst e
  refine pk_lt j n (fun h2 => ⟨pk_in j 128 (by omega), br_f h1 (br_t (nI_lt h2 (by omega)) ⟨pk_in j 128 (by omega), rfl, ur_in F⟩)⟩) (fun h2 => br_f h1 (br_f (nI_nlt h2 (by omega)) ⟨rfl, ur_in F⟩))
theorem i_vc_prisoners {k : Nat} {u : SX} {v : SY} (I : i_Rel k u v) (hk : k + 2 ≤ 1027) (v1 : Int32) : wpX_prisoners (fun r => wpY_prisoners (fun r' => r' = r ∧ i_Rel (k + 2) u v) v v1) u v1 := by
  refine ur_el (Q := fun u v => wpX_prisoners (fun r => wpY_prisoners (fun r' => r' = r ∧ i_Rel (k + 2) u v) v v1) u v1) I ?_
  intro w h lim n fr fu fc lc mv bA wA lB lW ch vr re rE rB cC rC al se ow pa bo na de li F
  have F' := F
  obtain ⟨g, ⟨l8, l128, nl⟩, PP, hp, hz, hlost, hpass, hfr⟩ := F'
  have hN := ug_N g.1
  have hn : n ≤ 128 := by omega
  have P := PP n (Nat.le_refl n)
  have hc3 : ∀ q, ux_col (bA n) (wA n) q ≤ 2 := fun q => by have := ux_c3 (bA n) (wA n) q; omega
  have hpn := hp n (Nat.le_refl n)
  unfold wpX_prisoners wpY_prisoners
  dsimp only
  have hl := hlost n (Nat.le_refl n)
  rw [nI_clamp (show n < 2 ^ 31 by omega), hl.1, hl.2]
  refine br_c (fun h1 => ⟨pk_in n 129 (by omega), br_t h1 ⟨n * 49 + 1, ?_⟩⟩) (fun h1 => br_c (fun h2 => ⟨pk_in n 129 (by omega), br_f h1 (br_t h2 ⟨n * 49 + 1, ?_⟩)⟩) (fun h2 => br_f h1 (br_f h2 ⟨rfl, ur_in F⟩)))
  · subst h1
    exact uy_pr16 (c := 1) hn ⟨rfl, ur_in F⟩ (n * 49 + 1) 0 (by omega) (by omega)
  · subst h2
    exact uy_pr16 (c := 2) hn ⟨rfl, ur_in F⟩ (n * 49 + 1) 0 (by omega) (by omega)
theorem i_vc_undo {k : Nat} {u : SX} {v : SY} (I : i_Rel k u v) (hk : k + 2 ≤ 1027) : wpX_undo (fun r u' => wpY_undo (fun r' v' => r' = r ∧ i_Rel (k + 2) u' v') v) u := by
  refine ur_el (Q := fun u v => wpX_undo (fun r u' => wpY_undo (fun r' v' => r' = r ∧ i_Rel (k + 2) u' v') v) u) I ?_
  intro w h lim n fr fu fc lc mv bA wA lB lW ch vr re rE rB cC rC al se ow pa bo na de li F
  have F' := F
  obtain ⟨g, ⟨l8, l128, nl⟩, PP, hp, hz, hlost, hpass, hfr⟩ := F'
  have hN := ug_N g.1
  have hn : n ≤ 128 := by omega
  have P := PP n (Nat.le_refl n)
  have hc3 : ∀ q, ux_col (bA n) (wA n) q ≤ 2 := fun q => by have := ux_c3 (bA n) (wA n) q; omega
  have hpn := hp n (Nat.le_refl n)
  unfold wpX_undo wpY_undo
  dsimp only
  rcases Nat.eq_zero_or_pos n with z | z
  · subst z
    exact br_f (by decide) (br_t rfl ⟨rfl, ur_in F⟩)
  · obtain ⟨m, rfl⟩ : ∃ m, n = m + 1 := ⟨n - 1, by omega⟩
    refine br_t (nI_lt (a := 0) (by omega) (by omega)) (nm_r (nI_pred m) ⟨pk_in m 128 (by omega), nm_r (e' := mv m) (by rw [nI_clamp (by omega)]) ?_⟩)
    have yy : ∀ u', i_Rel (k + 2) u' ((nI w), (nI h), nI lim, nI m, mv, pa, bo, na, de, li) → (nI (m + 1) = 0 → (-7 = mv m ∧ i_Rel (k + 2) u' ((nI w), (nI h), nI lim, nI (m + 1), mv, pa, bo, na, de, li))) ∧ (¬ nI (m + 1) = 0 → ∀ z, z = nI (m + 1) - 1 → (vp_in z 128 ∧ (mv z.toNatClampNeg = mv m ∧ i_Rel (k + 2) u' ((nI w), (nI h), nI lim, z, mv, pa, bo, na, de, li)))) := by
      intro u' hu
      refine br_f (nI_ne0 (by omega) (by omega)) (nm_r (nI_pred m) ⟨pk_in m 128 (by omega), ?_, hu⟩)
      rw [nI_clamp (by omega)]
    refine br_c (fun h1 => yy _ (ur_in (ur_back F ?_))) (fun h1 => yy _ (ur_in (ur_back F (Or.inl rfl))))
    have e := hpass m (by omega) h1
    rw [e.1, e.2] at hfr
    exact hfr
theorem i_vc_check {k : Nat} {u : SX} {v : SY} (I : i_Rel k u v) (hk : k + 2 ≤ 1027) (v1 : Int32) : wpX_check (fun r => wpY_check (fun r' v' => r' = r ∧ i_Rel (k + 2) u v') v v1) u v1 := by
  refine ur_el (Q := fun u v => wpX_check (fun r => wpY_check (fun r' v' => r' = r ∧ i_Rel (k + 2) u v') v v1) u v1) I ?_
  intro w h lim n fr fu fc lc mv bA wA lB lW ch vr re rE rB cC rC al se ow pa bo na de li F
  have F' := F
  obtain ⟨g, ⟨l8, l128, nl⟩, PP, hp, hz, hlost, hpass, hfr⟩ := F'
  have hN := ug_N g.1
  have hn : n ≤ 128 := by omega
  have P := PP n (Nat.le_refl n)
  have hc3 : ∀ q, ux_col (bA n) (wA n) q ≤ 2 := fun q => by have := ux_c3 (bA n) (wA n) q; omega
  have hpn := hp n (Nat.le_refl n)
  unfold wpX_check
  dsimp only
  refine ux_judge g PP hn l128 (fun r J => ?_)
  refine uy_check g.1 hn l128 hp (fun r' bo' na' de' J' _ => ⟨ur_Ju hN.2 J' J, ur_in F⟩)
theorem i_vc_liberties {k : Nat} {u : SX} {v : SY} (I : i_Rel k u v) (hk : k + 2 ≤ 1027) (v1 : Int32) : wpX_liberties (fun r => wpY_liberties (fun r' v' => r' = r ∧ i_Rel (k + 2) u v') v v1) u v1 := by
  refine ur_el (Q := fun u v => wpX_liberties (fun r => wpY_liberties (fun r' v' => r' = r ∧ i_Rel (k + 2) u v') v v1) u v1) I ?_
  intro w h lim n fr fu fc lc mv bA wA lB lW ch vr re rE rB cC rC al se ow pa bo na de li F
  have F' := F
  obtain ⟨g, ⟨l8, l128, nl⟩, PP, hp, hz, hlost, hpass, hfr⟩ := F'
  have hN := ug_N g.1
  have hn : n ≤ 128 := by omega
  have P := PP n (Nat.le_refl n)
  have hc3 : ∀ q, ux_col (bA n) (wA n) q ≤ 2 := fun q => by have := ux_c3 (bA n) (wA n) q; omega
  have hpn := hp n (Nat.le_refl n)
  unfold wpX_liberties wpY_liberties
  dsimp only
  rcases pk_ix v1 (n := w * h) (by omega) with z | z | ⟨p, hpp, e⟩
  · exact ux_onBn (Or.inl z) (br_t rfl (uy_load g.1 hn hpn hc3 (fun bo' na' _ _ => uy_onBn (Or.inl z) (br_t rfl ⟨rfl, ur_in F⟩))))
  · exact ux_onBn (Or.inr z) (br_t rfl (uy_load g.1 hn hpn hc3 (fun bo' na' _ _ => uy_onBn (Or.inr z) (br_t rfl ⟨rfl, ur_in F⟩))))
  · subst e
    have hcp := hc3 p
    refine ux_onB hN.2 hpp (br_f (by decide) (ux_colAt hn (by omega) (pk_eq (ux_col (bA n) (wA n) p) 0 (fun h0 => ?_) (fun h0 => ?_))))
    · refine uy_load g.1 hn hpn hc3 (fun bo' na' hb' M' => ?_)
      dsimp only
      refine uy_onB hN.2 hpp (br_f (by decide) ?_)
      rw [nI_clamp (show p < 2 ^ 31 by omega), hb' p hpp, h0]
      exact ⟨pk_in p 49 (by omega), br_t rfl ⟨rfl, ur_in F⟩⟩
    · refine ux_stones hn (by omega) (ux_flood g (fun bd hbd => ?_) (fun q hq => ((ux_stk P (by omega)).mp hq).1))
      have hbd2 : ∀ q, ub_t bd q ↔ ug_C w h (ux_col (bA n) (wA n)) p q := by
        intro q
        rw [hbd]
        unfold ug_C
        constructor
        · intro ⟨s, s1, _, s3⟩
          rw [ub_one (by omega)] at s1
          subst s1
          exact (ug_Rc fun x => ux_stk P (by omega)).mp s3
        · intro s3
          exact ⟨p, (ub_one (by omega) p).mpr rfl, (ux_stk P (by omega)).mpr ⟨hpp, rfl⟩, (ug_Rc fun x => ux_stk P (by omega)).mpr s3⟩
      refine ux_nb g (fun nb hnb => ux_empty g hn (fun em hem => nm_e ?_)) (fun q hq => (ug_Ca ((hbd2 q).mp hq) hpp).1)
      have hli : ∀ q, ub_t (nb &&& em) q ↔ ug_Li w h (ux_col (bA n) (wA n)) p q := by
        intro q
        rw [ub_and, hnb, hem]
        constructor
        · intro ⟨⟨z1, a, z2, z3⟩, _, z4⟩
          exact ⟨z1, z4, a, (hbd2 a).mp z2, z3⟩
        · intro ⟨z1, z4, a, z2, z3⟩
          exact ⟨⟨z1, a, (hbd2 a).mpr z2, z3⟩, z1, z4⟩
      refine ux_cbN (by omega) (fun q hq => ((hli q).mp hq).1) ?_
      rw [show cn (ub_t (nb &&& em)) (w * h) = ug_ln w h (ux_col (bA n) (wA n)) p from cn_eq fun q _ => hli q]
      refine uy_load g.1 hn hpn hc3 (fun bo' na' hb' M' => ?_)
      dsimp only
      refine uy_onB hN.2 hpp (br_f (by decide) ?_)
      rw [nI_clamp (show p < 2 ^ 31 by omega), hb' p hpp]
      refine ⟨pk_in p 49 (by omega), br_f (nI_ne0 (by omega) (by omega)) ⟨pk_in p 147 (by omega), ?_⟩⟩
      exact uy_libp g.1 hb' hc3 (M' 0 (by omega)) hpp ⟨rfl, ur_in F⟩
end
section
/-! the moves and the analysis -/
section
variable {w h n lim : Nat} {lm mc fr : Int32} {fu fc lc : Int64} {mv lB lW cC rC : Nat → Int32} {bA wA ch vr re rE rB al se ow : Nat → Int64}
theorem ux_append {post : SX → Prop} {wh dB dW : Int32} {b v : Int64} (hn : n < lim) (hl : lim ≤ 128) (H : post ((nI w), (nI (w * h)), nI lim, fu, fc, lc, nI (n + 1), fr, upd mv n wh, vp_updL bA (n + 1) b, vp_updL wA (n + 1) v, upd lB (n + 1) (lB n + dB), upd lW (n + 1) (lW n + dW), ch, vr, re, rE, rB, cC, rC, al, se, ow)) : wpX_append post ((nI w), (nI (w * h)), nI lim, fu, fc, lc, nI n, fr, mv, bA, wA, lB, lW, ch, vr, re, rE, rB, cC, rC, al, se, ow) wh b v dB dW := by
  unfold wpX_append
  dsimp only
  have e1 : (nI n).toNatClampNeg = n := nI_clamp (by omega)
  have e2 : (nI (n + 1)).toNatClampNeg = n + 1 := nI_clamp (by omega)
  have i1 : vp_in (nI (n + 1)) 129 := vp_in_nI (by omega) (by decide)
  have i2 : vp_in (nI n) 129 := vp_in_nI (by omega) (by decide)
  rw [nI_1 n, e1, e2]
  exact br_t (nI_lt hn (by omega)) ⟨vp_in_nI (by omega) (by decide), nm_e ⟨i1, nm_e ⟨i1, nm_e ⟨i2, i1, nm_e ⟨i2, i1, nm_e (nm_e H)⟩⟩⟩⟩⟩
theorem ux_vat22 {k nC p : Nat} {post : Int64 → Prop} (hC : nC ≤ 49) (hp : p < 64) (hx : ∃ c, c < nC ∧ ub_t (ch (ux_of k + c)) p) (H : ∀ c, c < nC → ub_t (ch (ux_of k + c)) p → post (vr (ux_of k + c))) :
    ∀ (m i : Nat), nC - i < m → i ≤ nC → (∀ c, c < i → ¬ ub_t (ch (ux_of k + c)) p) → wX_vitalRegionsAt_22 post (nI (ux_of k)) (nI nC) ((1 : Int64) <<< ((nI p).toInt64 &&& 63)) (nI w) (nI (w * h)) lm fu fc lc mc fr mv bA wA lB lW ch vr re rE rB cC rC al se ow m (nI i) := by
  intro m
  obtain ⟨c0, hc0, hb0⟩ := hx
  induction m with
  | zero => intro i h1; omega
  | succ m ih =>
    intro i h1 h2 h3
    refine pk_le nC i (fun hle => absurd hb0 (h3 c0 (by omega))) (fun hlt => ?_)
    have ei : (nI (ux_of k) + nI i).toNatClampNeg = ux_of k + i := ux_ofc k (by omega)
    have hin := ux_ofi k (show i < 49 by omega)
    refine ⟨hin, ?_⟩
    rw [ei]
    refine ek_if (ub_tst _ hp) (fun h4 => nm_r (nI_1 i) (ih (i + 1) (by omega) (by omega) (fun c hc => ?_))) (fun h4 => ⟨hin, H i hlt (Classical.not_not.mp h4)⟩)
    rcases Nat.lt_or_ge c i with y | y
    · exact h3 c y
    · have e : c = i := by omega
      rw [e]; exact h4
theorem ux_vat {col : Nat → Nat} {k p : Nat} {post : Int64 → Prop} (hN : w * h ≤ 49) (hk : k = 1 ∨ k = 2) (F : ux_FK w h col k ch vr cC) (hp : p < w * h) (hc : col p = k) (H : ∀ x, cn (ub_t x) 64 = ug_vn w h col k p → post x) : wpX_vitalRegionsAt post ((nI w), (nI (w * h)), lm, fu, fc, lc, mc, fr, mv, bA, wA, lB, lW, ch, vr, re, rE, rB, cC, rC, al, se, ow) (nI p) (nI k) := by
  obtain ⟨nC, h1, h2, h3, h4⟩ := F
  unfold wpX_vitalRegionsAt
  dsimp only
  have ek : (nI k).toNatClampNeg = k := nI_clamp (by omega)
  refine ux_off hk ⟨pk_in k 3 (by omega), nm_r (e' := nI nC) (by rw [ek, h2]) (nm_e ⟨nC + 1, ?_⟩)⟩
  exact ux_vat22 h1 (by omega) (h3.2.2.1 p ⟨hp, hc⟩) (fun c hc hb => H _ (h4 c hc p hb)) (nC + 1) 0 (by omega) (by omega) (fun c hc => by omega)
end
/-- the position after a play, by its bits -/
theorem ur_colb {w h : Nat} {c2 : Nat → Nat} {b v : Int64} (h2 : ∀ q, c2 q ≤ 2) (hb : ∀ q, ub_t b q ↔ q < w * h ∧ c2 q = 1) (hv : ∀ q, ub_t v q ↔ q < w * h ∧ c2 q = 2) : ux_P w h b v ∧ ∀ q, q < w * h → ux_col b v q = c2 q := by
  have P : ux_P w h b v := ⟨fun i hi => ((hb i).mp hi).1, fun i hi => ((hv i).mp hi).1, fun i hi hj => by
    have := ((hb i).mp hi).2
    have := ((hv i).mp hj).2
    omega⟩
  refine ⟨P, fun q hq => ?_⟩
  have h3 := h2 q
  have h4 : c2 q = 0 ∨ c2 q = 1 ∨ c2 q = 2 := by omega
  rcases h4 with e | e | e
  · rw [e, ux_c0, hb, hv]
    exact ⟨fun z => by omega, fun z => by omega⟩
  · rw [e, ux_c1, hb]
    exact ⟨hq, e⟩
  · rw [e, ux_c2 P, hv]
    exact ⟨hq, e⟩
theorem ur_cnt {w h n p : Nat} {col : Nat → Nat} {b v : Int64} (h0 : col p = 0) (hc : ∀ q, q < w * h → ux_col b v q = ur_n2 w h col n p q) : cn (fun q => col q = n % 2 + 1 ∧ ux_col b v q = 0) (w * h) = 0 ∧ cn (fun q => col q = 2 - n % 2 ∧ ux_col b v q = 0) (w * h) = ur_tk w h col n p := by
  constructor
  · apply cn_z
    intro q hq ⟨z1, z2⟩
    rw [hc q hq] at z2
    unfold ur_n2 at z2
    have hne : q ≠ p := fun e => by rw [e, h0] at z1; omega
    rcases Classical.em (ur_dd w h (ur_c1 col (n % 2 + 1) p) (2 - n % 2) q) with d | d
    · have := d.2.1
      rw [ur_c1n hne] at this
      omega
    · rw [ur_c2n d, ur_c1n hne] at z2
      omega
  · apply cn_eq
    intro q hq
    rw [hc q hq]
    unfold ur_n2
    rcases Classical.em (ur_dd w h (ur_c1 col (n % 2 + 1) p) (2 - n % 2) q) with d | d
    · refine ⟨fun _ => d, fun _ => ⟨?_, ur_c2d d⟩⟩
      have := d.2.1
      rcases Classical.em (q = p) with e | e
      · rw [e, ur_c1p] at this
        omega
      · rw [ur_c1n e] at this
        exact this
    · refine ⟨fun ⟨z1, z2⟩ => ?_, fun z => absurd z d⟩
      have hne : q ≠ p := fun e => by rw [e, h0] at z1; omega
      rw [ur_c2n d, ur_c1n hne] at z2
      omega
theorem ur_J0 {w h lim n : Nat} {mv : Nat → Int32} {bA wA : Nat → Int64} {v r : Int32} (J : ur_J w h lim n mv bA wA v r) (h0 : 0 ≤ r) : ∃ p, p < w * h ∧ v = nI p ∧ n < lim ∧ ux_col (bA n) (wA n) p = 0 ∧ r = nI (ur_tk w h (ux_col (bA n) (wA n)) n p) := by
  have neg : ∀ {x : Int32} {Q : Prop}, r = x → ¬ 0 ≤ x → Q := fun a b => absurd (a ▸ h0) b
  rcases J with ⟨_, a⟩ | ⟨_, _, a⟩ | ⟨_, _, _, a⟩ | ⟨_, h1, p, hp, e, a⟩
  · exact neg a (by decide)
  · exact neg a (by decide)
  · exact neg a (by decide)
  · rcases a with ⟨_, a⟩ | ⟨hc, a⟩
    · exact neg a (by decide)
    · rcases a with ⟨_, a⟩ | ⟨_, _, a⟩ | ⟨_, _, a⟩
      · exact neg a (by decide)
      · exact neg a (by decide)
      · exact ⟨p, hp, e, h1, hc, a⟩
theorem i_vc_pass {k : Nat} {u : SX} {v : SY} (I : i_Rel k u v) (hk : k + 2 ≤ 1027) : wpX_pass (fun r u' => wpY_pass (fun r' v' => r' = r ∧ i_Rel (k + 2) u' v') v) u := by
  refine ur_el (Q := fun u v => wpX_pass (fun r u' => wpY_pass (fun r' v' => r' = r ∧ i_Rel (k + 2) u' v') v) u) I ?_
  intro w h lim n fr fu fc lc mv bA wA lB lW ch vr re rE rB cC rC al se ow pa bo na de li F
  have F' := F
  obtain ⟨g, ⟨l8, l128, nl⟩, PP, hp, hz, hlost, hpass, hfr⟩ := F'
  have hN := ug_N g.1
  have hn : n ≤ 128 := by omega
  have P := PP n (Nat.le_refl n)
  have hc3 : ∀ q, ux_col (bA n) (wA n) q ≤ 2 := fun q => by have := ux_c3 (bA n) (wA n) q; omega
  have hpn := hp n (Nat.le_refl n)
  unfold wpX_pass
  dsimp only
  refine ux_isOver hn (fun o => br_f (by decide) ?_) (fun o => br_t rfl (pk_lt n lim (fun h1 => ?_) (fun h1 => ?_)))
  · unfold wpY_pass
    dsimp only
    exact uy_over hn (fun o2 => br_f (by decide) ⟨rfl, ur_in F⟩) (fun o2 => absurd o o2)
  · have Fs : ∀ pa', (∀ q, q < w * h → pa' ((n + 1) * 49 + q) = nI (ux_col (bA n) (wA n) q)) → (∀ j, (∀ q, q < w * h → j ≠ (n + 1) * 49 + q) → pa' j = pa j) → ur_F w h lim (n + 1) fr fu fc lc (upd mv n (-8)) (upd lB (n + 1) (lB n + nI 0)) (upd lW (n + 1) (lW n + nI 0)) (vp_updL bA (n + 1) (bA n)) (vp_updL wA (n + 1) (wA n)) ch vr cC al ow pa' := fun pa' k1 k2 => ur_step F h1 P k1 k2 (cn_z fun q _ z => by omega) (cn_z fun q _ z => by omega) (fun _ => ⟨rfl, rfl⟩) hfr
    have yy : ∀ z0 : Int32, wY_pass_51 (fun r' v' => r' = z0 ∧ i_Rel (k + 2) ((nI w), (nI (w * h)), nI lim, fu, fc, lc, nI (n + 1), fr, upd mv n (-8), vp_updL bA (n + 1) (bA n), vp_updL wA (n + 1) (wA n), upd lB (n + 1) (lB n + nI 0), upd lW (n + 1) (lW n + nI 0), ch, vr, re, rE, rB, cC, rC, al, se, ow) v') z0 (nI w) (nI h) (nI lim) (nI n) mv pa bo na de li := by
      intro z0
      unfold wY_pass_51
      refine uy_load g.1 hn hpn hc3 (fun bo' na' hb' _ => ?_)
      dsimp only
      refine uy_add g.1 (by omega) (fun pa' k1 k2 => ⟨rfl, ur_in (Fs pa' (fun q hq => ?_) k2)⟩)
      rw [k1 q hq]
      exact hb' q hq
    have e1 : (nI n).toNatClampNeg = n := nI_clamp (by omega)
    have i2 : vp_in (nI n) 129 := vp_in_nI (by omega) (by decide)
    have hlt : nI n < nI lim := nI_lt h1 (by omega)
    rw [e1]
    rcases Nat.eq_zero_or_pos n with z | z
    · refine ux_isPassN (by rw [z]; exact pk_sneg (a := 0) (b := 1) (by decide) (by decide)) ⟨i2, i2, ux_append h1 l128 (br_t rfl ?_)⟩
      unfold wpY_pass
      dsimp only
      refine uy_over hn (fun o2 => absurd o2 o) (fun o2 => br_t rfl (br_t hlt (br_t (by rw [z]; decide) ?_)))
      exact yy 1
    · have em : nI n - 1 = nI (n - 1) := pk_sub (b := 1) z
      have ec : (nI (n - 1)).toNatClampNeg = n - 1 := nI_clamp (by omega)
      have i3 : vp_in (nI (n - 1)) 128 := vp_in_nI (by omega) (by decide)
      have hnle : ¬ nI n ≤ 0 := nI_nle z (by omega)
      rw [em]
      refine ux_isPass hn (by omega) (fun h2 => ⟨i2, i2, ux_append h1 l128 (br_f (by decide) ?_)⟩) (fun h2 => ⟨i2, i2, ux_append h1 l128 (br_t rfl ?_)⟩)
      · unfold wpY_pass
        dsimp only
        refine uy_over hn (fun o2 => absurd o2 o) (fun o2 => br_t rfl (br_t hlt (br_f hnle ?_)))
        rw [em, ec]
        exact ⟨i3, br_t h2 (yy 2)⟩
      · unfold wpY_pass
        dsimp only
        refine uy_over hn (fun o2 => absurd o2 o) (fun o2 => br_t rfl (br_t hlt (br_f hnle ?_)))
        rw [em, ec]
        exact ⟨i3, br_f h2 (yy 1)⟩
  · unfold wpY_pass
    dsimp only
    exact uy_over hn (fun o2 => absurd o2 o) (fun o2 => br_t rfl (br_f (nI_nlt h1 (by omega)) ⟨rfl, ur_in F⟩))
theorem i_vc_play {k : Nat} {u : SX} {v : SY} (I : i_Rel k u v) (hk : k + 2 ≤ 1027) (v1 : Int32) : wpX_play (fun r u' => wpY_play (fun r' v' => r' = r ∧ i_Rel (k + 2) u' v') v v1) u v1 := by
  refine ur_el (Q := fun u v => wpX_play (fun r u' => wpY_play (fun r' v' => r' = r ∧ i_Rel (k + 2) u' v') v v1) u v1) I ?_
  intro w h lim n fr fu fc lc mv bA wA lB lW ch vr re rE rB cC rC al se ow pa bo na de li F
  have F' := F
  obtain ⟨g, ⟨l8, l128, nl⟩, PP, hp, hz, hlost, hpass, hfr⟩ := F'
  have hN := ug_N g.1
  have hn : n ≤ 128 := by omega
  have P := PP n (Nat.le_refl n)
  have hc3 : ∀ q, ux_col (bA n) (wA n) q ≤ 2 := fun q => by have := ux_c3 (bA n) (wA n) q; omega
  have hpn := hp n (Nat.le_refl n)
  unfold wpX_play
  dsimp only
  refine ux_judge g PP hn l128 (fun r J => br_c (fun h0 => ?_) (fun h0 => ?_))
  · obtain ⟨p, hpp, e, hnl, hc0, hr⟩ := ur_J0 J h0
    subst e
    have hco : (n % 2 + 1 = 1 ∧ 2 - n % 2 = 2) ∨ (n % 2 + 1 = 2 ∧ 2 - n % 2 = 1) := by omega
    obtain ⟨hown, hot⟩ := ux_je0 P hN.2 hpp hc0
    obtain ⟨hl1, hl2⟩ := ur_le2 (w := w) (h := h) (n := n) (p := p) hc3
    refine ux_turn hn (ux_stones hn (by omega) (nm_e ?_))
    rw [ux_3m]
    refine ux_stones hn (by omega) ?_
    refine ux_cap g (fun q hq => ((hot q).mp hq).1) (fun tk htk => nm_e ?_)
    have ht := ux_je1 hco hl1 hown hot htk
    obtain ⟨c2o, c2l⟩ := ux_je2 hco hown hot ht
    have c2o' : ∀ q, ub_t (ux_st (bA n) (wA n) (n % 2 + 1) ||| ((1 : Int64) <<< ((nI p).toInt64 &&& 63))) q ↔ q < w * h ∧ ur_n2 w h (ux_col (bA n) (wA n)) n p q = n % 2 + 1 := c2o
    have c2l' : ∀ q, ub_t (ux_st (bA n) (wA n) (2 - n % 2) &&& (tk ^^^ (-1))) q ↔ q < w * h ∧ ur_n2 w h (ux_col (bA n) (wA n)) n p q = 2 - n % 2 := c2l
    generalize ux_st (bA n) (wA n) (n % 2 + 1) ||| ((1 : Int64) <<< ((nI p).toInt64 &&& 63)) = own at c2o' ⊢
    generalize ux_st (bA n) (wA n) (2 - n % 2) &&& (tk ^^^ (-1)) = lf at c2l' ⊢
    have hne8 : nI p ≠ -8 := fun e => by
      have := nI_pos' (n := p) (by omega)
      rw [e] at this
      exact absurd this (by decide)
    have yy : ∀ (b v : Int64) (dB dW : Nat), ux_P w h b v → (∀ q, q < w * h → ux_col b v q = ur_n2 w h (ux_col (bA n) (wA n)) n p q) → cn (fun q => ux_col (bA n) (wA n) q = 1 ∧ ux_col b v q = 0) (w * h) = dB → cn (fun q => ux_col (bA n) (wA n) q = 2 ∧ ux_col b v q = 0) (w * h) = dW →
        wpY_play (fun r' v' => r' = r ∧ i_Rel (k + 2) ((nI w), (nI (w * h)), nI lim, fu, fc, lc, nI (n + 1), 0, upd mv n (nI p), vp_updL bA (n + 1) b, vp_updL wA (n + 1) v, upd lB (n + 1) (lB n + nI dB), upd lW (n + 1) (lW n + nI dW), ch, vr, re, rE, rB, cC, rC, al, se, ow) v') ((nI w), (nI h), nI lim, nI n, mv, pa, bo, na, de, li) (nI p) := by
      intro b v dB dW Pb hbv hdB hdW
      unfold wpY_play
      dsimp only
      refine uy_check g.1 hn l128 hp (fun r' bo' na' de' J' hb' => ?_)
      have er := ur_Ju hN.2 J' J
      subst er
      dsimp only
      obtain ⟨_, _, _, hbo⟩ := hb' p hpp rfl h0
      refine br_f (Int32.not_lt.mpr h0) (uy_add g.1 (by omega) (fun pa' k1 k2 => ⟨rfl, ur_in (ur_step F hnl Pb (fun q hq => ?_) k2 hdB hdW (fun e => absurd e hne8) (Or.inl rfl))⟩))
      show pa' ((n + 1) * 49 + q) = nI (ux_col b v q)
      rw [k1 q hq, hbo q hq, hbv q hq]
    rcases hco with ⟨e1, e2⟩ | ⟨e1, e2⟩
    · obtain ⟨Pb, hbv⟩ := ur_colb (c2 := ur_n2 w h (ux_col (bA n) (wA n)) n p) hl2 (fun q => (c2o' q).trans (and_congr_right fun _ => by rw [e1])) (fun q => (c2l' q).trans (and_congr_right fun _ => by rw [e2]))
      obtain ⟨n1, n2⟩ := ur_cnt hc0 hbv
      rw [e1] at n1
      rw [e2] at n2
      refine br_t (by rw [e1]; rfl) (ux_append hnl l128 ?_)
      have := yy own lf 0 _ Pb hbv n1 n2
      rw [← hr] at this
      exact this
    · obtain ⟨Pb, hbv⟩ := ur_colb (c2 := ur_n2 w h (ux_col (bA n) (wA n)) n p) hl2 (fun q => (c2l' q).trans (and_congr_right fun _ => by rw [e2])) (fun q => (c2o' q).trans (and_congr_right fun _ => by rw [e1]))
      obtain ⟨n1, n2⟩ := ur_cnt hc0 hbv
      rw [e1] at n1
      rw [e2] at n2
      refine br_f (by rw [e1]; decide) (ux_append hnl l128 ?_)
      have := yy lf own _ 0 Pb hbv n2 n1
      rw [← hr] at this
      exact this
  · unfold wpY_play
    dsimp only
    refine uy_check g.1 hn l128 hp (fun r' bo' na' de' J' hb' => ?_)
    have er := ur_Ju hN.2 J' J
    subst er
    exact br_t (Int32.not_le.mp h0) ⟨rfl, ur_in F⟩
end
section
/-! the analysis, asked -/
section
variable {w h : Nat} {lm fn : Int32} {ml pa bo na de li : Nat → Int32}
theorem uy_sc {post : Int32 → SY → Prop} {col : Nat → Nat} (g : ug_G w h) (hb : ∀ q, q < w * h → bo q = nI (col q)) (hc : ∀ q, col q ≤ 2) (M : ∀ k, k < 3 → uy_NM w h col k na) (hl : ∀ q, q < w * h → (uy_LV na li q ↔ ug_Lv w h col q))
    (H : post (nI (cn (ug_O1 w h col) (w * h)) - nI (cn (ug_O2 w h col) (w * h))) ((nI w), (nI h), lm, fn, ml, pa, bo, na, de, li)) : ∃ n8, wY_score_8 post (nI w) (nI h) lm fn ml pa bo na de li n8 0 0 := by
  have hh := uy_sc8 g hb hc M hl H (w * h + 1) 0 (by omega) (by omega)
  have e : nI (cn (ug_O1 w h col) 0) - nI (cn (ug_O2 w h col) 0) = 0 := (by decide : nI 0 - nI 0 = 0)
  rw [e] at hh
  exact ⟨w * h + 1, hh⟩
end
theorem i_vc_vital {k : Nat} {u : SX} {v : SY} (I : i_Rel k u v) (hk : k + 2 ≤ 1027) (v1 : Int32) : wpX_vital (fun r u' => wpY_vital (fun r' v' => r' = r ∧ i_Rel (k + 2) u' v') v v1) u v1 := by
  refine ur_el (Q := fun u v => wpX_vital (fun r u' => wpY_vital (fun r' v' => r' = r ∧ i_Rel (k + 2) u' v') v v1) u v1) I ?_
  intro w h lim n fr fu fc lc mv bA wA lB lW ch vr re rE rB cC rC al se ow pa bo na de li F
  have F' := F
  obtain ⟨g, ⟨l8, l128, nl⟩, PP, hp, hz, hlost, hpass, hfr⟩ := F'
  have hN := ug_N g.1
  have hn : n ≤ 128 := by omega
  have P := PP n (Nat.le_refl n)
  have hc3 : ∀ q, ux_col (bA n) (wA n) q ≤ 2 := fun q => by have := ux_c3 (bA n) (wA n) q; omega
  have hpn := hp n (Nat.le_refl n)
  unfold wpX_vital wpY_vital
  dsimp only
  rcases pk_ix v1 (n := w * h) (by omega) with z | z | ⟨p, hpp, e⟩
  · exact ux_onBn (Or.inl z) (br_t rfl (uy_load g.1 hn hpn hc3 (fun bo' na' _ _ => uy_onBn (Or.inl z) (br_t rfl ⟨rfl, ur_in F⟩))))
  · exact ux_onBn (Or.inr z) (br_t rfl (uy_load g.1 hn hpn hc3 (fun bo' na' _ _ => uy_onBn (Or.inr z) (br_t rfl ⟨rfl, ur_in F⟩))))
  · subst e
    have hcp := hc3 p
    refine ux_onB hN.2 hpp (br_f (by decide) (ux_colAt hn (by omega) (pk_eq (ux_col (bA n) (wA n) p) 0 (fun h0 => ?_) (fun h0 => ?_))))
    · refine uy_load g.1 hn hpn hc3 (fun bo' na' hb' M' => ?_)
      dsimp only
      refine uy_onB hN.2 hpp (br_f (by decide) ?_)
      rw [nI_clamp (show p < 2 ^ 31 by omega), hb' p hpp, h0]
      exact ⟨pk_in p 49 (by omega), br_t rfl ⟨rfl, ur_in F⟩⟩
    · refine ux_refresh g P hn hfr (fun fr' ch' vr' re' rE' rB' cC' rC' al' se' ow' R => ?_)
      dsimp only
      have hk : ux_col (bA n) (wA n) p = 1 ∨ ux_col (bA n) (wA n) p = 2 := by omega
      have FK : ux_FK w h (ux_col (bA n) (wA n)) (ux_col (bA n) (wA n) p) ch' vr' cC' := by
        rcases hk with e | e
        · rw [e]; exact R.1
        · rw [e]; exact R.2.1
      refine ux_vat hN.2 hk FK hpp rfl (fun x hx => ux_cb ?_)
      rw [hx]
      refine uy_load g.1 hn hpn hc3 (fun bo' na' hb' M' => ?_)
      dsimp only
      refine uy_onB hN.2 hpp (br_f (by decide) ?_)
      rw [nI_clamp (show p < 2 ^ 31 by omega), hb' p hpp]
      refine ⟨pk_in p 49 (by omega), br_f (nI_ne0 (by omega) (by omega)) ⟨pk_in p 147 (by omega), ?_⟩⟩
      obtain ⟨m, m1, m2, m3, m4⟩ := uy_N0 (M' 0 (by omega)) hpp
      have hm := ug_Ca m3 hpp
      rw [m2]
      refine uy_vr (P := False) (fl := 0) ⟨fun _ z => z, fun _ => rfl⟩ g.1 hb' hc3 M' m1 (by rw [hm.2]; exact h0) (m4 m m3).2 ⟨?_, ur_in (ur_frs F (Or.inr R))⟩
      rw [hm.2, ug_vnC g.1 hpp m3]
      congr 1
      exact cn_eq fun r _ => and_congr_right fun _ => ⟨fun z => z.1, fun z => ⟨z, fun y => y.elim⟩⟩
theorem i_vc_alive {k : Nat} {u : SX} {v : SY} (I : i_Rel k u v) (hk : k + 2 ≤ 1027) (v1 : Int32) : wpX_alive (fun r u' => wpY_alive (fun r' v' => r' = r ∧ i_Rel (k + 2) u' v') v v1) u v1 := by
  refine ur_el (Q := fun u v => wpX_alive (fun r u' => wpY_alive (fun r' v' => r' = r ∧ i_Rel (k + 2) u' v') v v1) u v1) I ?_
  intro w h lim n fr fu fc lc mv bA wA lB lW ch vr re rE rB cC rC al se ow pa bo na de li F
  have F' := F
  obtain ⟨g, ⟨l8, l128, nl⟩, PP, hp, hz, hlost, hpass, hfr⟩ := F'
  have hN := ug_N g.1
  have hn : n ≤ 128 := by omega
  have P := PP n (Nat.le_refl n)
  have hc3 : ∀ q, ux_col (bA n) (wA n) q ≤ 2 := fun q => by have := ux_c3 (bA n) (wA n) q; omega
  have hpn := hp n (Nat.le_refl n)
  unfold wpX_alive wpY_alive
  dsimp only
  rcases pk_ix v1 (n := w * h) (by omega) with z | z | ⟨p, hpp, e⟩
  · exact ux_onBn (Or.inl z) (br_t rfl (uy_life g.1 hn hpn hc3 (fun bo' na' li' _ _ _ => uy_onBn (Or.inl z) (br_t rfl ⟨rfl, ur_in F⟩))))
  · exact ux_onBn (Or.inr z) (br_t rfl (uy_life g.1 hn hpn hc3 (fun bo' na' li' _ _ _ => uy_onBn (Or.inr z) (br_t rfl ⟨rfl, ur_in F⟩))))
  · subst e
    have hcp := hc3 p
    refine ux_onB hN.2 hpp (br_f (by decide) (ux_refresh g P hn hfr (fun fr' ch' vr' re' rE' rB' cC' rC' al' se' ow' R => ?_)))
    dsimp only
    refine nm_e ?_
    have hl : ub_t (al' 1 ||| al' 2) p ↔ ug_Lv w h (ux_col (bA n) (wA n)) p := by
      rw [ub_or, R.2.2.1, R.2.2.2.1]
      exact Iff.rfl
    have F2 := ur_frs (fr' := fr') F (Or.inr R)
    refine ek_if (ub_tst _ (by omega)) (fun h1 => ?_) (fun h1 => ?_)
    · refine uy_life g.1 hn hpn hc3 (fun bo' na' li' hb' M' L' => ?_)
      dsimp only
      refine uy_onB hN.2 hpp (br_f (by decide) ?_)
      obtain ⟨m, m1, m2, m3, m4⟩ := uy_N0 (M' 0 (by omega)) hpp
      have hv : li' (na' p).toNatClampNeg = 0 := Classical.not_not.mp fun z => h1 (hl.mpr ((L' p hpp).mp z))
      rw [nI_clamp (show p < 2 ^ 31 by omega), hb' p hpp, hv]
      exact ⟨pk_in p 49 (by omega), br_c (fun _ => ⟨rfl, ur_in F2⟩) (fun _ => ⟨pk_in p 147 (by omega), by rw [m2]; exact pk_in m 49 (by omega), br_t rfl ⟨rfl, ur_in F2⟩⟩)⟩
    · refine uy_life g.1 hn hpn hc3 (fun bo' na' li' hb' M' L' => ?_)
      dsimp only
      refine uy_onB hN.2 hpp (br_f (by decide) ?_)
      obtain ⟨m, m1, m2, m3, m4⟩ := uy_N0 (M' 0 (by omega)) hpp
      have hv := hl.mp (Classical.not_not.mp h1)
      have hne : ux_col (bA n) (wA n) p ≠ 0 := by
        rcases hv with a | a
        · have := (ug_Alc a).2; omega
        · have := (ug_Alc a).2; omega
      rw [nI_clamp (show p < 2 ^ 31 by omega), hb' p hpp]
      exact ⟨pk_in p 49 (by omega), br_f (nI_ne0 (by omega) (by omega)) ⟨pk_in p 147 (by omega), by rw [m2]; exact pk_in m 49 (by omega), br_f ((L' p hpp).mpr hv) ⟨rfl, ur_in F2⟩⟩⟩
theorem i_vc_owner {k : Nat} {u : SX} {v : SY} (I : i_Rel k u v) (hk : k + 2 ≤ 1027) (v1 : Int32) : wpX_owner (fun r u' => wpY_owner (fun r' v' => r' = r ∧ i_Rel (k + 2) u' v') v v1) u v1 := by
  refine ur_el (Q := fun u v => wpX_owner (fun r u' => wpY_owner (fun r' v' => r' = r ∧ i_Rel (k + 2) u' v') v v1) u v1) I ?_
  intro w h lim n fr fu fc lc mv bA wA lB lW ch vr re rE rB cC rC al se ow pa bo na de li F
  have F' := F
  obtain ⟨g, ⟨l8, l128, nl⟩, PP, hp, hz, hlost, hpass, hfr⟩ := F'
  have hN := ug_N g.1
  have hn : n ≤ 128 := by omega
  have P := PP n (Nat.le_refl n)
  have hc3 : ∀ q, ux_col (bA n) (wA n) q ≤ 2 := fun q => by have := ux_c3 (bA n) (wA n) q; omega
  have hpn := hp n (Nat.le_refl n)
  unfold wpX_owner wpY_owner
  dsimp only
  rcases pk_ix v1 (n := w * h) (by omega) with z | z | ⟨p, hpp, e⟩
  · exact ux_onBn (Or.inl z) (br_t rfl (uy_life g.1 hn hpn hc3 (fun bo' na' li' _ _ _ => uy_onBn (Or.inl z) (br_t rfl ⟨rfl, ur_in F⟩))))
  · exact ux_onBn (Or.inr z) (br_t rfl (uy_life g.1 hn hpn hc3 (fun bo' na' li' _ _ _ => uy_onBn (Or.inr z) (br_t rfl ⟨rfl, ur_in F⟩))))
  · subst e
    refine ux_onB hN.2 hpp (br_f (by decide) (ux_refresh g P hn hfr (fun fr' ch' vr' re' rE' rB' cC' rC' al' se' ow' R => ?_)))
    dsimp only
    refine nm_e ?_
    have F2 := ur_frs (fr' := fr') F (Or.inr R)
    have o1 : ub_t (ow' 1) p ↔ ug_O1 w h (ux_col (bA n) (wA n)) p := (R.2.2.2.2.1 p).trans ⟨fun z => z.2, fun z => ⟨hpp, z⟩⟩
    have o2 : ub_t (ow' 2) p ↔ ug_O2 w h (ux_col (bA n) (wA n)) p := (R.2.2.2.2.2 p).trans ⟨fun z => z.2, fun z => ⟨hpp, z⟩⟩
    have yy : ∀ r : Int32, nI (ug_ow w h (ux_col (bA n) (wA n)) p) = r → wpY_life (fun u => match u with | (f_w, f_h, f_limit, f_n, a_moveList, a_past, a_board, a_name, a_dead, a_living) => (wpY_onBoard (fun r_12 => (((r_12 = 0 → ((-3) = r ∧ i_Rel (k + 2) ((nI w), (nI (w * h)), nI lim, fu, fc, lc, nI n, fr', mv, bA, wA, lB, lW, ch', vr', re', rE', rB', cC', rC', al', se', ow') (f_w, f_h, f_limit, f_n, a_moveList, a_past, a_board, a_name, a_dead, a_living))) ∧ (¬ r_12 = 0 → (wpY_ownerOf (fun r_24 => (r_24 = r ∧ i_Rel (k + 2) ((nI w), (nI (w * h)), nI lim, fu, fc, lc, nI n, fr', mv, bA, wA, lB, lW, ch', vr', re', rE', rB', cC', rC', al', se', ow') (f_w, f_h, f_limit, f_n, a_moveList, a_past, a_board, a_name, a_dead, a_living))) (f_w, f_h, f_limit, f_n, a_moveList, a_past, a_board, a_name, a_dead, a_living) (nI p)))))) (f_w, f_h, f_limit, f_n, a_moveList, a_past, a_board, a_name, a_dead, a_living) (nI p))) ((nI w), (nI h), nI lim, nI n, mv, pa, bo, na, de, li) := by
      intro r hr
      refine uy_life g.1 hn hpn hc3 (fun bo' na' li' hb' M' L' => ?_)
      dsimp only
      exact uy_onB hN.2 hpp (br_f (by decide) (uy_own g.1 hb' hc3 M' L' hpp ⟨hr, ur_in F2⟩))
    refine ek_if (ub_tst _ (by omega)) (fun h1 => ek_if (ub_tst _ (by omega)) (fun h2 => yy 0 ?_) (fun h2 => yy 2 ?_)) (fun h1 => yy 1 ?_)
    · rw [ug_ow0 (fun z => h1 (o1.mpr z)) (fun z => h2 (o2.mpr z))]; rfl
    · rw [ug_ow2 (fun z => h1 (o1.mpr z)) (o2.mp (Classical.not_not.mp h2))]; rfl
    · have q1 := o1.mp (Classical.not_not.mp h1)
      rw [ug_ow1 q1 (fun z => ug_O12 q1 z)]; rfl
theorem i_vc_score {k : Nat} {u : SX} {v : SY} (I : i_Rel k u v) (hk : k + 2 ≤ 1027) : wpX_score (fun r u' => wpY_score (fun r' v' => r' = r ∧ i_Rel (k + 2) u' v') v) u := by
  refine ur_el (Q := fun u v => wpX_score (fun r u' => wpY_score (fun r' v' => r' = r ∧ i_Rel (k + 2) u' v') v) u) I ?_
  intro w h lim n fr fu fc lc mv bA wA lB lW ch vr re rE rB cC rC al se ow pa bo na de li F
  have F' := F
  obtain ⟨g, ⟨l8, l128, nl⟩, PP, hp, hz, hlost, hpass, hfr⟩ := F'
  have hN := ug_N g.1
  have hn : n ≤ 128 := by omega
  have P := PP n (Nat.le_refl n)
  have hc3 : ∀ q, ux_col (bA n) (wA n) q ≤ 2 := fun q => by have := ux_c3 (bA n) (wA n) q; omega
  have hpn := hp n (Nat.le_refl n)
  unfold wpX_score wpY_score
  dsimp only
  refine ux_refresh g P hn hfr (fun fr' ch' vr' re' rE' rB' cC' rC' al' se' ow' R => ?_)
  dsimp only
  have F2 := ur_frs (fr' := fr') F (Or.inr R)
  refine ux_cbN (by omega) (fun q hq => ((R.2.2.2.2.1 q).mp hq).1) (ux_cbN (by omega) (fun q hq => ((R.2.2.2.2.2 q).mp hq).1) ?_)
  rw [show cn (ub_t (ow' 1)) (w * h) = cn (ug_O1 w h (ux_col (bA n) (wA n))) (w * h) from cn_eq fun q hq => (R.2.2.2.2.1 q).trans ⟨fun z => z.2, fun z => ⟨hq, z⟩⟩, show cn (ub_t (ow' 2)) (w * h) = cn (ug_O2 w h (ux_col (bA n) (wA n))) (w * h) from cn_eq fun q hq => (R.2.2.2.2.2 q).trans ⟨fun z => z.2, fun z => ⟨hq, z⟩⟩]
  refine uy_life g.1 hn hpn hc3 (fun bo' na' li' hb' M' L' => ?_)
  dsimp only
  refine uy_sc g.1 hb' hc3 M' L' ?_
  exact ⟨rfl, ur_in F2⟩
end
