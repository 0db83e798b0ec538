section
theorem pk_uLs {f : Nat → Int64} {k : Nat} {x : Int64} : vp_updL f k x k = x := if_pos rfl
theorem pk_uLn {f : Nat → Int64} {k j : Nat} {x : Int64} (h : j ≠ k) : vp_updL f k x j = f j := if_neg h
theorem pk_sub {a b : Nat} (h : b ≤ a) : nI a - nI b = nI (a - b) := by
  obtain ⟨c, rfl⟩ : ∃ c, a = c + b := ⟨a - b, by omega⟩
  rw [← nI_add, Int32.add_sub_cancel, Nat.add_sub_cancel]
theorem pk_mul (a b : Nat) : nI a * nI b = nI (a * b) := (Int32.ofNat_mul a b).symm
theorem pk_div {a d : Nat} (ha : a < 2 ^ 31) (h0 : 0 < d) (hd : d < 2 ^ 31) : nI a / nI d = nI (a / d) := by
  apply Int32.toInt_inj.mp
  rw [lg_idiv_nonneg (by rw [nI_toInt ha]; omega) (by rw [nI_toInt hd]; omega), nI_toInt ha, nI_toInt hd, nI_toInt (Nat.lt_of_le_of_lt (Nat.div_le_self a d) ha)]
  first | rfl | exact (Int.natCast_ediv _ _).symm
theorem pk_rem {a d : Nat} (ha : a < 2 ^ 31) (h0 : 0 < d) (hd : d < 2 ^ 31) : nI a - nI a / nI d * nI d = nI (a % d) := by
  rw [pk_div ha h0 hd, pk_mul, pk_sub (Nat.div_mul_le_self a d)]
  exact congrArg nI (by have := Nat.div_add_mod' a d; omega)
theorem pk_ix (x : Int32) {n : Nat} (hn : n < 2 ^ 31) : x < 0 ∨ nI n ≤ x ∨ ∃ j : Nat, j < n ∧ x = nI j := by
  by_cases h : x < 0
  · exact Or.inl h
  · obtain ⟨j, hj, rfl⟩ := nI_of h
    by_cases h2 : j < n
    · exact Or.inr (Or.inr ⟨j, h2, rfl⟩)
    · exact Or.inr (Or.inl (nI_le (by omega) hj))
theorem pk_le {x y : Int32} {A B : Prop} (a b : Nat) (f : a ≤ b → A) (g : b < a → B) (hx : x = nI a := by rfl) (hy : y = nI b := by rfl) (ha : a < 2 ^ 31 := by omega) (hb : b < 2 ^ 31 := by omega) : (x ≤ y → A) ∧ (¬ x ≤ y → B) := by
  subst hx hy
  rw [nI_leI ha hb]
  exact ⟨f, fun z => g (by omega)⟩
theorem pk_lt {x y : Int32} {A B : Prop} (a b : Nat) (f : a < b → A) (g : b ≤ a → B) (hx : x = nI a := by rfl) (hy : y = nI b := by rfl) (ha : a < 2 ^ 31 := by omega) (hb : b < 2 ^ 31 := by omega) : (x < y → A) ∧ (¬ x < y → B) := by
  subst hx hy
  rw [nI_ltI ha hb]
  exact ⟨f, fun z => g (by omega)⟩
theorem pk_eq {x y : Int32} {A B : Prop} (a b : Nat) (f : a = b → A) (g : a ≠ b → B) (hx : x = nI a := by rfl) (hy : y = nI b := by rfl) (ha : a < 2 ^ 31 := by omega) (hb : b < 2 ^ 31 := by omega) : (x = y → A) ∧ (¬ x = y → B) := by
  subst hx hy
  rw [nI_eq ha hb]
  exact ⟨f, g⟩
theorem pk_in {x : Int32} (n N : Nat) (h : n < N) (hx : x = nI n := by rfl) (hN : N < 2 ^ 31 := by omega) : vp_in x N := by
  subst hx
  exact vp_in_nI h hN
theorem pk_cl {x : Int32} (n : Nat) (hx : x = nI n := by rfl) (h : n < 2 ^ 31 := by omega) : x.toNatClampNeg = n := by
  subst hx
  exact nI_clamp h
theorem pk_tn {n : Nat} (h : n < 2 ^ 32) : (nI n).toBitVec.toNat = n := Nat.mod_eq_of_lt h
theorem pk_and (x : Int32) {m : Int32} (k : Nat) (hm : m.toBitVec.toNat = 2 ^ k - 1) : x &&& m = nI (x.toBitVec.toNat % 2 ^ k) := by
  apply Int32.toBitVec_inj.mp
  apply BitVec.eq_of_toNat_eq
  rw [Int32.toBitVec_and, BitVec.toNat_and, hm, Nat.and_two_pow_sub_one_eq_mod]
  show _ = (BitVec.ofNat 32 _).toNat
  rw [BitVec.toNat_ofNat]
  exact (Nat.mod_eq_of_lt (Nat.lt_of_le_of_lt (Nat.mod_le _ _) x.toBitVec.isLt)).symm
theorem pk_andN {n : Nat} (h : n < 2 ^ 32) {m : Int32} (k : Nat) (hm : m.toBitVec.toNat = 2 ^ k - 1) : nI n &&& m = nI (n % 2 ^ k) := by
  rw [pk_and _ k hm, pk_tn h]
theorem pk_shr (a s : Int32) (k : Nat) (hs : (s.toBitVec.smod 32).toNat = k) : (a >>> s).toInt = a.toInt >>> k := by
  show (a.toBitVec.sshiftRight (s.toBitVec.smod 32).toNat).toInt = _
  rw [hs, BitVec.toInt_sshiftRight]
  rfl
theorem pk_shrN {n : Nat} (h : n < 2 ^ 31) (s : Int32) (k : Nat) (hs : (s.toBitVec.smod 32).toNat = k) : nI n >>> s = nI (n / 2 ^ k) := by
  apply Int32.toInt_inj.mp
  have h2 : n / 2 ^ k ≤ n := Nat.div_le_self _ _
  rw [pk_shr _ _ k hs, nI_toInt h, nI_toInt (by omega), Int.shiftRight_eq_div_pow]
  rfl
/-! ===== Int64 as a set of 64 states ===== -/
def gb_t (x : Int64) (i : Nat) : Bool := x.toBitVec.getLsbD i
def gb_one (k : Nat) : Int64 := (1 : Int64) <<< ((nI k).toInt64 &&& 63)
theorem gb_ext {x y : Int64} (h : ∀ i, i < 64 → gb_t x i = gb_t y i) : x = y := Int64.toBitVec_inj.mp (BitVec.eq_of_getLsbD_eq (fun i hi => h i hi))
theorem gb_or (x y : Int64) (i : Nat) : gb_t (x ||| y) i = (gb_t x i || gb_t y i) := by unfold gb_t; rw [Int64.toBitVec_or, BitVec.getLsbD_or]
theorem gb_and (x y : Int64) (i : Nat) : gb_t (x &&& y) i = (gb_t x i && gb_t y i) := by unfold gb_t; rw [Int64.toBitVec_and, BitVec.getLsbD_and]
theorem gb_0 (i : Nat) : gb_t 0 i = false := BitVec.getLsbD_zero
theorem gb_m1 : ∀ i, i < 64 → gb_t (-1) i = true := by decide +kernel
theorem gb_not (x : Int64) {i : Nat} (hi : i < 64) : gb_t (x ^^^ (-1)) i = !gb_t x i := by
  have h := gb_m1 i hi
  unfold gb_t at h ⊢
  rw [Int64.toBitVec_xor, BitVec.getLsbD_xor, h, Bool.xor_true]
theorem gb_oneV : ∀ k, k < 64 → (gb_one k).toBitVec = BitVec.twoPow 64 k := by decide +kernel
theorem gb_oneB {k i : Nat} (hk : k < 64) : gb_t (gb_one k) i = decide (k = i) := by
  unfold gb_t
  rw [gb_oneV k hk, BitVec.getLsbD_twoPow, decide_eq_true hk, Bool.true_and]
theorem gb_oneS {k : Nat} (hk : k < 64) : gb_t (gb_one k) k = true := by rw [gb_oneB hk, decide_eq_true rfl]
theorem gb_one0 {k : Nat} (hk : k < 64) : gb_one k ≠ 0 := by
  intro h
  have := gb_oneS hk
  rw [h, gb_0] at this
  exact Bool.noConfusion this
theorem gb_ne0 {x : Int64} {i : Nat} (h : gb_t x i = true) : x ≠ 0 := by
  intro e
  rw [e, gb_0] at h
  exact Bool.noConfusion h
theorem gb_ex {x : Int64} (h : x ≠ 0) : ∃ i, i < 64 ∧ gb_t x i = true := by
  apply Classical.byContradiction
  intro n
  apply h
  apply gb_ext
  intro i hi
  rw [gb_0]
  cases e : gb_t x i with
  | false => rfl
  | true => exact absurd ⟨i, hi, e⟩ n
theorem gb_low (y : Int64) : (y &&& 1) = 1 ↔ gb_t y 0 = true := by
  constructor
  · intro h
    have t : gb_t (y &&& 1) 0 = gb_t 1 0 := congrArg (fun z => gb_t z 0) h
    rw [gb_and, show gb_t 1 0 = true from by decide +kernel, Bool.and_true] at t
    exact t
  · intro h
    apply gb_ext
    intro i hi
    rw [gb_and]
    cases i with
    | zero => rw [h, Bool.true_and]
    | succ i => rw [(by decide +kernel : ∀ j, j < 64 → 0 < j → gb_t 1 j = false) (i + 1) hi (by omega), Bool.and_false]
theorem gb_su : ∀ n, n < 64 → (((nI n).toInt64.toUInt64 &&& Int64.toUInt64 63).toBitVec % 64).toNat = n := by decide +kernel
theorem gb_ushr (x : Int64) {k : Nat} (hk : k < 64) (i : Nat) : gb_t ((x.toUInt64 >>> ((nI k).toInt64.toUInt64 &&& Int64.toUInt64 63)).toInt64) i = gb_t x (k + i) := by
  show (x.toUInt64 >>> ((nI k).toInt64.toUInt64 &&& Int64.toUInt64 63)).toBitVec.getLsbD i = x.toUInt64.toBitVec.getLsbD (k + i)
  rw [UInt64.toBitVec_shiftRight]
  show (x.toUInt64.toBitVec >>> (((nI k).toInt64.toUInt64 &&& Int64.toUInt64 63).toBitVec % 64).toNat).getLsbD i = _
  rw [gb_su k hk, BitVec.getLsbD_ushiftRight]
theorem gb_sl : ∀ n, n < 64 → (((nI n).toInt64 &&& 63).toBitVec.smod 64).toNat = n := by decide +kernel
theorem gb_sshr (x : Int64) {k : Nat} (hk : k < 64) : gb_t (x >>> ((nI k).toInt64 &&& 63)) 0 = gb_t x k := by
  unfold gb_t
  rw [Int64.toBitVec_shiftRight]
  show (x.toBitVec.sshiftRight (((nI k).toInt64 &&& 63).toBitVec.smod 64).toNat).getLsbD 0 = _
  rw [gb_sl k hk, BitVec.getLsbD_sshiftRight]
  simp [hk]
theorem gb_hasX (x : Int64) {k : Nat} (hk : k < 64) : (((x.toUInt64 >>> ((nI k).toInt64.toUInt64 &&& Int64.toUInt64 63)).toInt64) &&& 1) = 1 ↔ gb_t x k = true := by
  rw [gb_low, gb_ushr x hk, Nat.add_zero]
theorem gb_hasY (x : Int64) {k : Nat} (hk : k < 64) : ((x >>> ((nI k).toInt64 &&& 63)) &&& 1) = 1 ↔ gb_t x k = true := by
  rw [gb_low, gb_sshr x hk]
theorem gb_bit (x : Int64) {k : Nat} (hk : k < 64) : ((((x.toUInt64 >>> ((nI k).toInt64.toUInt64 &&& Int64.toUInt64 63)).toInt64) &&& 1).toInt32) = nI (gb_t x k).toNat := by
  cases h : gb_t x k with
  | true => rw [(gb_hasX x hk).mpr h]; decide
  | false =>
    have e : (((x.toUInt64 >>> ((nI k).toInt64.toUInt64 &&& Int64.toUInt64 63)).toInt64) &&& 1) = 0 := by
      apply gb_ext
      intro i hi
      rw [gb_and, gb_0]
      cases i with
      | zero => rw [gb_ushr x hk, Nat.add_zero, h, Bool.false_and]
      | succ i => rw [(by decide +kernel : ∀ j, j < 64 → 0 < j → gb_t 1 j = false) (i + 1) hi (by omega), Bool.and_false]
    rw [e]; decide
theorem gb_part {x y : Int64} : (x &&& (y ^^^ (-1))) = 0 ↔ ∀ i, i < 64 → gb_t x i = true → gb_t y i = true := by
  constructor
  · intro h i hi hx
    have t : gb_t (x &&& (y ^^^ (-1))) i = gb_t 0 i := congrArg (fun z => gb_t z i) h
    rw [gb_and, gb_not _ hi, gb_0, hx, Bool.true_and] at t
    cases e : gb_t y i with
    | true => rfl
    | false => rw [e] at t; exact absurd t (by decide)
  · intro h
    apply gb_ext
    intro i hi
    rw [gb_and, gb_not _ hi, gb_0]
    cases hx : gb_t x i with
    | false => rfl
    | true => rw [h i hi hx]; rfl
theorem gb_0or (x : Int64) : 0 ||| x = x := gb_ext (fun i _ => by rw [gb_or, gb_0, Bool.false_or])
theorem gb_or0 (x : Int64) : x ||| 0 = x := gb_ext (fun i _ => by rw [gb_or, gb_0, Bool.or_false])
theorem gb_orIn {x : Int64} {k : Nat} (hk : k < 64) (h : gb_t x k = true) : x ||| gb_one k = x := gb_ext (fun i _ => by
  rw [gb_or, gb_oneB hk]
  by_cases e : k = i
  · subst e; rw [h, Bool.true_or]
  · rw [decide_eq_false e, Bool.or_false])
/-! ===== counting ===== -/
def gb_cnt (x : Int64) : Nat → Nat
  | 0 => 0
  | n + 1 => gb_cnt x n + (gb_t x n).toNat
theorem gb_cnt_b (x : Int64) : ∀ n, gb_cnt x n ≤ n := by
  intro n
  induction n with
  | zero => exact Nat.le_refl 0
  | succ n ih =>
    show gb_cnt x n + (gb_t x n).toNat ≤ n + 1
    have := Bool.toNat_le (gb_t x n)
    omega
theorem gb_cnt_m {x y : Int64} (h : ∀ i, i < 64 → gb_t x i = true → gb_t y i = true) : ∀ n, n ≤ 64 → gb_cnt x n ≤ gb_cnt y n := by
  intro n
  induction n with
  | zero => intro _; exact Nat.le_refl 0
  | succ n ih =>
    intro hn
    have a := ih (by omega)
    show gb_cnt x n + (gb_t x n).toNat ≤ gb_cnt y n + (gb_t y n).toNat
    cases e : gb_t x n with
    | false => show gb_cnt x n + 0 ≤ _; omega
    | true => rw [h n (by omega) e]; omega
theorem gb_cnt_s {x y : Int64} (h : ∀ i, i < 64 → gb_t x i = true → gb_t y i = true) {j : Nat} (hx : gb_t x j = false) (hy : gb_t y j = true) : ∀ n, n ≤ 64 → j < n → gb_cnt x n < gb_cnt y n := by
  intro n
  induction n with
  | zero => intro _ z; exact absurd z (Nat.not_lt_zero _)
  | succ n ih =>
    intro hn hj
    show gb_cnt x n + (gb_t x n).toNat < gb_cnt y n + (gb_t y n).toNat
    by_cases e : j = n
    · subst e
      have a := gb_cnt_m h j (by omega)
      rw [hx, hy]
      show gb_cnt x j + 0 < gb_cnt y j + 1
      omega
    · have a := ih (by omega) (by omega)
      cases e : gb_t x n with
      | false => show gb_cnt x n + 0 < _; omega
      | true => rw [h n (by omega) e]; omega
theorem gb_cnt_lt {x y : Int64} (h : ∀ i, i < 64 → gb_t x i = true → gb_t y i = true) (hn : x ≠ y) : gb_cnt x 64 < gb_cnt y 64 := by
  have : ∃ j, j < 64 ∧ gb_t x j = false ∧ gb_t y j = true := by
    apply Classical.byContradiction
    intro n
    apply hn
    apply gb_ext
    intro i hi
    cases a : gb_t x i with
    | true => rw [h i hi a]
    | false =>
      cases b : gb_t y i with
      | false => rfl
      | true => exact absurd ⟨i, hi, a, b⟩ n
  obtain ⟨j, hj, a, b⟩ := this
  exact gb_cnt_s h a b 64 (Nat.le_refl _) hj
theorem gb_cnt_one : ∀ k, k < 64 → gb_cnt (gb_one k) 64 = 1 := by decide +kernel
theorem gb_sgl : ∀ k, k < 64 → (gb_one k &&& (gb_one k - 1)) = 0 := by decide +kernel
theorem gb_oneIn {x : Int64} {k : Nat} (hk : k < 64) (h : gb_t x k = true) : ∀ i, i < 64 → gb_t (gb_one k) i = true → gb_t x i = true := by
  intro i _ e
  rw [gb_oneB hk, decide_eq_true_eq] at e
  subst e
  exact h
/-- a set that isn't empty has one member just when its lowest taken away leaves none -/
theorem gb_settled {x : Int64} (h0 : x ≠ 0) : gb_cnt x 64 = 1 ↔ (x &&& (x - 1)) = 0 := by
  obtain ⟨k, hk, hb⟩ := gb_ex h0
  have key : gb_cnt x 64 = 1 ↔ x = gb_one k := by
    constructor
    · intro h
      apply Classical.byContradiction
      intro n
      have := gb_cnt_lt (gb_oneIn hk hb) (fun e => n e.symm)
      rw [gb_cnt_one k hk] at this
      omega
    · intro h
      rw [h]
      exact gb_cnt_one k hk
  rw [key]
  constructor
  · intro h
    rw [h]
    exact gb_sgl k hk
  · intro h
    have hm : x.toBitVec.toNat ≠ 0 := by
      intro e
      apply h0
      apply Int64.toBitVec_inj.mp
      exact BitVec.eq_of_toNat_eq e
    have hlt := x.toBitVec.isLt
    have e1 : (x - 1).toBitVec.toNat = x.toBitVec.toNat - 1 := by
      rw [Int64.toBitVec_sub, BitVec.toNat_sub]
      show (2 ^ 64 - 1 + x.toBitVec.toNat) % 2 ^ 64 = _
      omega
    have e2 : x.toBitVec.toNat &&& (x.toBitVec.toNat - 1) = 0 := by
      have t : (x &&& (x - 1)).toBitVec.toNat = (0 : Int64).toBitVec.toNat := congrArg (fun z : Int64 => z.toBitVec.toNat) h
      rw [Int64.toBitVec_and, BitVec.toNat_and, e1] at t
      exact t
    obtain ⟨j, hj⟩ := (Nat.and_sub_one_eq_zero_iff_isPowerOfTwo hm).mp e2
    have hb2 : x.toBitVec.toNat.testBit k = true := hb
    rw [hj, Nat.testBit_two_pow, decide_eq_true_eq] at hb2
    subst hb2
    apply Int64.toBitVec_inj.mp
    apply BitVec.eq_of_toNat_eq
    rw [gb_oneV j hk, BitVec.toNat_twoPow, hj]
    exact (Nat.mod_eq_of_lt (Nat.pow_lt_pow_right (by decide) hk)).symm
end
section
/-! ===== rows written in order ===== -/
def gp_fill (e : Nat → Int64) (c : Nat) (v : Nat → Int64) (j : Nat) : Nat → Int64 := fun q => if 64 * c ≤ q ∧ q < 64 * c + j then v (q - 64 * c) else e q
theorem gp_fill0 (e : Nat → Int64) (c : Nat) (v : Nat → Int64) : gp_fill e c v 0 = e := funext fun q => if_neg (by omega)
theorem gp_fillS (e : Nat → Int64) (c : Nat) (v : Nat → Int64) (j : Nat) : vp_updL (gp_fill e c v j) (64 * c + j) (v j) = gp_fill e c v (j + 1) := by
  funext q
  unfold vp_updL gp_fill
  by_cases h : q = 64 * c + j
  · rw [if_pos h, if_pos (by omega), show q - 64 * c = j by omega]
  · rw [if_neg h]
    by_cases h2 : 64 * c ≤ q ∧ q < 64 * c + j
    · rw [if_pos h2, if_pos (by omega)]
    · rw [if_neg h2, if_neg (by omega)]
theorem gp_fillOld {e : Nat → Int64} {c : Nat} {v : Nat → Int64} {j a i : Nat} (ha : a < c) (hi : i < 64) : gp_fill e c v j (64 * a + i) = e (64 * a + i) := if_neg (by omega)
theorem gp_fillNew {e : Nat → Int64} {c : Nat} {v : Nat → Int64} {j i : Nat} (hi : i < j) : gp_fill e c v j (64 * c + i) = v i := by
  unfold gp_fill
  rw [if_pos (by omega), show 64 * c + i - 64 * c = i by omega]
/-! ===== a set from a predicate ===== -/
def gp_set (P : Nat → Bool) : Nat → Int64
  | 0 => 0
  | n + 1 => if P n = true then gp_set P n ||| gb_one n else gp_set P n
theorem gp_setT {P : Nat → Bool} {n : Nat} (h : P n = true) : gp_set P (n + 1) = gp_set P n ||| gb_one n := if_pos h
theorem gp_setF {P : Nat → Bool} {n : Nat} (h : ¬ P n = true) : gp_set P (n + 1) = gp_set P n := if_neg h
theorem gp_setB (P : Nat → Bool) : ∀ n, n ≤ 64 → ∀ i, gb_t (gp_set P n) i = (decide (i < n) && P i) := by
  intro n
  induction n with
  | zero => intro _ i; exact (gb_0 i).trans (by simp)
  | succ n ih =>
    intro hn i
    have a := ih (by omega) i
    by_cases h : P n = true
    · rw [gp_setT h, gb_or, a, gb_oneB (by omega)]
      by_cases e : n = i
      · subst e; simp [h]
      · by_cases l : i < n
        · simp [e, l, show i < n + 1 by omega]
        · simp [e, l, show ¬ i < n + 1 by omega]
    · rw [gp_setF h, a]
      by_cases e : n = i
      · subst e; simp [h]
      · by_cases l : i < n
        · simp [l, show i < n + 1 by omega]
        · simp [l, show ¬ i < n + 1 by omega]
theorem gp_setI (P : Nat → Bool) {i : Nat} (hi : i < 64) : gb_t (gp_set P 64) i = P i := by
  rw [gp_setB P 64 (Nat.le_refl _) i, decide_eq_true hi, Bool.true_and]
/-! ===== images, steps ===== -/
def gp_img (e : Nat → Int64) (p : Nat) (m : Int64) : Nat → Int64
  | 0 => 0
  | n + 1 => if gb_t m n = true then gp_img e p m n ||| e (64 * p + n) else gp_img e p m n
theorem gp_imgT {e : Nat → Int64} {p : Nat} {m : Int64} {n : Nat} (h : gb_t m n = true) : gp_img e p m (n + 1) = gp_img e p m n ||| e (64 * p + n) := if_pos h
theorem gp_imgF {e : Nat → Int64} {p : Nat} {m : Int64} {n : Nat} (h : ¬ gb_t m n = true) : gp_img e p m (n + 1) = gp_img e p m n := if_neg h
theorem gp_imgEq {e e' : Nat → Int64} {p : Nat} (m : Int64) (h : ∀ i, i < 64 → e' (64 * p + i) = e (64 * p + i)) : ∀ n, n ≤ 64 → gp_img e' p m n = gp_img e p m n := by
  intro n
  induction n with
  | zero => intro _; rfl
  | succ n ih =>
    intro hn
    have a := ih (by omega)
    by_cases b : gb_t m n = true
    · rw [gp_imgT b, gp_imgT b, a, h n (by omega)]
    · rw [gp_imgF b, gp_imgF b, a]
theorem gp_imgB {e : Nat → Int64} {p : Nat} {m : Int64} {k i : Nat} (hm : gb_t m k = true) (hi : gb_t (e (64 * p + k)) i = true) : ∀ n, k < n → gb_t (gp_img e p m n) i = true := by
  intro n
  induction n with
  | zero => intro z; exact absurd z (Nat.not_lt_zero _)
  | succ n ih =>
    intro hk
    by_cases c : k = n
    · subst c
      rw [gp_imgT hm, gb_or, hi, Bool.or_true]
    · have a := ih (by omega)
      by_cases b : gb_t m n = true
      · rw [gp_imgT b, gb_or, a, Bool.true_or]
      · rw [gp_imgF b, a]
def gp_half (e G : Nat → Int64) (a i : Nat) : Int64 := if gb_t (G 0) i = true then e (64 * a + i) else 0
def gp_stp (e G : Nat → Int64) (a b i : Nat) : Int64 := if gb_t (G 1) i = true then gp_half e G a i ||| e (64 * b + i) else gp_half e G a i
def gp_good (s G : Nat → Int64) (a b i : Nat) : Bool := (!gb_t (G 0) i || gb_t (s a) i) && (!gb_t (G 1) i || gb_t (s b) i)
theorem gp_stpEq {e e' G : Nat → Int64} {a b i : Nat} (ha : e' (64 * a + i) = e (64 * a + i)) (hb : e' (64 * b + i) = e (64 * b + i)) : gp_stp e' G a b i = gp_stp e G a b i := by
  unfold gp_stp gp_half
  rw [ha, hb]
/-! ===== sure states have ends ===== -/
def gp_Inv (c : Nat) (e s : Nat → Int64) : Prop := ∀ p, p < c → ∀ i, i < 64 → gb_t (s p) i = true → e (64 * p + i) ≠ 0
theorem gp_InvS {c : Nat} {e s : Nat → Int64} {v : Nat → Int64} {w : Int64} (h : gp_Inv c e s) (hw : ∀ i, i < 64 → gb_t w i = true → v i ≠ 0) : gp_Inv (c + 1) (gp_fill e c v 64) (vp_updL s c w) := by
  intro p hp i hi hb
  by_cases hc : p = c
  · subst hc
    rw [pk_uLs] at hb
    rw [gp_fillNew hi]
    exact hw i hi hb
  · rw [pk_uLn hc] at hb
    rw [gp_fillOld (by omega) hi]
    exact h p (by omega) i hi hb
theorem gp_halfI {e G : Nat → Int64} {a b i j : Nat} (h : gb_t (gp_half e G a i) j = true) : gb_t (gp_stp e G a b i) j = true := by
  unfold gp_stp
  by_cases g : gb_t (G 1) i = true
  · rw [if_pos g, gb_or, h, Bool.true_or]
  · rw [if_neg g, h]
theorem gp_stpNe {c : Nat} {e s G : Nat → Int64} {a b i : Nat} (h : gp_Inv c e s) (ha : a < c) (hb : b < c) (hi : i < 64) (hg : gb_t (G 0 ||| G 1) i = true) (hs : gp_good s G a b i = true) : gp_stp e G a b i ≠ 0 := by
  rw [gb_or] at hg
  unfold gp_good at hs
  by_cases g0 : gb_t (G 0) i = true
  · have sa : gb_t (s a) i = true := by
      rw [g0] at hs
      simp only [Bool.not_true, Bool.false_or, Bool.and_eq_true] at hs
      exact hs.1
    obtain ⟨j, _, hj⟩ := gb_ex (h a ha i hi sa)
    refine gb_ne0 (i := j) (gp_halfI ?_)
    unfold gp_half
    rw [if_pos g0]
    exact hj
  · have g1 : gb_t (G 1) i = true := by
      cases z : gb_t (G 0) i with
      | true => exact absurd z g0
      | false => rw [z, Bool.false_or] at hg; exact hg
    have sb : gb_t (s b) i = true := by
      rw [g1] at hs
      simp only [Bool.not_true, Bool.false_or, Bool.and_eq_true] at hs
      exact hs.2
    obtain ⟨j, _, hj⟩ := gb_ex (h b hb i hi sb)
    refine gb_ne0 (i := j) ?_
    unfold gp_stp
    rw [if_pos g1, gb_or, hj, Bool.or_true]
/-! ===== the least closed set ===== -/
def gp_Cl (T : Nat → Int64) (C : Nat → Prop) : Prop := ∀ i, i < 64 → C i → ∀ j, j < 64 → gb_t (T i) j = true → C j
def gp_Reach (T : Nat → Int64) (s : Nat) (r : Int64) : Prop := gb_t r s = true ∧ gp_Cl T (fun i => gb_t r i = true) ∧ ∀ C : Nat → Prop, gp_Cl T C → C s → ∀ i, i < 64 → gb_t r i = true → C i
theorem gp_ReachU {T : Nat → Int64} {s : Nat} {r r' : Int64} (h : gp_Reach T s r) (h' : gp_Reach T s r') : r = r' := by
  have a := h.2.2 (fun i => gb_t r' i = true) h'.2.1 h'.1
  have b := h'.2.2 (fun i => gb_t r i = true) h.2.1 h.1
  apply gb_ext
  intro i hi
  cases x : gb_t r i with
  | true => exact (a i hi x).symm
  | false =>
    cases y : gb_t r' i with
    | false => rfl
    | true => exact x.symm.trans (b i hi y)
def gp_pX (T : Nat → Int64) (o acc : Int64) : Nat → Int64
  | 0 => acc
  | n + 1 => if gb_t o n = true then gp_pX T o acc n ||| T n else gp_pX T o acc n
def gp_pY (T : Nat → Int64) (acc : Int64) : Nat → Int64
  | 0 => acc
  | n + 1 => if gb_t (gp_pY T acc n) n = true then gp_pY T acc n ||| T n else gp_pY T acc n
theorem gp_pXT {T : Nat → Int64} {o acc : Int64} {n : Nat} (h : gb_t o n = true) : gp_pX T o acc (n + 1) = gp_pX T o acc n ||| T n := if_pos h
theorem gp_pXF {T : Nat → Int64} {o acc : Int64} {n : Nat} (h : ¬ gb_t o n = true) : gp_pX T o acc (n + 1) = gp_pX T o acc n := if_neg h
theorem gp_pYT {T : Nat → Int64} {acc : Int64} {n : Nat} (h : gb_t (gp_pY T acc n) n = true) : gp_pY T acc (n + 1) = gp_pY T acc n ||| T n := if_pos h
theorem gp_pYF {T : Nat → Int64} {acc : Int64} {n : Nat} (h : ¬ gb_t (gp_pY T acc n) n = true) : gp_pY T acc (n + 1) = gp_pY T acc n := if_neg h
theorem gp_pX_s {T : Nat → Int64} {o acc : Int64} {n i : Nat} (h : gb_t (gp_pX T o acc n) i = true) : gb_t (gp_pX T o acc (n + 1)) i = true := by
  by_cases b : gb_t o n = true
  · rw [gp_pXT b, gb_or, h, Bool.true_or]
  · rw [gp_pXF b, h]
theorem gp_pY_s {T : Nat → Int64} {acc : Int64} {n i : Nat} (h : gb_t (gp_pY T acc n) i = true) : gb_t (gp_pY T acc (n + 1)) i = true := by
  by_cases b : gb_t (gp_pY T acc n) n = true
  · rw [gp_pYT b, gb_or, h, Bool.true_or]
  · rw [gp_pYF b, h]
theorem gp_pX_m {T : Nat → Int64} {o acc : Int64} {i : Nat} (h : gb_t acc i = true) : ∀ n, gb_t (gp_pX T o acc n) i = true := by
  intro n
  induction n with
  | zero => exact h
  | succ n ih => exact gp_pX_s ih
theorem gp_pY_m {T : Nat → Int64} {acc : Int64} {i : Nat} (h : gb_t acc i = true) : ∀ n, gb_t (gp_pY T acc n) i = true := by
  intro n
  induction n with
  | zero => exact h
  | succ n ih => exact gp_pY_s ih
theorem gp_pX_g {T : Nat → Int64} {o acc : Int64} {k i : Nat} (hk : gb_t o k = true) (hi : gb_t (T k) i = true) : ∀ n, k < n → gb_t (gp_pX T o acc n) i = true := by
  intro n
  induction n with
  | zero => intro z; exact absurd z (Nat.not_lt_zero _)
  | succ n ih =>
    intro h
    by_cases c : k = n
    · subst c
      rw [gp_pXT hk, gb_or, hi, Bool.or_true]
    · exact gp_pX_s (ih (by omega))
theorem gp_pY_g {T : Nat → Int64} {acc : Int64} {k i : Nat} (hk : gb_t acc k = true) (hi : gb_t (T k) i = true) : ∀ n, k < n → gb_t (gp_pY T acc n) i = true := by
  intro n
  induction n with
  | zero => intro z; exact absurd z (Nat.not_lt_zero _)
  | succ n ih =>
    intro h
    by_cases c : k = n
    · subst c
      rw [gp_pYT (gp_pY_m hk k), gb_or, hi, Bool.or_true]
    · exact gp_pY_s (ih (by omega))
theorem gp_pX_C {T : Nat → Int64} {o acc : Int64} {C : Nat → Prop} (hC : gp_Cl T C) (ho : ∀ i, i < 64 → gb_t o i = true → C i) (ha : ∀ i, i < 64 → gb_t acc i = true → C i) : ∀ n, n ≤ 64 → ∀ i, i < 64 → gb_t (gp_pX T o acc n) i = true → C i := by
  intro n
  induction n with
  | zero => intro _; exact ha
  | succ n ih =>
    intro hn i hi h
    by_cases b : gb_t o n = true
    · rw [gp_pXT b, gb_or, Bool.or_eq_true] at h
      rcases h with h | h
      · exact ih (by omega) i hi h
      · exact hC n (by omega) (ho n (by omega) b) i hi h
    · rw [gp_pXF b] at h
      exact ih (by omega) i hi h
theorem gp_pY_C {T : Nat → Int64} {acc : Int64} {C : Nat → Prop} (hC : gp_Cl T C) (ha : ∀ i, i < 64 → gb_t acc i = true → C i) : ∀ n, n ≤ 64 → ∀ i, i < 64 → gb_t (gp_pY T acc n) i = true → C i := by
  intro n
  induction n with
  | zero => intro _; exact ha
  | succ n ih =>
    intro hn i hi h
    by_cases b : gb_t (gp_pY T acc n) n = true
    · rw [gp_pYT b, gb_or, Bool.or_eq_true] at h
      rcases h with h | h
      · exact ih (by omega) i hi h
      · exact hC n (by omega) (ih (by omega) n (by omega) b) i hi h
    · rw [gp_pYF b] at h
      exact ih (by omega) i hi h
/-- what holds at the head of round r: both sides -/
def gp_RI (T : Nat → Int64) (s r : Nat) (st dn : Int64) : Prop := gb_t st s = true ∧ (∀ i, i < 64 → gb_t dn i = true → ∀ j, j < 64 → gb_t (T i) j = true → gb_t st j = true) ∧ (∀ C : Nat → Prop, gp_Cl T C → C s → ∀ i, i < 64 → gb_t st i = true → C i) ∧ (st = dn ∨ r + 1 ≤ gb_cnt st 64)
theorem gp_RI_0 (T : Nat → Int64) {s : Nat} (hs : s < 64) : gp_RI T s 0 (gb_one s) 0 := by
  refine ⟨gb_oneS hs, fun i _ h => ?_, fun C _ h i _ hb => ?_, Or.inr ?_⟩
  · rw [gb_0] at h; exact Bool.noConfusion h
  · rw [gb_oneB hs, decide_eq_true_eq] at hb
    subst hb
    exact h
  · rw [gb_cnt_one s hs]
    exact Nat.le_refl _
theorem gp_RI_n {T : Nat → Int64} {s r : Nat} {st dn st' : Int64} (h : gp_RI T s r st dn) (hd : ¬ st = dn) (hm : ∀ i, gb_t st i = true → gb_t st' i = true) (hg : ∀ i, i < 64 → gb_t st i = true → ∀ j, j < 64 → gb_t (T i) j = true → gb_t st' j = true) (hC : ∀ C : Nat → Prop, gp_Cl T C → (∀ i, i < 64 → gb_t st i = true → C i) → ∀ i, i < 64 → gb_t st' i = true → C i) : gp_RI T s (r + 1) st' st := by
  refine ⟨hm s h.1, hg, fun C c z => hC C c (h.2.2.1 C c z), ?_⟩
  rcases h.2.2.2 with e | e
  · exact absurd e hd
  · by_cases z : st' = st
    · exact Or.inl z
    · have := gb_cnt_lt (fun i _ => hm i) (fun q => z q.symm)
      exact Or.inr (by omega)
theorem gp_RI_X {T : Nat → Int64} {s r : Nat} {st dn : Int64} (h : gp_RI T s r st dn) (hd : ¬ st = dn) : gp_RI T s (r + 1) (gp_pX T (st &&& (dn ^^^ (-1))) st 64) st := by
  refine gp_RI_n h hd (fun i hi => gp_pX_m hi 64) (fun i hi hb j hj ht => ?_) (fun C c a => gp_pX_C c (fun i hi z => ?_) a 64 (Nat.le_refl _))
  · by_cases d : gb_t dn i = true
    · exact gp_pX_m (h.2.1 i hi d j hj ht) 64
    · refine gp_pX_g (k := i) ?_ ht 64 hi
      rw [gb_and, gb_not _ hi, hb, Bool.true_and]
      cases q : gb_t dn i with
      | true => exact absurd q d
      | false => rfl
  · rw [gb_and, Bool.and_eq_true] at z
    exact a i hi z.1
theorem gp_RI_Y {T : Nat → Int64} {s r : Nat} {st dn : Int64} (h : gp_RI T s r st dn) (hd : ¬ st = dn) : gp_RI T s (r + 1) (gp_pY T st 64) st :=
  gp_RI_n h hd (fun i hi => gp_pY_m hi 64) (fun i hi hb j hj ht => gp_pY_g hb ht 64 hi) (fun C c a => gp_pY_C c a 64 (Nat.le_refl _))
theorem gp_RI_e {T : Nat → Int64} {s r : Nat} {st dn : Int64} (h : gp_RI T s r st dn) (hr : 64 ≤ r) : st = dn := by
  rcases h.2.2.2 with e | e
  · exact e
  · have := gb_cnt_b st 64
    omega
theorem gp_RI_R {T : Nat → Int64} {s r : Nat} {st dn : Int64} (h : gp_RI T s r st dn) (e : st = dn) : gp_Reach T s st := by
  subst e
  exact ⟨h.1, h.2.1, h.2.2.1⟩
/-! ===== the sure states of a loop ===== -/
def gp_cond (e s G : Nat → Int64) (a b : Nat) (p : Int64) (n : Nat) : Bool := gb_t (G 0 ||| G 1) n && (gp_good s G a b n && decide ((gp_stp e G a b n &&& (p ^^^ (-1))) = 0))
def gp_rest (c : Int64 → Nat → Bool) (acc : Int64) : Nat → Int64
  | 0 => acc
  | n + 1 => if c (gp_rest c acc n) n = true then gp_rest c acc n ||| gb_one n else gp_rest c acc n
theorem gp_restT {c : Int64 → Nat → Bool} {acc : Int64} {n : Nat} (h : c (gp_rest c acc n) n = true) : gp_rest c acc (n + 1) = gp_rest c acc n ||| gb_one n := if_pos h
theorem gp_restF {c : Int64 → Nat → Bool} {acc : Int64} {n : Nat} (h : ¬ c (gp_rest c acc n) n = true) : gp_rest c acc (n + 1) = gp_rest c acc n := if_neg h
theorem gp_rest_m {c : Int64 → Nat → Bool} {acc : Int64} {i : Nat} (h : gb_t acc i = true) : ∀ n, gb_t (gp_rest c acc n) i = true := by
  intro n
  induction n with
  | zero => exact h
  | succ n ih =>
    by_cases b : c (gp_rest c acc n) n = true
    · rw [gp_restT b, gb_or, ih, Bool.true_or]
    · rw [gp_restF b, ih]
/-- a state that is in already changes nothing -/
theorem gp_rest_in {c : Int64 → Nat → Bool} {acc : Int64} {n : Nat} (hn : n < 64) (h : gb_t (gp_rest c acc n) n = true) : gp_rest c acc (n + 1) = gp_rest c acc n := by
  by_cases b : c (gp_rest c acc n) n = true
  · rw [gp_restT b, gb_orIn hn h]
  · rw [gp_restF b]
/-- from i on some state outside can be met, whatever closed set is looked at -/
def gp_E (T : Nat → Int64) (out : Int64) (i : Nat) : Prop := ∀ C : Nat → Prop, gp_Cl T C → C i → ∃ j, j < 64 ∧ C j ∧ gb_t out j = true
theorem gp_rest_E {c : Nat} {e s G : Nat → Int64} {a b : Nat} {out acc : Int64} (I : gp_Inv c e s) (ha : a < c) (hb : b < c) (h : ∀ i, i < 64 → gb_t acc i = true → gp_E (gp_stp e G a b) out i) : ∀ n, n ≤ 64 → ∀ i, i < 64 → gb_t (gp_rest (gp_cond e s G a b) acc n) i = true → gp_E (gp_stp e G a b) out i := by
  intro n
  induction n with
  | zero => intro _; exact h
  | succ n ih =>
    intro hn i hi hb'
    by_cases q : gp_cond e s G a b (gp_rest (gp_cond e s G a b) acc n) n = true
    · rw [gp_restT q, gb_or, gb_oneB (by omega), Bool.or_eq_true, decide_eq_true_eq] at hb'
      rcases hb' with z | z
      · exact ih (by omega) i hi z
      · subst z
        unfold gp_cond at q
        simp only [Bool.and_eq_true, decide_eq_true_eq] at q
        obtain ⟨q1, q2, q3⟩ := q
        obtain ⟨j, hj, hj2⟩ := gb_ex (gp_stpNe I ha hb hi q1 q2)
        intro C hC hCn
        exact ih (by omega) j hj (gb_part.mp q3 j hj hj2) C hC (hC n hi hCn j hj hj2)
    · rw [gp_restF q] at hb'
      exact ih (by omega) i hi hb'
theorem gp_E_out {T : Nat → Int64} {out : Int64} {i : Nat} (hi : i < 64) (h : gb_t out i = true) : gp_E T out i := fun _ _ c => ⟨i, hi, c, h⟩
theorem gp_E_ne {T : Nat → Int64} {out r : Int64} {i : Nat} (h : gp_E T out i) (hr : gp_Reach T i r) : (r &&& out) ≠ 0 := by
  obtain ⟨j, _, a, b⟩ := h (fun k => gb_t r k = true) hr.2.1 hr.1
  refine gb_ne0 (i := j) ?_
  rw [gb_and, a, b]
  rfl
/-! ===== the worth of a form ===== -/
def gp_val (f i : Nat) : Nat := (f / 64 * (i / 8) + f / 8 % 8 * (i % 8) + f % 8) % 8
theorem gp_valB {f i : Nat} (hf : f < 512) (hi : i < 64) : f / 64 * (i / 8) + f / 8 % 8 * (i % 8) + f % 8 < 2 ^ 31 := by
  have a := Nat.mul_le_mul (show f / 64 ≤ 7 by omega) (show i / 8 ≤ 7 by omega)
  have b := Nat.mul_le_mul (show f / 8 % 8 ≤ 7 by omega) (show i % 8 ≤ 7 by omega)
  omega
/-! ===== the relation ===== -/
def i_Rel (_ : Nat) (u : SX) (v : SY) : Prop := ∃ (c : Nat) (e s G : Nat → Int64), c ≤ 30 ∧ gp_Inv c e s ∧ u = (nI c, e, s, G) ∧ v = (G 0, G 1, nI c, e, s)
end
section
/-! ===== numbers of rows and states ===== -/
theorem gn_ge {j : Nat} (h : j < 64) : ¬ (64 : Int32) ≤ nI j := nI_ge (b := 64) h (by decide)
theorem gn_64 : (64 : Int32) ≤ nI 64 := by decide
theorem gn_ix (p i : Nat) : (64 : Int32) * nI p + nI i = nI (64 * p + i) := by
  show nI 64 * nI p + nI i = _
  rw [pk_mul, nI_add]
theorem gn_in {p i : Nat} (hp : p < 30) (hi : i < 64) : vp_in ((64 : Int32) * nI p + nI i) 1920 := by
  rw [gn_ix]
  exact vp_in_nI (by omega) (by decide)
theorem gn_cl {p i : Nat} (hp : p < 30) (hi : i < 64) : ((64 : Int32) * nI p + nI i).toNatClampNeg = 64 * p + i := by
  rw [gn_ix]
  exact nI_clamp (by omega)
theorem gn_in30 {p : Nat} (hp : p < 30) : vp_in (nI p) 30 := vp_in_nI hp (by decide)
theorem gn_cl30 {p : Nat} (hp : p < 30) : (nI p).toNatClampNeg = p := nI_clamp (by omega)
theorem gn_10 : ¬ (1 : Int32) = 0 := by decide
/-! ===== has, in, part ===== -/
theorem gx_has {A B : Prop} {x : Int64} {k : Nat} (hk : k < 64) (f : ¬ gb_t x k = true → A) (t : gb_t x k = true → B) : wpX_has (fun r => (r = 0 → A) ∧ (¬ r = 0 → B)) x (nI k) := by
  unfold wpX_has
  by_cases h : gb_t x k = true
  · exact br_t ((gb_hasX x hk).mpr h) (br_f gn_10 (t h))
  · exact br_f (fun z => h ((gb_hasX x hk).mp z)) (br_t rfl (f h))
theorem gy_in {A B : Prop} {v : SY} {x : Int64} {k : Nat} (hk : k < 64) (f : ¬ gb_t x k = true → A) (t : gb_t x k = true → B) : wpY_in (fun r => (r = 0 → A) ∧ (¬ r = 0 → B)) v x (nI k) := by
  obtain ⟨g, h, c, e, s⟩ := v
  unfold wpY_in
  by_cases h : gb_t x k = true
  · exact br_t ((gb_hasY x hk).mpr h) (br_f gn_10 (t h))
  · exact br_f (fun z => h ((gb_hasY x hk).mp z)) (br_t rfl (f h))
theorem gy_part {A B : Prop} {v : SY} {x y : Int64} (f : ¬ (x &&& (y ^^^ (-1))) = 0 → A) (t : (x &&& (y ^^^ (-1))) = 0 → B) : wpY_part (fun r => (r = 0 → A) ∧ (¬ r = 0 → B)) v x y := by
  obtain ⟨g, h, c, e, s⟩ := v
  unfold wpY_part
  by_cases h : (x &&& (y ^^^ (-1))) = 0
  · exact br_t h (br_f gn_10 (t h))
  · exact br_f h (br_t rfl (f h))
/-! ===== numbers of programs, room ===== -/
theorem gx_good1 {post : Int32 → Prop} {c p : Nat} {e s G : Nat → Int64} (hc : c ≤ 30) (hp : p < c) (h : post 1) : wpX_isGood post (nI c, e, s, G) (nI p) :=
  br_f (nI_pos (by omega)) (br_f (nI_ge hp (by omega)) h)
theorem gx_good0 {post : Int32 → Prop} {c : Nat} {x : Int32} {e s G : Nat → Int64} (hn : ¬ ∃ p, p < c ∧ x = nI p) (h : post 0) : wpX_isGood post (nI c, e, s, G) x := by
  by_cases h0 : x < 0
  · exact br_t h0 h
  · by_cases h1 : nI c ≤ x
    · exact br_f h0 (br_t h1 h)
    · exfalso
      obtain ⟨j, hj, rfl⟩ := nI_of h0
      apply hn
      refine ⟨j, ?_, rfl⟩
      apply Classical.byContradiction
      intro z
      exact h1 (nI_le (by omega) hj)
theorem gy_bad0 {post : Int32 → Prop} {c p : Nat} {g h : Int64} {e s : Nat → Int64} (hc : c ≤ 30) (hp : p < c) (H : post 0) : wpY_bad post (g, h, nI c, e, s) (nI p) :=
  br_f (nI_pos (by omega)) (br_f (nI_ge hp (by omega)) (br_t (nI_le (b := 29) (by omega) (by decide)) H))
theorem gy_bad1 {post : Int32 → Prop} {c : Nat} {x : Int32} {g h : Int64} {e s : Nat → Int64} (hn : ¬ ∃ p, p < c ∧ x = nI p) (H : post 1) : wpY_bad post (g, h, nI c, e, s) x := by
  by_cases h0 : x < 0
  · exact br_t h0 H
  · by_cases h1 : nI c ≤ x
    · exact br_f h0 (br_t h1 H)
    · exfalso
      obtain ⟨j, hj, rfl⟩ := nI_of h0
      apply hn
      refine ⟨j, ?_, rfl⟩
      apply Classical.byContradiction
      intro z
      exact h1 (nI_le (by omega) hj)
theorem gy_full0 {post : Int32 → Prop} {c : Nat} {g h : Int64} {e s : Nat → Int64} (hc : c < 30) (H : post 0) : wpY_full post (g, h, nI c, e, s) := br_t (nI_le (b := 29) (by omega) (by decide)) H
theorem gy_full1 {post : Int32 → Prop} {g h : Int64} {e s : Nat → Int64} (H : post 1) : wpY_full post (g, h, nI 30, e, s) := br_f (nI_ge (a := 29) (b := 30) (by decide) (by decide)) H
theorem gn_n30 {c : Nat} (hc : c < 30) : ¬ nI c = 30 := by
  intro z
  have := (nI_eq (a := c) (b := 30) (by omega) (by decide)).mp z
  omega
/-! ===== how many ===== -/
theorem gx_ones4 {post : Int32 → Prop} {x : Int64} (h : post (nI (gb_cnt x 64))) : ∀ d j, j + d = 64 → wX_ones_4 post x (d + 1) (nI (gb_cnt x j)) (nI j) := by
  intro d
  induction d with
  | zero =>
    intro j hj
    have e : j = 64 := by omega
    subst e
    exact br_t gn_64 h
  | succ d ih =>
    intro j hj
    refine br_f (gn_ge (by omega)) (nm_r (e' := nI (gb_cnt x (j + 1))) ?_ (nm_r (nI_1 j) (ih (j + 1) (by omega))))
    rw [gb_bit x (by omega), nI_add]
    rfl
theorem gx_ones {post : Int32 → Prop} {x : Int64} (h : post (nI (gb_cnt x 64))) : wpX_ones post x := ⟨65, gx_ones4 h 64 0 rfl⟩
theorem gy_size5 {post : Int32 → Prop} {x g k : Int64} {c : Int32} {e s : Nat → Int64} (h : post (nI (gb_cnt x 64))) : ∀ d j, j + d = 64 → wY_size_5 post x g k c e s (d + 1) (nI (gb_cnt x j)) (nI j) := by
  intro d
  induction d with
  | zero =>
    intro j hj
    have e : j = 64 := by omega
    subst e
    exact br_t gn_64 h
  | succ d ih =>
    intro j hj
    have a := ih (j + 1) (by omega)
    refine br_f (gn_ge (by omega)) (gy_in (by omega) (fun hb => nm_r (nI_1 j) ?_) (fun hb => nm_r (e' := nI (gb_cnt x (j + 1))) ?_ (nm_r (nI_1 j) a)))
    · have q : gb_cnt x (j + 1) = gb_cnt x j := by
        show gb_cnt x j + (gb_t x j).toNat = _
        cases z : gb_t x j with
        | true => exact absurd z hb
        | false => rfl
      rw [q] at a
      exact a
    · rw [nI_1]
      show _ = nI (gb_cnt x j + (gb_t x j).toNat)
      rw [hb]
      rfl
theorem gy_size {post : Int32 → Prop} {x : Int64} {v : SY} (h : post (nI (gb_cnt x 64))) : wpY_size post v x := by
  obtain ⟨g, k, c, e, s⟩ := v
  exact ⟨65, gy_size5 h 64 0 rfl⟩
/-! ===== the worth of a form ===== -/
theorem gx_val {post : Int32 → Prop} {f i : Nat} (hf : f < 512) (hi : i < 64) (h : post (nI (gp_val f i))) : wpX_formValue post (nI f) (nI i) := by
  have e1 : nI f >>> ((6 : Int32) &&& 31) = nI (f / 64) := pk_shrN (by omega) _ 6 (by decide)
  have e2 : nI f >>> ((3 : Int32) &&& 31) = nI (f / 8) := pk_shrN (by omega) _ 3 (by decide)
  have e3 : nI (f / 8) &&& 7 = nI (f / 8 % 8) := pk_andN (by omega) 3 (by decide)
  have e4 : nI f &&& 7 = nI (f % 8) := pk_andN (by omega) 3 (by decide)
  have e5 : nI i >>> ((3 : Int32) &&& 31) = nI (i / 8) := pk_shrN (by omega) _ 3 (by decide)
  have e6 : nI i &&& 7 = nI (i % 8) := pk_andN (by omega) 3 (by decide)
  have hb := gp_valB hf hi
  have e7 : nI (f / 64 * (i / 8) + f / 8 % 8 * (i % 8) + f % 8) &&& 7 = nI (gp_val f i) := pk_andN (by omega) 3 (by decide)
  refine nm_r e1 (nm_r (by rw [e2, e3]) (nm_r e4 ?_))
  rw [e5, e6, pk_mul, pk_mul, nI_add, nI_add, e7]
  exact h
theorem gy_worth {post : Int32 → Prop} {v : SY} {f i : Nat} (hf : f < 512) (hi : i < 64) (h : post (nI (gp_val f i))) : wpY_worth post v (nI f) (nI i) := by
  obtain ⟨g, k, c, e, s⟩ := v
  have e1 : nI f / 64 = nI (f / 64) := pk_div (d := 64) (by omega) (by decide) (by decide)
  have e2 : nI i / 8 = nI (i / 8) := pk_div (d := 8) (by omega) (by decide) (by decide)
  have e3 : nI f / 8 = nI (f / 8) := pk_div (d := 8) (by omega) (by decide) (by decide)
  have e4 : nI (f / 8) - nI (f / 8) / 8 * 8 = nI (f / 8 % 8) := pk_rem (d := 8) (by omega) (by decide) (by decide)
  have e5 : nI i - nI i / 8 * 8 = nI (i % 8) := pk_rem (d := 8) (by omega) (by decide) (by decide)
  have e6 : nI f - nI f / 8 * 8 = nI (f % 8) := pk_rem (d := 8) (by omega) (by decide) (by decide)
  have hb := gp_valB hf hi
  have e7 : nI (f / 64 * (i / 8) + f / 8 % 8 * (i % 8) + f % 8) - nI (f / 64 * (i / 8) + f / 8 % 8 * (i % 8) + f % 8) / 8 * 8 = nI (gp_val f i) := pk_rem (d := 8) hb (by decide) (by decide)
  have n64 : ¬ (64 : Int32) = 0 := by decide
  have n8 : ¬ (8 : Int32) = 0 := by decide
  refine And.intro n64 (And.intro n8 (And.intro n8 (And.intro n8 (And.intro n8 (And.intro n8 (And.intro n8 ?_))))))
  rw [e6, e5, e3, e4, e1, e2, pk_mul, pk_mul, nI_add, nI_add, e7]
  exact h
/-! ===== one step, and whether it is good ===== -/
theorem gx_step {post : Int64 → Prop} {c : Int32} {e s G : Nat → Int64} {a b i : Nat} (ha : a < 30) (hb : b < 30) (hi : i < 64) (h : post (gp_stp e G a b i)) : wpX_step post (c, e, s, G) (nI a) (nI b) (nI i) := by
  have K : wX_step_28 post (nI b) (nI i) (gp_half e G a i) c e s G := by
    unfold wX_step_28
    refine gx_has hi (fun h1 => ?_) (fun h1 => And.intro (gn_in hb hi) ?_)
    · unfold gp_stp at h
      rw [if_neg h1] at h
      exact h
    · unfold gp_stp at h
      rw [if_pos h1] at h
      rw [gn_cl hb hi]
      exact h
  unfold wpX_step
  refine gx_has hi (fun h0 => ?_) (fun h0 => And.intro (gn_in ha hi) ?_)
  · unfold gp_half at K
    rw [if_neg h0] at K
    exact K
  · unfold gp_half at K
    rw [if_pos h0] at K
    rw [gn_cl ha hi]
    exact K
theorem gy_step {post : Int64 → Prop} {c : Int32} {e s G : Nat → Int64} {a b i : Nat} (ha : a < 30) (hb : b < 30) (hi : i < 64) (h : post (gp_stp e G a b i)) : wpY_step post (G 0, G 1, c, e, s) (nI a) (nI b) (nI i) := by
  have K : wY_step_31 post (nI b) (nI i) (gp_half e G a i) (G 0) (G 1) c e s := by
    unfold wY_step_31
    refine gy_in hi (fun h1 => ?_) (fun h1 => And.intro (gn_in hb hi) (nm_e ?_))
    · unfold gp_stp at h
      rw [if_neg h1] at h
      exact h
    · unfold gp_stp at h
      rw [if_pos h1] at h
      rw [gn_cl hb hi]
      exact h
  unfold wpY_step
  refine gy_in hi (fun h0 => ?_) (fun h0 => And.intro (gn_in ha hi) (nm_r (e' := gp_half e G a i) ?_ K))
  · unfold gp_half at K
    rw [if_neg h0] at K
    exact K
  · unfold gp_half
    rw [if_pos h0, gn_cl ha hi, gb_0or]
theorem gy_good {A B : Prop} {c : Int32} {e s G : Nat → Int64} {a b i : Nat} (ha : a < 30) (hb : b < 30) (hi : i < 64) (f : ¬ gp_good s G a b i = true → A) (t : gp_good s G a b i = true → B) : wpY_good (fun r => (r = 0 → A) ∧ (¬ r = 0 → B)) (G 0, G 1, c, e, s) (nI a) (nI b) (nI i) := by
  have K : (gb_t (G 0) i = true → gb_t (s a) i = true) → wY_good_26 (fun r => (r = 0 → A) ∧ (¬ r = 0 → B)) (nI b) (nI i) (G 0) (G 1) c e s := by
    intro q
    have q' : (!gb_t (G 0) i || gb_t (s a) i) = true := by
      cases z : gb_t (G 0) i with
      | false => rfl
      | true => rw [q z]; rfl
    unfold wY_good_26
    refine gy_in hi (fun h1 => br_f gn_10 (t ?_)) (fun h1 => And.intro (gn_in30 hb) ?_)
    · unfold gp_good
      rw [q']
      cases z : gb_t (G 1) i with
      | false => rfl
      | true => exact absurd z h1
    · rw [gn_cl30 hb]
      refine gy_in hi (fun h2 => br_t rfl (f ?_)) (fun h2 => br_f gn_10 (t ?_))
      · unfold gp_good
        rw [q', h1]
        intro z
        exact h2 z
      · unfold gp_good
        rw [q', h2, Bool.or_true]
        rfl
  unfold wpY_good
  refine gy_in hi (fun h0 => K (fun z => absurd z h0)) (fun h0 => And.intro (gn_in30 ha) ?_)
  rw [gn_cl30 ha]
  refine gy_in hi (fun h2 => br_t rfl (f ?_)) (fun h2 => K (fun _ => h2))
  unfold gp_good
  intro z
  rw [Bool.and_eq_true, h0] at z
  exact h2 z.1
/-! ===== images ===== -/
theorem gx_img6 {post : Int64 → Prop} {c : Int32} {e s G : Nat → Int64} {p : Nat} {m : Int64} (hp : p < 30) (h : post (gp_img e p m 64)) : ∀ d j, j + d = 64 → wX_imageOf_6 post (nI p) m c e s G (d + 1) (gp_img e p m j) (nI j) := by
  intro d
  induction d with
  | zero =>
    intro j hj
    have e : j = 64 := by omega
    subst e
    exact br_t gn_64 h
  | succ d ih =>
    intro j hj
    have a := ih (j + 1) (by omega)
    refine br_f (gn_ge (by omega)) (gx_has (by omega) (fun hb => nm_r (nI_1 j) ?_) (fun hb => And.intro (gn_in hp (by omega)) (nm_r (e' := gp_img e p m (j + 1)) ?_ (nm_r (nI_1 j) a))))
    · rw [gp_imgF hb] at a
      exact a
    · rw [gp_imgT hb, gn_cl hp (by omega)]
theorem gx_img {post : Int64 → Prop} {c : Int32} {e s G : Nat → Int64} {p : Nat} {m : Int64} (hp : p < 30) (h : post (gp_img e p m 64)) : wpX_imageOf post (c, e, s, G) (nI p) m := ⟨65, gx_img6 hp h 64 0 rfl⟩
theorem gy_from6 {post : Int64 → Prop} {g k : Int64} {c : Int32} {e s : Nat → Int64} {p : Nat} {m : Int64} (hp : p < 30) (h : post (gp_img e p m 64)) : ∀ d j, j + d = 64 → wY_from_6 post (nI p) m g k c e s (d + 1) (gp_img e p m j) (nI j) := by
  intro d
  induction d with
  | zero =>
    intro j hj
    have e : j = 64 := by omega
    subst e
    exact br_t gn_64 h
  | succ d ih =>
    intro j hj
    have a := ih (j + 1) (by omega)
    refine br_f (gn_ge (by omega)) (gy_in (by omega) (fun hb => nm_r (nI_1 j) ?_) (fun hb => And.intro (gn_in hp (by omega)) (nm_r (e' := gp_img e p m (j + 1)) ?_ (nm_r (nI_1 j) a))))
    · rw [gp_imgF hb] at a
      exact a
    · rw [gp_imgT hb, gn_cl hp (by omega)]
theorem gy_from {post : Int64 → Prop} {g k : Int64} {c : Int32} {e s : Nat → Int64} {p : Nat} {m : Int64} (hp : p < 30) (h : post (gp_img e p m 64)) : wpY_from post (g, k, c, e, s) (nI p) m := ⟨65, gy_from6 hp h 64 0 rfl⟩
/-! ===== weakest demands ===== -/
def gp_wk (e : Nat → Int64) (p : Nat) (q : Int64) (i : Nat) : Bool := decide ((e (64 * p + i) &&& (q ^^^ (-1))) = 0)
theorem gx_weak6 {post : Int64 → Prop} {c : Int32} {e s G : Nat → Int64} {p : Nat} {q : Int64} (hp : p < 30) (h : post (gp_set (gp_wk e p q) 64)) : ∀ d j, j + d = 64 → wX_weakOf_6 post (nI p) q c e s G (d + 1) (gp_set (gp_wk e p q) j) (nI j) := by
  intro d
  induction d with
  | zero =>
    intro j hj
    have e : j = 64 := by omega
    subst e
    exact br_t gn_64 h
  | succ d ih =>
    intro j hj
    have a := ih (j + 1) (by omega)
    refine br_f (gn_ge (by omega)) (And.intro (gn_in hp (by omega)) ?_)
    rw [gn_cl hp (by omega)]
    by_cases hb : (e (64 * p + j) &&& (q ^^^ (-1))) = 0
    · refine br_t hb (br_f gn_10 (nm_r (e' := gp_set (gp_wk e p q) (j + 1)) ?_ (nm_r (nI_1 j) a)))
      exact (gp_setT (decide_eq_true hb)).symm
    · refine br_f hb (br_t rfl (nm_r (nI_1 j) ?_))
      rw [gp_setF (P := gp_wk e p q) (fun z => hb (of_decide_eq_true z))] at a
      exact a
theorem gx_weak {post : Int64 → Prop} {c : Int32} {e s G : Nat → Int64} {p : Nat} {q : Int64} (hp : p < 30) (h : post (gp_set (gp_wk e p q) 64)) : wpX_weakOf post (c, e, s, G) (nI p) q := ⟨65, gx_weak6 hp h 64 0 rfl⟩
theorem gy_weak6 {post : Int64 → Prop} {g k : Int64} {c : Int32} {e s : Nat → Int64} {p : Nat} {q : Int64} (hp : p < 30) (h : post (gp_set (gp_wk e p q) 64)) : ∀ d j, j + d = 64 → wY_weak_6 post (nI p) q g k c e s (d + 1) (gp_set (gp_wk e p q) j) (nI j) := by
  intro d
  induction d with
  | zero =>
    intro j hj
    have e : j = 64 := by omega
    subst e
    exact br_t gn_64 h
  | succ d ih =>
    intro j hj
    have a := ih (j + 1) (by omega)
    refine br_f (gn_ge (by omega)) (And.intro (gn_in hp (by omega)) ?_)
    rw [gn_cl hp (by omega)]
    refine gy_part (fun hb => nm_r (nI_1 j) ?_) (fun hb => nm_r (e' := gp_set (gp_wk e p q) (j + 1)) ?_ (nm_r (nI_1 j) a))
    · rw [gp_setF (P := gp_wk e p q) (fun z => hb (of_decide_eq_true z))] at a
      exact a
    · exact (gp_setT (decide_eq_true hb)).symm
theorem gy_weak {post : Int64 → Prop} {g k : Int64} {c : Int32} {e s : Nat → Int64} {p : Nat} {q : Int64} (hp : p < 30) (h : post (gp_set (gp_wk e p q) 64)) : wpY_weak post (g, k, c, e, s) (nI p) q := ⟨65, gy_weak6 hp h 64 0 rfl⟩
/-! ===== the end of a maker ===== -/
theorem gx_fin {post : Int32 → SX → Prop} {c : Nat} {e s G : Nat → Int64} {w : Int64} (hc : c < 30) (h : post (nI c) (nI (c + 1), e, vp_updL s c w, G)) : vp_in (nI c) 30 ∧ ∀ s' : Nat → Int64, s' = vp_updL s (nI c).toNatClampNeg w → wpX_close post (nI c, e, s', G) := by
  refine And.intro (gn_in30 hc) (nm_r (e' := vp_updL s c w) (by rw [gn_cl30 hc]) (nm_r (nI_1 c) ?_))
  rw [nI_pred]
  exact h
theorem gy_fin {post : Int32 → SY → Prop} {c : Nat} {g k : Int64} {e s : Nat → Int64} {w : Int64} (hc : c < 30) (h : post (nI c) (g, k, nI (c + 1), e, vp_updL s c w)) : vp_in (nI c) 30 ∧ ∀ s' : Nat → Int64, s' = vp_updL s (nI c).toNatClampNeg w → ∀ f' : Int32, f' = nI c + 1 → post (nI c) (g, k, f', e, s') :=
  And.intro (gn_in30 hc) (nm_r (e' := vp_updL s c w) (by rw [gn_cl30 hc]) (nm_r (nI_1 c) h))
theorem gn_fill {e v : Nat → Int64} {c j : Nat} (hc : c < 30) (hj : j < 64) : vp_updL (gp_fill e c v j) ((64 : Int32) * nI c + nI j).toNatClampNeg (v j) = gp_fill e c v (j + 1) := by
  rw [gn_cl hc hj, gp_fillS]
end
section
/-! ===== skip and fail ===== -/
theorem gx_skipL {post : Int32 → SX → Prop} {c : Nat} {e s G : Nat → Int64} (hc : c < 30) (h : post (nI c) (nI (c + 1), gp_fill e c gb_one 64, vp_updL s c (-1), G)) : ∀ d j, j + d = 64 → wX_skip_13 post (nI c) (d + 1) (nI j) (gp_fill e c gb_one j) s G := by
  intro d
  induction d with
  | zero =>
    intro j hj
    have q : j = 64 := by omega
    subst q
    exact br_t gn_64 (gx_fin hc h)
  | succ d ih =>
    intro j hj
    exact br_f (gn_ge (by omega)) (And.intro (gn_in hc (by omega)) (nm_r (e' := gp_fill e c gb_one (j + 1)) (gn_fill (v := gb_one) hc (by omega)) (nm_r (nI_1 j) (ih (j + 1) (by omega)))))
theorem gx_skip {post : Int32 → SX → Prop} {c : Nat} {e s G : Nat → Int64} (hc : c < 30) (h : post (nI c) (nI (c + 1), gp_fill e c gb_one 64, vp_updL s c (-1), G)) : wpX_skip post (nI c, e, s, G) := by
  have a := gx_skipL hc h 64 0 rfl
  rw [gp_fill0] at a
  exact br_f (gn_n30 hc) ⟨65, a⟩
def gp_zero (_ : Nat) : Int64 := 0
theorem gx_failL {post : Int32 → SX → Prop} {c : Nat} {e s G : Nat → Int64} (hc : c < 30) (h : post (nI c) (nI (c + 1), gp_fill e c gp_zero 64, vp_updL s c 0, G)) : ∀ d j, j + d = 64 → wX_fail_13 post (nI c) (d + 1) (nI j) (gp_fill e c gp_zero j) s G := by
  intro d
  induction d with
  | zero =>
    intro j hj
    have q : j = 64 := by omega
    subst q
    exact br_t gn_64 (gx_fin hc h)
  | succ d ih =>
    intro j hj
    exact br_f (gn_ge (by omega)) (And.intro (gn_in hc (by omega)) (nm_r (e' := gp_fill e c gp_zero (j + 1)) (gn_fill (v := gp_zero) hc (by omega)) (nm_r (nI_1 j) (ih (j + 1) (by omega)))))
theorem gx_fail {post : Int32 → SX → Prop} {c : Nat} {e s G : Nat → Int64} (hc : c < 30) (h : post (nI c) (nI (c + 1), gp_fill e c gp_zero 64, vp_updL s c 0, G)) : wpX_fail post (nI c, e, s, G) := by
  have a := gx_failL hc h 64 0 rfl
  rw [gp_fill0] at a
  exact br_f (gn_n30 hc) ⟨65, a⟩
theorem gn_l30 {c : Nat} (hc : c < 30) : ¬ (30 : Int32) ≤ nI c := nI_ge (b := 30) hc (by decide)
theorem gy_skipL {post : Int32 → SY → Prop} {c : Nat} {g k : Int64} {e s : Nat → Int64} (hc : c < 30) (h : post (nI c) (g, k, nI (c + 1), gp_fill e c gb_one 64, vp_updL s c (-1))) : ∀ d j, j + d = 64 → wY_plain_16 post 1 (nI c) g k (nI c) (d + 1) (nI j) (gp_fill e c gb_one j) s := by
  intro d
  induction d with
  | zero =>
    intro j hj
    have q : j = 64 := by omega
    subst q
    exact br_t gn_64 (br_f gn_10 (gy_fin hc h))
  | succ d ih =>
    intro j hj
    exact br_f (gn_ge (by omega)) (br_f (gn_l30 hc) (br_f gn_10 (And.intro (gn_in hc (by omega)) (nm_r (e' := gp_fill e c gb_one (j + 1)) (gn_fill (v := gb_one) hc (by omega)) (nm_r (nI_1 j) (ih (j + 1) (by omega)))))))
theorem gy_skip {post : Int32 → SY → Prop} {c : Nat} {g k : Int64} {e s : Nat → Int64} (hc : c < 30) (h : post (nI c) (g, k, nI (c + 1), gp_fill e c gb_one 64, vp_updL s c (-1))) : wpY_skip post (g, k, nI c, e, s) := by
  unfold wpY_skip wpY_plain
  refine gy_full0 hc (br_t rfl ⟨65, ?_⟩)
  have a := gy_skipL (post := fun r u => match u with | (g, k, c, e, s) => post r (g, k, c, e, s)) hc h 64 0 rfl
  rw [gp_fill0] at a
  exact a
theorem gy_failL {post : Int32 → SY → Prop} {c : Nat} {g k : Int64} {e s : Nat → Int64} (hc : c < 30) (h : post (nI c) (g, k, nI (c + 1), gp_fill e c gp_zero 64, vp_updL s c 0)) : ∀ d j, j + d = 64 → wY_plain_16 post 0 (nI c) g k (nI c) (d + 1) (nI j) (gp_fill e c gp_zero j) s := by
  intro d
  induction d with
  | zero =>
    intro j hj
    have q : j = 64 := by omega
    subst q
    exact br_t gn_64 (br_t rfl (gy_fin hc h))
  | succ d ih =>
    intro j hj
    exact br_f (gn_ge (by omega)) (br_f (gn_l30 hc) (br_t rfl (And.intro (gn_in hc (by omega)) (nm_r (e' := gp_fill e c gp_zero (j + 1)) (gn_fill (v := gp_zero) hc (by omega)) (nm_r (nI_1 j) (ih (j + 1) (by omega)))))))
theorem gy_fail {post : Int32 → SY → Prop} {c : Nat} {g k : Int64} {e s : Nat → Int64} (hc : c < 30) (h : post (nI c) (g, k, nI (c + 1), gp_fill e c gp_zero 64, vp_updL s c 0)) : wpY_fail post (g, k, nI c, e, s) := by
  unfold wpY_fail wpY_plain
  refine gy_full0 hc (br_t rfl ⟨65, ?_⟩)
  have a := gy_failL (post := fun r u => match u with | (g, k, c, e, s) => post r (g, k, c, e, s)) hc h 64 0 rfl
  rw [gp_fill0] at a
  exact a
/-! ===== assign ===== -/
def gp_nxt (w : Int32) (f i : Nat) : Nat := if w = 0 then 8 * gp_val f i + i % 8 else 8 * (i / 8) + gp_val f i
def gp_asg (w : Int32) (f i : Nat) : Int64 := gb_one (gp_nxt w f i)
theorem gp_valL (f i : Nat) : gp_val f i < 8 := Nat.mod_lt _ (by decide)
theorem gp_nxtL (w : Int32) (f : Nat) {i : Nat} (hi : i < 64) : gp_nxt w f i < 64 := by
  have := gp_valL f i
  unfold gp_nxt
  split <;> omega
theorem gn_m56 : ∀ j, j < 64 → nI j &&& 56 = nI (8 * (j / 8)) := by decide +kernel
theorem gn_xt {w : Int32} {f j : Nat} (hj : j < 64) (hw : w = 0) : (8 : Int32) * nI (gp_val f j) + (nI j &&& 7) = nI (gp_nxt w f j) := by
  have e4 : nI j &&& 7 = nI (j % 8) := pk_andN (by omega) 3 (by decide)
  unfold gp_nxt
  rw [if_pos hw, e4]
  show nI 8 * _ + _ = _
  rw [pk_mul, nI_add]
theorem gn_xf {w : Int32} {f j : Nat} (hj : j < 64) (hw : ¬ w = 0) : (nI j &&& 56) + nI (gp_val f j) = nI (gp_nxt w f j) := by
  unfold gp_nxt
  rw [if_neg hw, gn_m56 j hj, nI_add]
theorem gn_yt {w : Int32} {f j : Nat} (hj : j < 64) (hw : w = 0) : (8 : Int32) * nI (gp_val f j) + (nI j - nI j / 8 * 8) = nI (gp_nxt w f j) := by
  have e4 : nI j - nI j / 8 * 8 = nI (j % 8) := pk_rem (d := 8) (by omega) (by decide) (by decide)
  unfold gp_nxt
  rw [if_pos hw, e4]
  show nI 8 * _ + _ = _
  rw [pk_mul, nI_add]
theorem gn_yf {w : Int32} {f j : Nat} (hj : j < 64) (hw : ¬ w = 0) : (8 : Int32) * (nI j / 8) + nI (gp_val f j) = nI (gp_nxt w f j) := by
  have e4 : nI j / 8 = nI (j / 8) := pk_div (d := 8) (by omega) (by decide) (by decide)
  unfold gp_nxt
  rw [if_neg hw, e4]
  show nI 8 * _ + _ = _
  rw [pk_mul, nI_add]
theorem gx_asgL {post : Int32 → SX → Prop} {c f : Nat} {w : Int32} {e s G : Nat → Int64} (hf : f < 512) (hc : c < 30) (h : post (nI c) (nI (c + 1), gp_fill e c (gp_asg w f) 64, vp_updL s c (-1), G)) : ∀ d j, j + d = 64 → wX_assign_27 post w (nI f) (nI c) (d + 1) (nI j) (gp_fill e c (gp_asg w f) j) s G := by
  intro d
  induction d with
  | zero =>
    intro j hj
    have q : j = 64 := by omega
    subst q
    exact br_t gn_64 (gx_fin hc h)
  | succ d ih =>
    intro j hj
    refine br_f (gn_ge (by omega)) (gx_val hf (by omega) ?_)
    by_cases hw : w = 0
    · refine br_t hw ?_
      rw [gn_xt (w := w) (by omega) hw]
      exact And.intro (gn_in hc (by omega)) (nm_r (e' := gp_fill e c (gp_asg w f) (j + 1)) (gn_fill (v := gp_asg w f) hc (by omega)) (nm_r (nI_1 j) (ih (j + 1) (by omega))))
    · refine br_f hw ?_
      rw [gn_xf (w := w) (by omega) hw]
      exact And.intro (gn_in hc (by omega)) (nm_r (e' := gp_fill e c (gp_asg w f) (j + 1)) (gn_fill (v := gp_asg w f) hc (by omega)) (nm_r (nI_1 j) (ih (j + 1) (by omega))))
theorem gy_asgL {post : Int32 → SY → Prop} {c f : Nat} {w : Int32} {g k : Int64} {e s : Nat → Int64} (hf : f < 512) (hc : c < 30) (h : post (nI c) (g, k, nI (c + 1), gp_fill e c (gp_asg w f) 64, vp_updL s c (-1))) : ∀ d j, j + d = 64 → wY_assign_31 post w (nI f) (nI c) g k (nI c) (d + 1) (nI j) (gp_fill e c (gp_asg w f) j) s := by
  intro d
  induction d with
  | zero =>
    intro j hj
    have q : j = 64 := by omega
    subst q
    exact br_t gn_64 (gy_fin hc h)
  | succ d ih =>
    intro j hj
    have n8 : ¬ (8 : Int32) = 0 := by decide
    refine br_f (gn_ge (by omega)) (gy_worth hf (by omega) ?_)
    by_cases hw : w = 0
    · refine br_t hw (And.intro n8 ?_)
      rw [gn_yt (w := w) (by omega) hw]
      exact And.intro (gn_in hc (by omega)) (nm_r (e' := gp_fill e c (gp_asg w f) (j + 1)) (gn_fill (v := gp_asg w f) hc (by omega)) (nm_r (nI_1 j) (ih (j + 1) (by omega))))
    · refine br_f hw (And.intro n8 ?_)
      rw [gn_yf (w := w) (by omega) hw]
      exact And.intro (gn_in hc (by omega)) (nm_r (e' := gp_fill e c (gp_asg w f) (j + 1)) (gn_fill (v := gp_asg w f) hc (by omega)) (nm_r (nI_1 j) (ih (j + 1) (by omega))))
/-! ===== sequence ===== -/
def gp_sqV (e : Nat → Int64) (a b i : Nat) : Int64 := gp_img e b (e (64 * a + i)) 64
def gp_sqP (e s : Nat → Int64) (a b i : Nat) : Bool := gb_t (s a) i && decide ((e (64 * a + i) &&& (s b ^^^ (-1))) = 0)
theorem gp_sqF1 {e s : Nat → Int64} {a b i : Nat} (h : ¬ gb_t (s a) i = true) : ¬ gp_sqP e s a b i = true := by
  unfold gp_sqP
  intro z
  rw [Bool.and_eq_true] at z
  exact h z.1
theorem gp_sqF2 {e s : Nat → Int64} {a b i : Nat} (h : ¬ (e (64 * a + i) &&& (s b ^^^ (-1))) = 0) : ¬ gp_sqP e s a b i = true := by
  unfold gp_sqP
  intro z
  rw [Bool.and_eq_true] at z
  exact h (of_decide_eq_true z.2)
theorem gp_sqT {e s : Nat → Int64} {a b i : Nat} (h : gb_t (s a) i = true) (h2 : (e (64 * a + i) &&& (s b ^^^ (-1))) = 0) : gp_sqP e s a b i = true := by
  unfold gp_sqP
  rw [h, decide_eq_true h2]
  rfl
theorem gx_seqL {post : Int32 → SX → Prop} {c a b : Nat} {e s G : Nat → Int64} (hc : c < 30) (ha : a < c) (hb : b < c) (h : post (nI c) (nI (c + 1), gp_fill e c (gp_sqV e a b) 64, vp_updL s c (gp_set (gp_sqP e s a b) 64), G)) : ∀ d j, j + d = 64 → wX_sequence_35 post (nI a) (nI b) (nI c) (d + 1) (gp_set (gp_sqP e s a b) j) (nI j) (gp_fill e c (gp_sqV e a b) j) s G := by
  intro d
  induction d with
  | zero =>
    intro j hj
    have q : j = 64 := by omega
    subst q
    exact br_t gn_64 (gx_fin hc h)
  | succ d ih =>
    intro j hj
    have j64 : j < 64 := by omega
    have H := ih (j + 1) (by omega)
    refine br_f (gn_ge j64) (And.intro (gn_in (by omega) j64) (nm_r (e' := e (64 * a + j)) ?_ (gx_img (by omega) ?_)))
    · rw [gn_cl (by omega) j64, gp_fillOld ha j64]
    rw [gp_imgEq (e := e) (e (64 * a + j)) (fun i hi => gp_fillOld hb hi) 64 (Nat.le_refl _)]
    refine And.intro (gn_in hc j64) (nm_r (e' := gp_fill e c (gp_sqV e a b) (j + 1)) (gn_fill (v := gp_sqV e a b) hc j64) (And.intro (gn_in30 (by omega)) ?_))
    rw [gn_cl30 (show a < 30 by omega), gn_cl30 (show b < 30 by omega)]
    refine gx_has j64 (fun h1 => br_t rfl (nm_r (e' := gp_set (gp_sqP e s a b) (j + 1)) ?_ (nm_r (nI_1 j) H))) (fun h1 => And.intro (gn_in30 (by omega)) (br_c (fun h2 => br_f gn_10 (nm_r (e' := gp_set (gp_sqP e s a b) (j + 1)) ?_ (nm_r (nI_1 j) H))) (fun h2 => br_t rfl (nm_r (e' := gp_set (gp_sqP e s a b) (j + 1)) ?_ (nm_r (nI_1 j) H)))))
    · rw [gb_or0, gp_setF (gp_sqF1 h1)]
    · exact (gp_setT (gp_sqT h1 h2)).symm
    · rw [gb_or0, gp_setF (gp_sqF2 h2)]
theorem gy_seqL {post : Int32 → SY → Prop} {c a b : Nat} {g k : Int64} {e s : Nat → Int64} (hc : c < 30) (ha : a < c) (hb : b < c) (h : post (nI c) (g, k, nI (c + 1), gp_fill e c (gp_sqV e a b) 64, vp_updL s c (gp_set (gp_sqP e s a b) 64))) : ∀ d j, j + d = 64 → wY_sequence_39 post (nI a) (nI b) (nI c) g k (nI c) (d + 1) (gp_set (gp_sqP e s a b) j) (nI j) (gp_fill e c (gp_sqV e a b) j) s := by
  intro d
  induction d with
  | zero =>
    intro j hj
    have q : j = 64 := by omega
    subst q
    exact br_t gn_64 (gy_fin hc h)
  | succ d ih =>
    intro j hj
    have j64 : j < 64 := by omega
    have H := ih (j + 1) (by omega)
    refine br_f (gn_ge j64) (And.intro (gn_in (by omega) j64) (nm_r (e' := e (64 * a + j)) ?_ (gy_from (by omega) ?_)))
    · rw [gn_cl (by omega) j64, gp_fillOld ha j64]
    rw [gp_imgEq (e := e) (e (64 * a + j)) (fun i hi => gp_fillOld hb hi) 64 (Nat.le_refl _)]
    refine And.intro (gn_in hc j64) (nm_r (e' := gp_fill e c (gp_sqV e a b) (j + 1)) (gn_fill (v := gp_sqV e a b) hc j64) (And.intro (gn_in30 (by omega)) ?_))
    rw [gn_cl30 (show a < 30 by omega), gn_cl30 (show b < 30 by omega)]
    refine gy_in j64 (fun h1 => nm_r (nI_1 j) ?_) (fun h1 => And.intro (gn_in30 (by omega)) (gy_part (fun h2 => nm_r (nI_1 j) ?_) (fun h2 => nm_r (e' := gp_set (gp_sqP e s a b) (j + 1)) ?_ (nm_r (nI_1 j) H))))
    · rw [gp_setF (gp_sqF1 h1)] at H
      exact H
    · rw [gp_setF (gp_sqF2 h2)] at H
      exact H
    · exact (gp_setT (gp_sqT h1 h2)).symm
/-! ===== choice ===== -/
def gp_chP (s G : Nat → Int64) (a b i : Nat) : Bool := gb_t (G 0 ||| G 1) i && gp_good s G a b i
def gp_chW (s G : Nat → Int64) (a b : Nat) : Int64 := ((G 0 ||| G 1) &&& (s a ||| (G 0 ^^^ (-1)))) &&& (s b ||| (G 1 ^^^ (-1)))
theorem gp_ch (s G : Nat → Int64) (a b : Nat) : gp_chW s G a b = gp_set (gp_chP s G a b) 64 := by
  apply gb_ext
  intro i hi
  rw [gp_setI _ hi]
  unfold gp_chW gp_chP gp_good
  rw [gb_and, gb_and, gb_or, gb_or, gb_or, gb_not _ hi, gb_not _ hi]
  cases gb_t (G 0) i <;> cases gb_t (G 1) i <;> cases gb_t (s a) i <;> cases gb_t (s b) i <;> rfl
theorem gx_choL {post : Int32 → SX → Prop} {c a b : Nat} {w : Int64} {e s G : Nat → Int64} (hc : c < 30) (ha : a < c) (hb : b < c) (h : post (nI c) (nI (c + 1), gp_fill e c (gp_stp e G a b) 64, vp_updL s c w, G)) : ∀ d j, j + d = 64 → wX_choice_85 post (nI a) (nI b) w (nI c) (d + 1) (nI j) (gp_fill e c (gp_stp e G a b) j) s G := by
  intro d
  induction d with
  | zero =>
    intro j hj
    have q : j = 64 := by omega
    subst q
    exact br_t gn_64 (gx_fin hc h)
  | succ d ih =>
    intro j hj
    have j64 : j < 64 := by omega
    refine br_f (gn_ge j64) (gx_step (by omega) (by omega) j64 ?_)
    rw [gp_stpEq (e := e) (gp_fillOld ha j64) (gp_fillOld hb j64)]
    exact And.intro (gn_in hc j64) (nm_r (e' := gp_fill e c (gp_stp e G a b) (j + 1)) (gn_fill (v := gp_stp e G a b) hc j64) (nm_r (nI_1 j) (ih (j + 1) (by omega))))
theorem gy_choL {post : Int32 → SY → Prop} {c a b : Nat} {e s G : Nat → Int64} (hc : c < 30) (ha : a < c) (hb : b < c) (h : post (nI c) (G 0, G 1, nI (c + 1), gp_fill e c (gp_stp e G a b) 64, vp_updL s c (gp_set (gp_chP s G a b) 64))) : ∀ d j, j + d = 64 → wY_choice_39 post (nI a) (nI b) (nI c) (G 0) (G 1) (nI c) (d + 1) (gp_set (gp_chP s G a b) j) (nI j) (gp_fill e c (gp_stp e G a b) j) s := by
  intro d
  induction d with
  | zero =>
    intro j hj
    have q : j = 64 := by omega
    subst q
    exact br_t gn_64 (gy_fin hc h)
  | succ d ih =>
    intro j hj
    have j64 : j < 64 := by omega
    have H := ih (j + 1) (by omega)
    refine br_f (gn_ge j64) (gy_step (by omega) (by omega) j64 ?_)
    rw [gp_stpEq (e := e) (gp_fillOld ha j64) (gp_fillOld hb j64)]
    refine And.intro (gn_in hc j64) (nm_r (e' := gp_fill e c (gp_stp e G a b) (j + 1)) (gn_fill (v := gp_stp e G a b) hc j64) ?_)
    refine gy_in j64 (fun h1 => nm_r (nI_1 j) ?_) (fun h1 => gy_good (by omega) (by omega) j64 (fun h2 => nm_r (nI_1 j) ?_) (fun h2 => nm_r (e' := gp_set (gp_chP s G a b) (j + 1)) ?_ (nm_r (nI_1 j) H)))
    · rw [gp_setF (P := gp_chP s G a b) (fun z => h1 (by unfold gp_chP at z; rw [Bool.and_eq_true] at z; exact z.1))] at H
      exact H
    · rw [gp_setF (P := gp_chP s G a b) (fun z => h2 (by unfold gp_chP at z; rw [Bool.and_eq_true] at z; exact z.2))] at H
      exact H
    · exact (gp_setT (P := gp_chP s G a b) (by unfold gp_chP; rw [h1, h2]; rfl)).symm
end
section
/-! ===== the states that a loop can come to ===== -/
theorem gp_ClEq {T T' : Nat → Int64} (h : ∀ i, i < 64 → T' i = T i) {C : Nat → Prop} (c : gp_Cl T C) : gp_Cl T' C := by
  intro i hi ci j hj hb
  rw [h i hi] at hb
  exact c i hi ci j hj hb
theorem gp_ReachEq {T T' : Nat → Int64} (h : ∀ i, i < 64 → T' i = T i) {s : Nat} {r : Int64} (H : gp_Reach T' s r) : gp_Reach T s r :=
  ⟨H.1, gp_ClEq (fun i hi => (h i hi).symm) H.2.1, fun C c => H.2.2 C (gp_ClEq h c)⟩
noncomputable def gp_rch (T : Nat → Int64) (i : Nat) : Int64 := Classical.epsilon (fun r : Int64 => gp_Reach T i r)
theorem gp_rchS {T : Nat → Int64} {i : Nat} {r : Int64} (h : gp_Reach T i r) : gp_Reach T i (gp_rch T i) := Classical.epsilon_spec (p := fun r : Int64 => gp_Reach T i r) ⟨r, h⟩
theorem gp_rchU {T : Nat → Int64} {i : Nat} {r : Int64} (h : gp_Reach T i r) : r = gp_rch T i := gp_ReachU h (gp_rchS h)
theorem gx_rc44 {post : Int64 → Prop} {J : Int64 → Int64 → Int32 → Prop} {a b r : Nat} {x6 o acc : Int64} {c : Int32} {e s G : Nat → Int64} (ha : a < 30) (hb : b < 30) (h : J (gp_pX (gp_stp e G a b) o acc 64) x6 (nI (r + 1))) : ∀ d j, j + d = 64 → wX_reached_44 post J (nI a) (nI b) x6 (nI r) o c e s G (d + 1) (gp_pX (gp_stp e G a b) o acc j) (nI j) := by
  intro d
  induction d with
  | zero =>
    intro j hj
    have q : j = 64 := by omega
    subst q
    exact br_t gn_64 (nm_r (nI_1 r) h)
  | succ d ih =>
    intro j hj
    have j64 : j < 64 := by omega
    have H := ih (j + 1) (by omega)
    refine br_f (gn_ge j64) (gx_has j64 (fun h1 => nm_r (nI_1 j) ?_) (fun h1 => gx_step ha hb j64 (nm_r (e' := gp_pX (gp_stp e G a b) o acc (j + 1)) ?_ (nm_r (nI_1 j) H))))
    · rw [gp_pXF h1] at H
      exact H
    · exact (gp_pXT h1).symm
theorem gx_rc11 {a b i : Nat} {c : Int32} {e s G : Nat → Int64} (ha : a < 30) (hb : b < 30) : ∀ (d r : Nat) (st dn : Int64), r + d = 65 → gp_RI (gp_stp e G a b) i r st dn → ∃ R : Int64, gp_Reach (gp_stp e G a b) i R ∧ ∀ post : Int64 → Prop, post R → wX_reached_11 post (nI a) (nI b) c e s G (d + 1) st dn (nI r) := by
  intro d
  induction d with
  | zero =>
    intro r st dn hr H
    have q : r = 65 := by omega
    subst q
    exact ⟨st, gp_RI_R H (gp_RI_e H (by decide)), fun post hp => br_t (by decide) hp⟩
  | succ d ih =>
    intro r st dn hr H
    have nr : ¬ (64 : Int32) < nI r := nI_nlt (a := 64) (by omega) (by decide)
    by_cases z : st = dn
    · exact ⟨st, gp_RI_R H z, fun post hp => br_f nr (br_t z hp)⟩
    · obtain ⟨R, hR, hX⟩ := ih (r + 1) (gp_pX (gp_stp e G a b) (st &&& (dn ^^^ (-1))) st 64) st (by omega) (gp_RI_X H z)
      exact ⟨R, hR, fun post hp => br_f nr (br_f z (nm_e ⟨65, gx_rc44 ha hb (hX post hp) 64 0 rfl⟩))⟩
theorem gx_rc {post : Int64 → Prop} {a b i : Nat} {c : Int32} {e s G : Nat → Int64} {T : Nat → Int64} (ha : a < 30) (hb : b < 30) (hi : i < 64) (hT : ∀ k, k < 64 → gp_stp e G a b k = T k) (h : post (gp_rch T i)) : wpX_reached post (c, e, s, G) (nI a) (nI b) (nI i) := by
  obtain ⟨R, hR, hX⟩ := gx_rc11 (c := c) (e := e) (s := s) (G := G) ha hb 65 0 (gb_one i) 0 rfl (gp_RI_0 _ hi)
  rw [← gp_rchU (gp_ReachEq hT hR)] at h
  exact nm_r (e' := gb_one i) rfl ⟨66, hX post h⟩
theorem gy_rc33 {post : Int64 → Prop} {J : Int64 → Int64 → Int32 → Prop} {a b r : Nat} {x6 acc : Int64} {c : Int32} {e s G : Nat → Int64} (ha : a < 30) (hb : b < 30) (h : J (gp_pY (gp_stp e G a b) acc 64) x6 (nI (r + 1))) : ∀ d j, j + d = 64 → wY_met_33 post J (nI a) (nI b) x6 (nI r) (G 0) (G 1) c e s (d + 1) (gp_pY (gp_stp e G a b) acc j) (nI j) := by
  intro d
  induction d with
  | zero =>
    intro j hj
    have q : j = 64 := by omega
    subst q
    exact br_t gn_64 (nm_r (nI_1 r) h)
  | succ d ih =>
    intro j hj
    have j64 : j < 64 := by omega
    have H := ih (j + 1) (by omega)
    refine br_f (gn_ge j64) (gy_in j64 (fun h1 => nm_r (nI_1 j) ?_) (fun h1 => gy_step ha hb j64 (nm_r (e' := gp_pY (gp_stp e G a b) acc (j + 1)) ?_ (nm_r (nI_1 j) H))))
    · rw [gp_pYF h1] at H
      exact H
    · exact (gp_pYT h1).symm
theorem gy_rc11 {a b i : Nat} {c : Int32} {e s G : Nat → Int64} (ha : a < 30) (hb : b < 30) : ∀ (d r : Nat) (st dn : Int64), r + d = 65 → gp_RI (gp_stp e G a b) i r st dn → ∃ R : Int64, gp_Reach (gp_stp e G a b) i R ∧ ∀ post : Int64 → Prop, post R → wY_met_11 post (nI a) (nI b) (G 0) (G 1) c e s (d + 1) st dn (nI r) := by
  intro d
  induction d with
  | zero =>
    intro r st dn hr H
    have q : r = 65 := by omega
    subst q
    exact ⟨st, gp_RI_R H (gp_RI_e H (by decide)), fun post hp => br_t (by decide) hp⟩
  | succ d ih =>
    intro r st dn hr H
    have nr : ¬ (65 : Int32) ≤ nI r := nI_ge (b := 65) (by omega) (by decide)
    by_cases z : st = dn
    · exact ⟨st, gp_RI_R H z, fun post hp => br_f nr (br_t z hp)⟩
    · obtain ⟨R, hR, hX⟩ := ih (r + 1) (gp_pY (gp_stp e G a b) st 64) st (by omega) (gp_RI_Y H z)
      exact ⟨R, hR, fun post hp => br_f nr (br_f z ⟨65, gy_rc33 ha hb (hX post hp) 64 0 rfl⟩)⟩
theorem gy_rc {post : Int64 → Prop} {a b i : Nat} {c : Int32} {e s G : Nat → Int64} {T : Nat → Int64} (ha : a < 30) (hb : b < 30) (hi : i < 64) (hT : ∀ k, k < 64 → gp_stp e G a b k = T k) (h : post (gp_rch T i)) : wpY_met post (G 0, G 1, c, e, s) (nI a) (nI b) (nI i) := by
  obtain ⟨R, hR, hX⟩ := gy_rc11 (c := c) (e := e) (s := s) (G := G) ha hb 65 0 (gb_one i) 0 rfl (gp_RI_0 _ hi)
  rw [← gp_rchU (gp_ReachEq hT hR)] at h
  exact nm_r (e' := gb_one i) rfl ⟨66, hX post h⟩
theorem gp_rchE (e G : Nat → Int64) {a b i : Nat} (ha : a < 30) (hb : b < 30) (hi : i < 64) : gp_Reach (gp_stp e G a b) i (gp_rch (gp_stp e G a b) i) := by
  obtain ⟨R, hR, _⟩ := gx_rc11 (c := 0) (e := e) (s := e) (G := G) ha hb 65 0 (gb_one i) 0 rfl (gp_RI_0 _ hi)
  exact gp_rchS hR
end
section
/-! ===== the sure states of a loop: both sides in lockstep ===== -/
def gp_fl (x y : Int64) : Int32 := if x = y then 0 else 1
theorem gp_condF1 {e s G : Nat → Int64} {a b n : Nat} {p : Int64} (h : ¬ gp_good s G a b n = true) : ¬ gp_cond e s G a b p n = true := by
  unfold gp_cond
  intro z
  simp only [Bool.and_eq_true] at z
  exact h z.2.1
theorem gp_condF2 {e s G : Nat → Int64} {a b n : Nat} {p : Int64} (h : ¬ (gp_stp e G a b n &&& (p ^^^ (-1))) = 0) : ¬ gp_cond e s G a b p n = true := by
  unfold gp_cond
  intro z
  simp only [Bool.and_eq_true, decide_eq_true_eq] at z
  exact h z.2.2
theorem gp_condF0 {e s G : Nat → Int64} {a b n : Nat} {p : Int64} (h : ¬ gb_t (G 0 ||| G 1) n = true) : ¬ gp_cond e s G a b p n = true := by
  unfold gp_cond
  intro z
  simp only [Bool.and_eq_true] at z
  exact h z.1
theorem gp_condT {e s G : Nat → Int64} {a b n : Nat} {p : Int64} (h : gb_t (G 0 ||| G 1) n = true) (h1 : gp_good s G a b n = true) (h2 : (gp_stp e G a b n &&& (p ^^^ (-1))) = 0) : gp_cond e s G a b p n = true := by
  unfold gp_cond
  rw [h, h1, decide_eq_true h2]
  rfl
/-- the join behind the three flags -/
theorem gx_ls129 {post : Int64 → Prop} {J9 J27 : Int64 → Int32 → Int32 → Prop} {x1 x2 x8 z1 z2 z3 : Int32} {a b j : Nat} {acc : Int64} {c : Int32} {e s G : Nat → Int64} (j64 : j < 64)
    (ho : ∀ i, i < 64 → ¬ gb_t (G 0 ||| G 1) i = true → gb_t acc i = true)
    (hz : (¬ z1 = 0 ∧ ¬ z2 = 0) ↔ gp_good s G a b j = true)
    (hz3 : ¬ z3 = 0 ↔ (gp_stp e G a b j &&& (gp_rest (gp_cond e s G a b) acc j ^^^ (-1))) = 0)
    (H : J27 (gp_rest (gp_cond e s G a b) acc (j + 1)) (gp_fl (gp_rest (gp_cond e s G a b) acc (j + 1)) acc) (nI (j + 1))) :
    wX_loopSure_129 post J9 J27 x1 x2 (gp_rest (gp_cond e s G a b) acc j) (gp_fl (gp_rest (gp_cond e s G a b) acc j) acc) x8 (nI j) z1 z2 z3 c e s G := by
  unfold wX_loopSure_129
  refine gx_has j64 (fun h1 => ?_) (fun h1 => nm_r (nI_1 j) ?_)
  · have g1 : gb_t (G 0 ||| G 1) j = true := by
      apply Classical.byContradiction
      intro q
      exact h1 (gp_rest_m (ho j j64 q) j)
    by_cases q1 : z1 = 0
    · refine br_t q1 (nm_r (nI_1 j) ?_)
      rw [gp_restF (gp_condF1 (fun g => (hz.mpr g).1 q1))] at H
      exact H
    · refine br_f q1 ?_
      by_cases q2 : z2 = 0
      · refine br_t q2 (nm_r (nI_1 j) ?_)
        rw [gp_restF (gp_condF1 (fun g => (hz.mpr g).2 q2))] at H
        exact H
      · refine br_f q2 ?_
        by_cases q3 : z3 = 0
        · refine br_t q3 (nm_r (nI_1 j) ?_)
          rw [gp_restF (gp_condF2 (fun g => (hz3.mpr g) q3))] at H
          exact H
        · have t := gp_restT (gp_condT g1 (hz.mp ⟨q1, q2⟩) (hz3.mp q3))
          refine br_f q3 (nm_r (e' := gp_rest (gp_cond e s G a b) acc (j + 1)) t.symm (nm_r (nI_1 j) ?_))
          have f : gp_fl (gp_rest (gp_cond e s G a b) acc (j + 1)) acc = 1 := by
            refine if_neg (fun w => h1 (gp_rest_m ?_ j))
            rw [← w, t, gb_or, gb_oneS j64, Bool.or_true]
          rw [f] at H
          exact H
  · rw [gp_rest_in j64 h1] at H
    exact H
theorem gx_ls102 {post : Int64 → Prop} {J9 J27 : Int64 → Int32 → Int32 → Prop} {x8 z1 z2 : Int32} {a b j : Nat} {acc : Int64} {c : Int32} {e s G : Nat → Int64} (ha : a < 30) (hb : b < 30) (j64 : j < 64)
    (ho : ∀ i, i < 64 → ¬ gb_t (G 0 ||| G 1) i = true → gb_t acc i = true)
    (hz : (¬ z1 = 0 ∧ ¬ z2 = 0) ↔ gp_good s G a b j = true)
    (H : J27 (gp_rest (gp_cond e s G a b) acc (j + 1)) (gp_fl (gp_rest (gp_cond e s G a b) acc (j + 1)) acc) (nI (j + 1))) :
    wX_loopSure_102 post J9 J27 (nI a) (nI b) (gp_rest (gp_cond e s G a b) acc j) (gp_fl (gp_rest (gp_cond e s G a b) acc j) acc) x8 (nI j) z1 z2 c e s G := by
  unfold wX_loopSure_102
  refine gx_step ha hb j64 (br_c (fun q => ?_) (fun q => ?_))
  · exact gx_ls129 j64 ho hz ⟨fun _ => q, fun _ => gn_10⟩ H
  · exact gx_ls129 j64 ho hz ⟨fun n => absurd rfl n, fun w => absurd w q⟩ H
theorem gx_ls67 {post : Int64 → Prop} {J9 J27 : Int64 → Int32 → Int32 → Prop} {x8 z1 : Int32} {a b j : Nat} {acc : Int64} {c : Int32} {e s G : Nat → Int64} (ha : a < 30) (hb : b < 30) (j64 : j < 64)
    (ho : ∀ i, i < 64 → ¬ gb_t (G 0 ||| G 1) i = true → gb_t acc i = true)
    (hz : ¬ z1 = 0 ↔ (!gb_t (G 0) j || gb_t (s a) j) = true)
    (H : J27 (gp_rest (gp_cond e s G a b) acc (j + 1)) (gp_fl (gp_rest (gp_cond e s G a b) acc (j + 1)) acc) (nI (j + 1))) :
    wX_loopSure_67 post J9 J27 (nI a) (nI b) (gp_rest (gp_cond e s G a b) acc j) (gp_fl (gp_rest (gp_cond e s G a b) acc j) acc) x8 (nI j) z1 c e s G := by
  have K1 : (!gb_t (G 1) j || gb_t (s b) j) = true → wX_loopSure_102 post J9 J27 (nI a) (nI b) (gp_rest (gp_cond e s G a b) acc j) (gp_fl (gp_rest (gp_cond e s G a b) acc j) acc) x8 (nI j) z1 1 c e s G := by
    intro q
    refine gx_ls102 ha hb j64 ho ?_ H
    unfold gp_good
    rw [Bool.and_eq_true, ← hz]
    exact ⟨fun w => ⟨w.1, q⟩, fun w => ⟨w.1, gn_10⟩⟩
  have K0 : ¬ (!gb_t (G 1) j || gb_t (s b) j) = true → wX_loopSure_102 post J9 J27 (nI a) (nI b) (gp_rest (gp_cond e s G a b) acc j) (gp_fl (gp_rest (gp_cond e s G a b) acc j) acc) x8 (nI j) z1 0 c e s G := by
    intro q
    refine gx_ls102 ha hb j64 ho ?_ H
    unfold gp_good
    rw [Bool.and_eq_true, ← hz]
    exact ⟨fun w => absurd rfl w.2, fun w => absurd w.2 q⟩
  unfold wX_loopSure_67
  refine gx_has j64 (fun h1 => K1 ?_) (fun h1 => And.intro (gn_in30 hb) ?_)
  · cases z : gb_t (G 1) j with
    | false => rfl
    | true => exact absurd z h1
  · rw [gn_cl30 hb]
    refine gx_has j64 (fun h2 => K0 ?_) (fun h2 => K1 ?_)
    · rw [h1]; exact h2
    · rw [h2, Bool.or_true]
theorem gx_ls27 {post : Int64 → Prop} {J9 : Int64 → Int32 → Int32 → Prop} {a b r : Nat} {acc : Int64} {c : Int32} {e s G : Nat → Int64} (ha : a < 30) (hb : b < 30)
    (ho : ∀ i, i < 64 → ¬ gb_t (G 0 ||| G 1) i = true → gb_t acc i = true)
    (h : J9 (gp_rest (gp_cond e s G a b) acc 64) (gp_fl (gp_rest (gp_cond e s G a b) acc 64) acc) (nI (r + 1))) :
    ∀ d j, j + d = 64 → wX_loopSure_27 post J9 (nI a) (nI b) (nI r) c e s G (d + 1) (gp_rest (gp_cond e s G a b) acc j) (gp_fl (gp_rest (gp_cond e s G a b) acc j) acc) (nI j) := by
  intro d
  induction d with
  | zero =>
    intro j hj
    have q : j = 64 := by omega
    subst q
    exact br_t gn_64 (nm_r (nI_1 r) h)
  | succ d ih =>
    intro j hj
    have j64 : j < 64 := by omega
    have H := ih (j + 1) (by omega)
    have K1 : (!gb_t (G 0) j || gb_t (s a) j) = true → wX_loopSure_67 post J9 (wX_loopSure_27 post J9 (nI a) (nI b) (nI r) c e s G (d + 1)) (nI a) (nI b) (gp_rest (gp_cond e s G a b) acc j) (gp_fl (gp_rest (gp_cond e s G a b) acc j) acc) (nI r) (nI j) 1 c e s G :=
      fun q => gx_ls67 ha hb j64 ho ⟨fun _ => q, fun _ => gn_10⟩ H
    have K0 : ¬ (!gb_t (G 0) j || gb_t (s a) j) = true → wX_loopSure_67 post J9 (wX_loopSure_27 post J9 (nI a) (nI b) (nI r) c e s G (d + 1)) (nI a) (nI b) (gp_rest (gp_cond e s G a b) acc j) (gp_fl (gp_rest (gp_cond e s G a b) acc j) acc) (nI r) (nI j) 0 c e s G :=
      fun q => gx_ls67 ha hb j64 ho ⟨fun n => absurd rfl n, fun w => absurd w q⟩ H
    refine br_f (gn_ge j64) (gx_has j64 (fun h1 => K1 ?_) (fun h1 => And.intro (gn_in30 ha) ?_))
    · cases z : gb_t (G 0) j with
      | false => rfl
      | true => exact absurd z h1
    · rw [gn_cl30 ha]
      refine gx_has j64 (fun h2 => K0 ?_) (fun h2 => K1 ?_)
      · rw [h1]; exact h2
      · rw [h2, Bool.or_true]
theorem gy_rs44 {post : Int64 → Prop} {J : Int64 → Int64 → Int32 → Prop} {a b r : Nat} {x5 acc : Int64} {c : Int32} {e s G : Nat → Int64} (ha : a < 30) (hb : b < 30)
    (h : J (gp_rest (gp_cond e s G a b) acc 64) x5 (nI (r + 1))) :
    ∀ d j, j + d = 64 → wY_resting_44 post J (nI a) (nI b) x5 (nI r) (G 0) (G 1) c e s (d + 1) (gp_rest (gp_cond e s G a b) acc j) (nI j) := by
  intro d
  induction d with
  | zero =>
    intro j hj
    have q : j = 64 := by omega
    subst q
    exact br_t gn_64 (nm_r (nI_1 r) h)
  | succ d ih =>
    intro j hj
    have j64 : j < 64 := by omega
    have H := ih (j + 1) (by omega)
    refine br_f (gn_ge j64) (gy_step ha hb j64 (gy_in j64 (fun h1 => nm_r (nI_1 j) ?_) (fun h1 => gy_good ha hb j64 (fun h2 => nm_r (nI_1 j) ?_) (fun h2 => gy_part (fun h3 => nm_r (nI_1 j) ?_) (fun h3 => nm_r (e' := gp_rest (gp_cond e s G a b) acc (j + 1)) ?_ (nm_r (nI_1 j) H))))))
    · rw [gp_restF (gp_condF0 h1)] at H
      exact H
    · rw [gp_restF (gp_condF1 h2)] at H
      exact H
    · rw [gp_restF (gp_condF2 h3)] at H
      exact H
    · exact (gp_restT (gp_condT h1 h2 h3)).symm
theorem gs_sure {a b k : Nat} {out : Int64} {c : Int32} {e s G : Nat → Int64} (I : gp_Inv k e s) (hk : k ≤ 30) (ha : a < k) (hb : b < k) :
    ∀ (d r : Nat) (acc old : Int64), r + d = 65 → (∀ i, i < 64 → ¬ gb_t (G 0 ||| G 1) i = true → gb_t acc i = true) → (∀ i, i < 64 → gb_t acc i = true → gp_E (gp_stp e G a b) out i) →
    ∃ R : Int64, (∀ i, i < 64 → gb_t R i = true → gp_E (gp_stp e G a b) out i) ∧ (∀ post : Int64 → Prop, post R → wX_loopSure_9 post (nI a) (nI b) c e s G (d + 1) acc (gp_fl acc old) (nI r)) ∧ (∀ post : Int64 → Prop, post R → wY_resting_24 post (nI a) (nI b) (G 0) (G 1) c e s (d + 1) acc old (nI r)) := by
  intro d
  induction d with
  | zero =>
    intro r acc old hr ho hE
    have q : r = 65 := by omega
    subst q
    exact ⟨acc, hE, fun post hp => br_t (by decide) hp, fun post hp => br_t (by decide) hp⟩
  | succ d ih =>
    intro r acc old hr ho hE
    have nx : ¬ (64 : Int32) < nI r := nI_nlt (a := 64) (by omega) (by decide)
    have ny : ¬ (65 : Int32) ≤ nI r := nI_ge (b := 65) (by omega) (by decide)
    by_cases z : acc = old
    · exact ⟨acc, hE, fun post hp => br_f nx (br_t (if_pos z) hp), fun post hp => br_f ny (br_t z hp)⟩
    · obtain ⟨R, hR, hX, hY⟩ := ih (r + 1) (gp_rest (gp_cond e s G a b) acc 64) acc (by omega) (fun i hi n => gp_rest_m (ho i hi n) 64) (gp_rest_E I ha hb hE 64 (Nat.le_refl _))
      have f1 : gp_fl acc old = 1 := if_neg z
      have f0 : gp_fl (gp_rest (gp_cond e s G a b) acc 0) acc = 0 := if_pos rfl
      refine ⟨R, hR, fun post hp => br_f nx (br_f (by rw [f1]; exact gn_10) ⟨65, ?_⟩), fun post hp => br_f ny (br_f z ⟨65, gy_rs44 (by omega) (by omega) (hY post hp) 64 0 rfl⟩)⟩
      have q := gx_ls27 (post := post) (c := c) (by omega) (by omega) ho (hX post hp) 64 0 rfl
      rw [f0] at q
      exact q
theorem gs_sureT {a b k : Nat} (c : Int32) {e s : Nat → Int64} (G : Nat → Int64) (I : gp_Inv k e s) (hk : k ≤ 30) (ha : a < k) (hb : b < k) :
    ∃ R : Int64, (∀ i, i < 64 → gb_t R i = true → gp_E (gp_stp e G a b) ((G 0 ||| G 1) ^^^ (-1)) i) ∧ (∀ post : Int64 → Prop, post R → wpX_loopSure post (c, e, s, G) (nI a) (nI b) ((G 0 ||| G 1) ^^^ (-1))) ∧ (∀ post : Int64 → Prop, post R → wpY_resting post (G 0, G 1, c, e, s) (nI a) (nI b)) := by
  obtain ⟨R, hR, hX, hY⟩ := gs_sure (c := c) (G := G) (out := (G 0 ||| G 1) ^^^ (-1)) I hk ha hb 65 0 ((G 0 ||| G 1) ^^^ (-1)) (((G 0 ||| G 1) ^^^ (-1)) ^^^ (-1)) rfl (fun i hi n => by
      rw [gb_not _ hi]
      cases z : gb_t (G 0 ||| G 1) i with
      | true => exact absurd z n
      | false => rfl) (fun i hi h => gp_E_out hi h)
  have f1 : gp_fl ((G 0 ||| G 1) ^^^ (-1)) (((G 0 ||| G 1) ^^^ (-1)) ^^^ (-1)) = 1 := by
    refine if_neg (fun w => ?_)
    have t : gb_t ((G 0 ||| G 1) ^^^ (-1)) 0 = gb_t (((G 0 ||| G 1) ^^^ (-1)) ^^^ (-1)) 0 := congrArg (fun y => gb_t y 0) w
    rw [gb_not ((G 0 ||| G 1) ^^^ (-1)) (by decide)] at t
    cases z : gb_t ((G 0 ||| G 1) ^^^ (-1)) 0 with
    | true => rw [z] at t; exact Bool.noConfusion t
    | false => rw [z] at t; exact Bool.noConfusion t
  rw [f1] at hX
  exact ⟨R, hR, fun post hp => ⟨66, hX post hp⟩, fun post hp => nm_e (nm_e ⟨66, hY post hp⟩)⟩
/-! ===== loop ===== -/
noncomputable def gp_lpV (e G : Nat → Int64) (a b i : Nat) : Int64 := gp_rch (gp_stp e G a b) i &&& ((G 0 ||| G 1) ^^^ (-1))
theorem gp_InvF {c : Nat} {e s v : Nat → Int64} {j : Nat} (h : gp_Inv c e s) : gp_Inv c (gp_fill e c v j) s := by
  intro p hp i hi hb
  rw [gp_fillOld hp hi]
  exact h p hp i hi hb
theorem gx_lpL {post : Int32 → SX → Prop} {c a b : Nat} {w : Int64} {e s G : Nat → Int64} (hc : c < 30) (ha : a < c) (hb : b < c)
    (hS : ∀ p : Int64 → Prop, p w → wpX_loopSure p (nI c, gp_fill e c (gp_lpV e G a b) 64, s, G) (nI a) (nI b) ((G 0 ||| G 1) ^^^ (-1)))
    (h : post (nI c) (nI (c + 1), gp_fill e c (gp_lpV e G a b) 64, vp_updL s c w, G)) : ∀ d j, j + d = 64 → wX_loop_51 post (nI a) (nI b) ((G 0 ||| G 1) ^^^ (-1)) (nI c) (d + 1) (nI j) (gp_fill e c (gp_lpV e G a b) j) s G := by
  intro d
  induction d with
  | zero =>
    intro j hj
    have q : j = 64 := by omega
    subst q
    exact br_t gn_64 (hS _ (gx_fin hc h))
  | succ d ih =>
    intro j hj
    have j64 : j < 64 := by omega
    refine br_f (gn_ge j64) (gx_rc (T := gp_stp e G a b) (by omega) (by omega) j64 (fun k hk => gp_stpEq (gp_fillOld ha hk) (gp_fillOld hb hk)) ?_)
    exact And.intro (gn_in hc j64) (nm_r (e' := gp_fill e c (gp_lpV e G a b) (j + 1)) (gn_fill (v := gp_lpV e G a b) hc j64) (nm_r (nI_1 j) (ih (j + 1) (by omega))))
theorem gy_lpL {post : Int32 → SY → Prop} {c a b : Nat} {w : Int64} {e s G : Nat → Int64} (hc : c < 30) (ha : a < c) (hb : b < c)
    (hS : ∀ p : Int64 → Prop, p w → wpY_resting p (G 0, G 1, nI c, gp_fill e c (gp_lpV e G a b) 64, s) (nI a) (nI b))
    (h : post (nI c) (G 0, G 1, nI (c + 1), gp_fill e c (gp_lpV e G a b) 64, vp_updL s c w)) : ∀ d j, j + d = 64 → wY_loop_36 post (nI a) (nI b) (nI c) (G 0) (G 1) (nI c) (d + 1) (nI j) (gp_fill e c (gp_lpV e G a b) j) s := by
  intro d
  induction d with
  | zero =>
    intro j hj
    have q : j = 64 := by omega
    subst q
    exact br_t gn_64 (hS _ (gy_fin hc h))
  | succ d ih =>
    intro j hj
    have j64 : j < 64 := by omega
    refine br_f (gn_ge j64) (gy_rc (T := gp_stp e G a b) (by omega) (by omega) j64 (fun k hk => gp_stpEq (gp_fillOld ha hk) (gp_fillOld hb hk)) ?_)
    exact And.intro (gn_in hc j64) (nm_r (e' := gp_fill e c (gp_lpV e G a b) (j + 1)) (gn_fill (v := gp_lpV e G a b) hc j64) (nm_r (nI_1 j) (ih (j + 1) (by omega))))
/-- a sure state of the loop has an end -/
theorem gp_lpNe {c a b : Nat} {e s G : Nat → Int64} {w : Int64} (hc : c < 30) (ha : a < c) (hb : b < c) (hE : ∀ i, i < 64 → gb_t w i = true → gp_E (gp_stp (gp_fill e c (gp_lpV e G a b) 64) G a b) ((G 0 ||| G 1) ^^^ (-1)) i) : ∀ i, i < 64 → gb_t w i = true → gp_lpV e G a b i ≠ 0 := by
  intro i hi h
  refine gp_E_ne ?_ (gp_rchE e G (show a < 30 by omega) (show b < 30 by omega) hi)
  intro C hC
  exact hE i hi h C (gp_ClEq (fun k hk => gp_stpEq (gp_fillOld ha hk) (gp_fillOld hb hk)) hC)
end
section
/-! ===== the two conditions ===== -/
def gp_k (w : Int32) : Nat := if w = 0 then 0 else 1
theorem gn_c0 : (0 : Int32).toNatClampNeg = 0 := by decide
theorem gn_c1 : (1 : Int32).toNatClampNeg = 1 := by decide
theorem gn_i0 : vp_in 0 2 := vp_in_nI (n := 0) (by decide) (by decide)
theorem gn_i1 : vp_in 1 2 := vp_in_nI (n := 1) (by decide) (by decide)
theorem gx_guard {post : Int32 → SX → Prop} {c w : Int32} {x : Int64} {e s G : Nat → Int64} (h : post (nI (gb_cnt x 64)) (c, e, s, vp_updL G (gp_k w) x)) : wpX_guard post (c, e, s, G) w x := by
  unfold gp_k at h
  by_cases hw : w = 0
  · rw [if_pos hw] at h
    exact br_t hw (And.intro gn_i0 (nm_r (e' := vp_updL G 0 x) (by rw [gn_c0]) (gx_ones h)))
  · rw [if_neg hw] at h
    exact br_f hw (And.intro gn_i1 (nm_r (e' := vp_updL G 1 x) (by rw [gn_c1]) (gx_ones h)))
theorem gx_cmp77 {post : Int32 → SX → Prop} {c w : Int32} {x : Int64} {e s G : Nat → Int64} (h : post (nI (gb_cnt x 64)) (c, e, s, vp_updL G (gp_k w) x)) : (w = 0 → wX_compare_77 post x 0 c e s G) ∧ (¬ w = 0 → wX_compare_77 post x 1 c e s G) := by
  unfold gp_k at h
  by_cases hw : w = 0
  · rw [if_pos hw] at h
    exact br_t hw (And.intro gn_i0 (nm_r (e' := vp_updL G 0 x) (by rw [gn_c0]) (gx_ones h)))
  · rw [if_neg hw] at h
    exact br_f hw (And.intro gn_i1 (nm_r (e' := vp_updL G 1 x) (by rw [gn_c1]) (gx_ones h)))
theorem gx_opp {post : Int32 → SX → Prop} {c w : Int32} {e s G : Nat → Int64} (h : post (nI (gb_cnt (G (gp_k w) ^^^ (-1)) 64)) (c, e, s, vp_updL G (gp_k w) (G (gp_k w) ^^^ (-1)))) : wpX_oppose post (c, e, s, G) w := by
  unfold gp_k at h
  by_cases hw : w = 0
  · rw [if_pos hw] at h
    refine br_t hw (And.intro gn_i0 (And.intro gn_i0 (nm_r (e' := vp_updL G 0 (G 0 ^^^ (-1))) (by rw [gn_c0]) (And.intro gn_i0 (gx_ones ?_)))))
    rw [gn_c0, pk_uLs]
    exact h
  · rw [if_neg hw] at h
    refine br_f hw (And.intro gn_i1 (And.intro gn_i1 (nm_r (e' := vp_updL G 1 (G 1 ^^^ (-1))) (by rw [gn_c1]) (And.intro gn_i1 (gx_ones ?_)))))
    rw [gn_c1, pk_uLs]
    exact h
theorem gy_keep {post : Int32 → SY → Prop} {c w : Int32} {x : Int64} {e s G : Nat → Int64} (h : post (nI (gb_cnt x 64)) (vp_updL G (gp_k w) x 0, vp_updL G (gp_k w) x 1, c, e, s)) : wpY_keep post (G 0, G 1, c, e, s) w x := by
  unfold gp_k at h
  by_cases hw : w = 0
  · rw [if_pos hw, pk_uLs, pk_uLn (show 1 ≠ 0 by decide)] at h
    exact br_t hw (gy_size h)
  · rw [if_neg hw, pk_uLs, pk_uLn (show 0 ≠ 1 by decide)] at h
    exact br_f hw (gy_size h)
theorem gy_guard {post : Int32 → SY → Prop} {c w : Int32} {x : Int64} {e s G : Nat → Int64} (h : post (nI (gb_cnt x 64)) (vp_updL G (gp_k w) x 0, vp_updL G (gp_k w) x 1, c, e, s)) : wpY_guard post (G 0, G 1, c, e, s) w x := by
  unfold wpY_guard
  exact gy_keep h
theorem gy_opp {post : Int32 → SY → Prop} {c w : Int32} {e s G : Nat → Int64} (h : post (nI (gb_cnt (G (gp_k w) ^^^ (-1)) 64)) (vp_updL G (gp_k w) (G (gp_k w) ^^^ (-1)) 0, vp_updL G (gp_k w) (G (gp_k w) ^^^ (-1)) 1, c, e, s)) : wpY_oppose post (G 0, G 1, c, e, s) w := by
  unfold wpY_oppose
  by_cases hw : w = 0
  · have q : gp_k w = 0 := if_pos hw
    refine br_t hw ?_
    unfold wY_oppose_25
    refine gy_keep ?_
    rw [q] at h ⊢
    exact h
  · have q : gp_k w = 1 := if_neg hw
    refine br_f hw ?_
    unfold wY_oppose_25
    refine gy_keep ?_
    rw [q] at h ⊢
    exact h
def gp_cmp (f b i : Nat) : Bool := decide (gp_val f i < b)
theorem gx_cmpL {post : Int32 → SX → Prop} {c w : Int32} {f b : Nat} {e s G : Nat → Int64} (hf : f < 512) (hb : b < 9) (h : post (nI (gb_cnt (gp_set (gp_cmp f b) 64) 64)) (c, e, s, vp_updL G (gp_k w) (gp_set (gp_cmp f b) 64))) : ∀ d j, j + d = 64 → wX_compare_32 post w (nI f) (nI b) c e s G (d + 1) (gp_set (gp_cmp f b) j) (nI j) := by
  intro d
  induction d with
  | zero =>
    intro j hj
    have q : j = 64 := by omega
    subst q
    exact br_t gn_64 (gx_cmp77 h)
  | succ d ih =>
    intro j hj
    have j64 : j < 64 := by omega
    have H := ih (j + 1) (by omega)
    have hv := gp_valL f j
    refine br_f (gn_ge j64) (gx_val hf j64 ?_)
    by_cases z : gp_val f j < b
    · refine br_f (nI_ge z (by omega)) (nm_r (e' := gp_set (gp_cmp f b) (j + 1)) ?_ (nm_r (nI_1 j) H))
      exact (gp_setT (P := gp_cmp f b) (decide_eq_true z)).symm
    · refine br_t (nI_le (by omega) (by omega)) (nm_r (nI_1 j) ?_)
      rw [gp_setF (P := gp_cmp f b) (fun q => z (of_decide_eq_true q))] at H
      exact H
theorem gy_cmpL {post : Int32 → SY → Prop} {c w : Int32} {f b : Nat} {e s G : Nat → Int64} (hf : f < 512) (hb : b < 9) (h : post (nI (gb_cnt (gp_set (gp_cmp f b) 64) 64)) (vp_updL G (gp_k w) (gp_set (gp_cmp f b) 64) 0, vp_updL G (gp_k w) (gp_set (gp_cmp f b) 64) 1, c, e, s)) : ∀ d j, j + d = 64 → wY_compare_32 post w (nI f) (nI b) (G 0) (G 1) c e s (d + 1) (gp_set (gp_cmp f b) j) (nI j) := by
  intro d
  induction d with
  | zero =>
    intro j hj
    have q : j = 64 := by omega
    subst q
    exact br_t gn_64 (gy_keep h)
  | succ d ih =>
    intro j hj
    have j64 : j < 64 := by omega
    have H := ih (j + 1) (by omega)
    have hv := gp_valL f j
    refine br_f (gn_ge j64) (gy_worth hf j64 ?_)
    by_cases z : gp_val f j < b
    · refine br_f (nI_ge z (by omega)) (nm_r (e' := gp_set (gp_cmp f b) (j + 1)) ?_ (nm_r (nI_1 j) H))
      exact (gp_setT (P := gp_cmp f b) (decide_eq_true z)).symm
    · refine br_t (nI_le (by omega) (by omega)) (nm_r (nI_1 j) ?_)
      rw [gp_setF (P := gp_cmp f b) (fun q => z (of_decide_eq_true q))] at H
      exact H
/-! ===== questions by a walk through the states ===== -/
theorem gs_ref {c : Int32} {g k : Int64} {e s G : Nat → Int64} {a b : Nat} (ha : a < 30) (hb : b < 30) : ∀ d j, j + d = 64 → ∃ r : Int32, (∀ post : Int32 → Prop, post r → wX_refines_20 post (nI a) (nI b) c e s G (d + 1) (nI j)) ∧ (∀ post : Int32 → Prop, post r → wY_refines_20 post (nI a) (nI b) g k c e s (d + 1) (nI j)) := by
  intro d
  induction d with
  | zero =>
    intro j hj
    have q : j = 64 := by omega
    subst q
    exact ⟨1, fun post hp => br_t gn_64 hp, fun post hp => br_t gn_64 hp⟩
  | succ d ih =>
    intro j hj
    have j64 : j < 64 := by omega
    obtain ⟨r, hX, hY⟩ := ih (j + 1) (by omega)
    have ca := gn_cl30 ha
    have cb := gn_cl30 hb
    have xa := gn_cl ha j64
    have xb := gn_cl hb j64
    have go : (gb_t (s a) j = true → gb_t (s b) j = true ∧ (e (64 * b + j) &&& (e (64 * a + j) ^^^ (-1))) = 0) → ∃ r : Int32, (∀ post : Int32 → Prop, post r → wX_refines_20 post (nI a) (nI b) c e s G (d + 1 + 1) (nI j)) ∧ (∀ post : Int32 → Prop, post r → wY_refines_20 post (nI a) (nI b) g k c e s (d + 1 + 1) (nI j)) := by
      intro q
      refine ⟨r, fun post hp => br_f (gn_ge j64) (And.intro (gn_in30 ha) ?_), fun post hp => br_f (gn_ge j64) (And.intro (gn_in30 ha) ?_)⟩
      · rw [ca, cb, xa, xb]
        refine gx_has j64 (fun h1 => nm_r (nI_1 j) (hX post hp)) (fun h1 => And.intro (gn_in hb j64) (And.intro (gn_in ha j64) (nm_e (And.intro (gn_in30 hb) (gx_has j64 (fun h2 => absurd (q h1).1 h2) (fun h2 => br_t (q h1).2 (nm_r (nI_1 j) (hX post hp))))))))
      · rw [ca, cb, xa, xb]
        refine gy_in j64 (fun h1 => nm_r (nI_1 j) (hY post hp)) (fun h1 => And.intro (gn_in30 hb) (gy_in j64 (fun h2 => absurd (q h1).1 h2) (fun h2 => And.intro (gn_in hb j64) (And.intro (gn_in ha j64) (gy_part (fun h3 => absurd (q h1).2 h3) (fun h3 => nm_r (nI_1 j) (hY post hp)))))))
    by_cases s1 : gb_t (s a) j = true
    · by_cases s2 : gb_t (s b) j = true
      · by_cases s3 : (e (64 * b + j) &&& (e (64 * a + j) ^^^ (-1))) = 0
        · exact go (fun _ => ⟨s2, s3⟩)
        · refine ⟨0, fun post hp => br_f (gn_ge j64) (And.intro (gn_in30 ha) ?_), fun post hp => br_f (gn_ge j64) (And.intro (gn_in30 ha) ?_)⟩
          · rw [ca, cb, xa, xb]
            refine gx_has j64 (fun h1 => absurd s1 h1) (fun h1 => And.intro (gn_in hb j64) (And.intro (gn_in ha j64) (nm_e (And.intro (gn_in30 hb) (gx_has j64 (fun h2 => absurd s2 h2) (fun h2 => br_f s3 hp))))))
          · rw [ca, cb, xa, xb]
            refine gy_in j64 (fun h1 => absurd s1 h1) (fun h1 => And.intro (gn_in30 hb) (gy_in j64 (fun h2 => absurd s2 h2) (fun h2 => And.intro (gn_in hb j64) (And.intro (gn_in ha j64) (gy_part (fun h3 => hp) (fun h3 => absurd h3 s3))))))
      · refine ⟨0, fun post hp => br_f (gn_ge j64) (And.intro (gn_in30 ha) ?_), fun post hp => br_f (gn_ge j64) (And.intro (gn_in30 ha) ?_)⟩
        · rw [ca, cb, xa, xb]
          refine gx_has j64 (fun h1 => absurd s1 h1) (fun h1 => And.intro (gn_in hb j64) (And.intro (gn_in ha j64) (nm_e (And.intro (gn_in30 hb) (gx_has j64 (fun h2 => hp) (fun h2 => absurd h2 s2))))))
        · rw [ca, cb, xa, xb]
          refine gy_in j64 (fun h1 => absurd s1 h1) (fun h1 => And.intro (gn_in30 hb) (gy_in j64 (fun h2 => hp) (fun h2 => absurd h2 s2)))
    · exact go (fun z => absurd z s1)
theorem gs_set {k : Nat} {c : Int32} {g h : Int64} {e s G : Nat → Int64} {p : Nat} (I : gp_Inv k e s) (hk : k ≤ 30) (hp : p < k) : ∀ d j, j + d = 64 → ∃ r : Int32, (∀ post : Int32 → Prop, post r → wX_settled_12 post (nI p) c e s G (d + 1) (nI j)) ∧ (∀ post : Int32 → Prop, post r → wY_settled_12 post (nI p) g h c e s (d + 1) (nI j)) := by
  intro d
  have p30 : p < 30 := by omega
  induction d with
  | zero =>
    intro j hj
    have q : j = 64 := by omega
    subst q
    exact ⟨1, fun post hp => br_t gn_64 hp, fun post hp => br_t gn_64 hp⟩
  | succ d ih =>
    intro j hj
    have j64 : j < 64 := by omega
    obtain ⟨r, hX, hY⟩ := ih (j + 1) (by omega)
    have cp := gn_cl30 p30
    have xp := gn_cl p30 j64
    have go : (gb_t (s p) j = true → gb_cnt (e (64 * p + j)) 64 = 1) → ∃ r : Int32, (∀ post : Int32 → Prop, post r → wX_settled_12 post (nI p) c e s G (d + 1 + 1) (nI j)) ∧ (∀ post : Int32 → Prop, post r → wY_settled_12 post (nI p) g h c e s (d + 1 + 1) (nI j)) := by
      intro q
      refine ⟨r, fun post hp => br_f (gn_ge j64) (And.intro (gn_in p30 j64) ?_), fun post hp => br_f (gn_ge j64) (And.intro (gn_in30 p30) ?_)⟩
      · rw [cp, xp]
        refine nm_e (And.intro (gn_in30 p30) (gx_has j64 (fun h1 => nm_r (nI_1 j) (hX post hp)) (fun h1 => br_t ((gb_settled (I p (by omega) j j64 h1)).mp (q h1)) (nm_r (nI_1 j) (hX post hp)))))
      · rw [cp, xp]
        refine gy_in j64 (fun h1 => nm_r (nI_1 j) (hY post hp)) (fun h1 => And.intro (gn_in p30 j64) (gy_size (br_t ?_ (nm_r (nI_1 j) (hY post hp)))))
        rw [q h1]
        rfl
    by_cases s1 : gb_t (s p) j = true
    · by_cases s2 : gb_cnt (e (64 * p + j)) 64 = 1
      · exact go (fun _ => s2)
      · refine ⟨0, fun post hp => br_f (gn_ge j64) (And.intro (gn_in p30 j64) ?_), fun post hp => br_f (gn_ge j64) (And.intro (gn_in30 p30) ?_)⟩
        · rw [cp, xp]
          exact nm_e (And.intro (gn_in30 p30) (gx_has j64 (fun h1 => absurd s1 h1) (fun h1 => br_f (fun z => s2 ((gb_settled (I p (by omega) j j64 h1)).mpr z)) hp)))
        · rw [cp, xp]
          refine gy_in j64 (fun h1 => absurd s1 h1) (fun h1 => And.intro (gn_in p30 j64) (gy_size (br_f ?_ hp)))
          intro z
          have b := gb_cnt_b (e (64 * p + j)) 64
          exact s2 ((nI_eq (b := 1) (by omega) (by decide)).mp z)
    · exact go (fun z => absurd z s1)
theorem gs_wid {c : Int32} {g h : Int64} {e s G : Nat → Int64} {p : Nat} (hp : p < 30) : ∀ d j, j + d = 64 → ∀ m : Int32, ∃ r : Int32, (∀ post : Int32 → Prop, post r → wX_widest_14 post (nI p) c e s G (d + 1) m (nI j)) ∧ (∀ post : Int32 → Prop, post r → wY_widest_14 post (nI p) g h c e s (d + 1) m (nI j)) := by
  intro d
  induction d with
  | zero =>
    intro j hj m
    have q : j = 64 := by omega
    subst q
    exact ⟨m, fun post hp => br_t gn_64 hp, fun post hp => br_t gn_64 hp⟩
  | succ d ih =>
    intro j hj m
    have j64 : j < 64 := by omega
    have xp := gn_cl hp j64
    by_cases z : nI (gb_cnt (e (64 * p + j)) 64) ≤ m
    · obtain ⟨r, hX, hY⟩ := ih (j + 1) (by omega) m
      refine ⟨r, fun post hq => br_f (gn_ge j64) (And.intro (gn_in hp j64) ?_), fun post hq => br_f (gn_ge j64) (And.intro (gn_in hp j64) ?_)⟩
      · rw [xp]
        exact gx_ones (br_t z (nm_r (nI_1 j) (hX post hq)))
      · rw [xp]
        exact gy_size (br_t z (nm_r (nI_1 j) (hY post hq)))
    · obtain ⟨r, hX, hY⟩ := ih (j + 1) (by omega) (nI (gb_cnt (e (64 * p + j)) 64))
      refine ⟨r, fun post hq => br_f (gn_ge j64) (And.intro (gn_in hp j64) ?_), fun post hq => br_f (gn_ge j64) (And.intro (gn_in hp j64) ?_)⟩
      · rw [xp]
        exact gx_ones (br_f z (nm_r (nI_1 j) (hX post hq)))
      · rw [xp]
        exact gy_size (br_f z (nm_r (nI_1 j) (hY post hq)))
/-! ===== two programs asked for ===== -/
theorem gx_two {A B : Prop} {c a b : Nat} {e s G : Nat → Int64} (hc : c ≤ 30) (ha : a < c) (hb : b < c) (h : B) : wpX_isGood (fun r => (r = 0 → A) ∧ (¬ r = 0 → wpX_isGood (fun r => (r = 0 → A) ∧ (¬ r = 0 → B)) (nI c, e, s, G) (nI b))) (nI c, e, s, G) (nI a) := gx_good1 hc ha (br_f gn_10 (gx_good1 hc hb (br_f gn_10 h)))
theorem gx_twoN {A B : Prop} {c : Nat} {x y : Int32} {e s G : Nat → Int64} (hc : c ≤ 30) (hn : ¬ ((∃ p, p < c ∧ x = nI p) ∧ (∃ p, p < c ∧ y = nI p))) (h : A) : wpX_isGood (fun r => (r = 0 → A) ∧ (¬ r = 0 → wpX_isGood (fun r => (r = 0 → A) ∧ (¬ r = 0 → B)) (nI c, e, s, G) y)) (nI c, e, s, G) x := by
  by_cases q : ∃ p, p < c ∧ x = nI p
  · obtain ⟨a, ha, rfl⟩ := q
    exact gx_good1 hc ha (br_f gn_10 (gx_good0 (fun z => hn ⟨⟨a, ha, rfl⟩, z⟩) (br_t rfl h)))
  · exact gx_good0 q (br_t rfl h)
theorem gy_two {A B : Prop} {c a b : Nat} {g k : Int64} {e s : Nat → Int64} (hc : c ≤ 30) (ha : a < c) (hb : b < c) (h : B) : wpY_bad (fun r => (r = 0 → wpY_bad (fun r => (r = 0 → B) ∧ (¬ r = 0 → A)) (g, k, nI c, e, s) (nI b)) ∧ (¬ r = 0 → A)) (g, k, nI c, e, s) (nI a) := gy_bad0 hc ha (br_t rfl (gy_bad0 hc hb (br_t rfl h)))
theorem gy_twoN {A B : Prop} {c : Nat} {x y : Int32} {g k : Int64} {e s : Nat → Int64} (hc : c ≤ 30) (hn : ¬ ((∃ p, p < c ∧ x = nI p) ∧ (∃ p, p < c ∧ y = nI p))) (h : A) : wpY_bad (fun r => (r = 0 → wpY_bad (fun r => (r = 0 → B) ∧ (¬ r = 0 → A)) (g, k, nI c, e, s) y) ∧ (¬ r = 0 → A)) (g, k, nI c, e, s) x := by
  by_cases q : ∃ p, p < c ∧ x = nI p
  · obtain ⟨a, ha, rfl⟩ := q
    exact gy_bad0 hc ha (br_t rfl (gy_bad1 (fun z => hn ⟨⟨a, ha, rfl⟩, z⟩) (br_f gn_10 h)))
  · exact gy_bad1 q (br_f gn_10 h)
/-! ===== the makers that take two programs, whole ===== -/
theorem gx_seq {post : Int32 → SX → Prop} {c a b : Nat} {e s G : Nat → Int64} (hc : c < 30) (ha : a < c) (hb : b < c) (h : post (nI c) (nI (c + 1), gp_fill e c (gp_sqV e a b) 64, vp_updL s c (gp_set (gp_sqP e s a b) 64), G)) : wpX_sequence post (nI c, e, s, G) (nI a) (nI b) := by
  have q := gx_seqL hc ha hb h 64 0 rfl
  rw [gp_fill0] at q
  unfold wpX_sequence
  exact gx_two (by omega) ha hb (br_f (gn_n30 hc) ⟨65, q⟩)
theorem gy_seq {post : Int32 → SY → Prop} {c a b : Nat} {g k : Int64} {e s : Nat → Int64} (hc : c < 30) (ha : a < c) (hb : b < c) (h : post (nI c) (g, k, nI (c + 1), gp_fill e c (gp_sqV e a b) 64, vp_updL s c (gp_set (gp_sqP e s a b) 64))) : wpY_sequence post (g, k, nI c, e, s) (nI a) (nI b) := by
  have q := gy_seqL hc ha hb h 64 0 rfl
  rw [gp_fill0] at q
  unfold wpY_sequence
  exact gy_two (by omega) ha hb (gy_full0 hc (br_t rfl ⟨65, q⟩))
theorem gx_cho {post : Int32 → SX → Prop} {c a b : Nat} {e s G : Nat → Int64} (hc : c < 30) (ha : a < c) (hb : b < c) (h : post (nI c) (nI (c + 1), gp_fill e c (gp_stp e G a b) 64, vp_updL s c (gp_set (gp_chP s G a b) 64), G)) : wpX_choice post (nI c, e, s, G) (nI a) (nI b) := by
  have q := gx_choL hc ha hb h 64 0 rfl
  rw [gp_fill0] at q
  unfold wpX_choice
  refine gx_two (by omega) ha hb (br_f (gn_n30 hc) (nm_e (And.intro (gn_in30 (by omega)) (And.intro (gn_in30 (by omega)) (nm_r (e' := gp_set (gp_chP s G a b) 64) ?_ ⟨65, q⟩)))))
  rw [gn_cl30 (show a < 30 by omega), gn_cl30 (show b < 30 by omega)]
  exact gp_ch s G a b
theorem gy_cho {post : Int32 → SY → Prop} {c a b : Nat} {e s G : Nat → Int64} (hc : c < 30) (ha : a < c) (hb : b < c) (h : post (nI c) (G 0, G 1, nI (c + 1), gp_fill e c (gp_stp e G a b) 64, vp_updL s c (gp_set (gp_chP s G a b) 64))) : wpY_choice post (G 0, G 1, nI c, e, s) (nI a) (nI b) := by
  have q := gy_choL hc ha hb h 64 0 rfl
  rw [gp_fill0] at q
  unfold wpY_choice
  exact gy_two (by omega) ha hb (gy_full0 hc (br_t rfl ⟨65, q⟩))
theorem gx_lp {post : Int32 → SX → Prop} {c a b : Nat} {w : Int64} {e s G : Nat → Int64} (hc : c < 30) (ha : a < c) (hb : b < c)
    (hS : ∀ p : Int64 → Prop, p w → wpX_loopSure p (nI c, gp_fill e c (gp_lpV e G a b) 64, s, G) (nI a) (nI b) ((G 0 ||| G 1) ^^^ (-1)))
    (h : post (nI c) (nI (c + 1), gp_fill e c (gp_lpV e G a b) 64, vp_updL s c w, G)) : wpX_loop post (nI c, e, s, G) (nI a) (nI b) := by
  have q := gx_lpL hc ha hb hS h 64 0 rfl
  rw [gp_fill0] at q
  unfold wpX_loop
  exact gx_two (by omega) ha hb (br_f (gn_n30 hc) (nm_e ⟨65, q⟩))
theorem gy_lp {post : Int32 → SY → Prop} {c a b : Nat} {w : Int64} {e s G : Nat → Int64} (hc : c < 30) (ha : a < c) (hb : b < c)
    (hS : ∀ p : Int64 → Prop, p w → wpY_resting p (G 0, G 1, nI c, gp_fill e c (gp_lpV e G a b) 64, s) (nI a) (nI b))
    (h : post (nI c) (G 0, G 1, nI (c + 1), gp_fill e c (gp_lpV e G a b) 64, vp_updL s c w)) : wpY_loop post (G 0, G 1, nI c, e, s) (nI a) (nI b) := by
  have q := gy_lpL hc ha hb hS h 64 0 rfl
  rw [gp_fill0] at q
  unfold wpY_loop
  exact gy_two (by omega) ha hb (gy_full0 hc (br_t rfl ⟨65, q⟩))
theorem gp_sqNe {c a b : Nat} {e s : Nat → Int64} (I : gp_Inv c e s) (ha : a < c) (hb : b < c) : ∀ i, i < 64 → gb_t (gp_set (gp_sqP e s a b) 64) i = true → gp_sqV e a b i ≠ 0 := by
  intro i hi h
  rw [gp_setI _ hi] at h
  unfold gp_sqP at h
  rw [Bool.and_eq_true, decide_eq_true_eq] at h
  obtain ⟨k, hk, hk2⟩ := gb_ex (I a ha i hi h.1)
  obtain ⟨m, _, hm⟩ := gb_ex (I b hb k hk (gb_part.mp h.2 k hk hk2))
  exact gb_ne0 (i := m) (gp_imgB hk2 hm 64 hk)
theorem gp_chNe {c a b : Nat} {e s G : Nat → Int64} (I : gp_Inv c e s) (ha : a < c) (hb : b < c) : ∀ i, i < 64 → gb_t (gp_set (gp_chP s G a b) 64) i = true → gp_stp e G a b i ≠ 0 := by
  intro i hi h
  rw [gp_setI _ hi] at h
  unfold gp_chP at h
  rw [Bool.and_eq_true] at h
  exact gp_stpNe I ha hb hi h.1 h.2
end
section
theorem i_up {k : Nat} {u : SX} {v : SY} (h : i_Rel k u v) : i_Rel (k + 4) u v := h
theorem i_vc0 : wpX_init (fun u => wpY_init (fun v => i_Rel 0 u v)) := ⟨0, fun _ => 0, fun _ => 0, fun _ => 0, by decide, fun p hp => absurd hp (Nat.not_lt_zero p), rfl, rfl⟩
theorem i_vc_guard {k : Nat} {u : SX} {v : SY} (I : i_Rel k u v) (hk : k + 4 ≤ 2048) (v1 : Int32) (a1 : Int64) : wpX_guard (fun r u' => wpY_guard (fun r' v' => r' = r ∧ i_Rel (k + 4) u' v') v v1 a1) u v1 a1 := by
  obtain ⟨c, e, s, G, hc, I, rfl, rfl⟩ := I
  have R : ∀ n, i_Rel n (nI c, e, s, G) (G 0, G 1, nI c, e, s) := fun _ => ⟨c, e, s, G, hc, I, rfl, rfl⟩
  exact gx_guard (gy_guard ⟨rfl, c, e, s, vp_updL G (gp_k v1) a1, hc, I, rfl, rfl⟩)
theorem i_vc_compare {k : Nat} {u : SX} {v : SY} (I : i_Rel k u v) (hk : k + 4 ≤ 2048) (v1 : Int32) (v2 : Int32) (v3 : Int32) : wpX_compare (fun r u' => wpY_compare (fun r' v' => r' = r ∧ i_Rel (k + 4) u' v') v v1 v2 v3) u v1 v2 v3 := by
  obtain ⟨c, e, s, G, hc, I, rfl, rfl⟩ := I
  have R : ∀ n, i_Rel n (nI c, e, s, G) (G 0, G 1, nI c, e, s) := fun _ => ⟨c, e, s, G, hc, I, rfl, rfl⟩
  by_cases h1 : v2 < 0
  · exact br_t h1 (br_t h1 ⟨rfl, R _⟩)
  · by_cases h2 : v2 ≤ 511
    · by_cases h3 : v3 < 0
      · exact br_f h1 (br_t h2 (br_t h3 (br_f h1 (br_t h2 (br_t h3 ⟨rfl, R _⟩)))))
      · by_cases h4 : v3 ≤ 8
        · obtain ⟨f, hf, rfl⟩ := nI_of2 (M := 511) (n := 511) (by decide) h1 h2
          obtain ⟨b, hb, rfl⟩ := nI_of2 (M := 8) (n := 8) (by decide) h3 h4
          exact br_f h1 (br_t h2 (br_f h3 (br_t h4 ⟨65, gx_cmpL (by omega) (by omega) (br_f h1 (br_t h2 (br_f h3 (br_t h4 ⟨65, gy_cmpL (by omega) (by omega) ⟨rfl, c, e, s, vp_updL G (gp_k v1) (gp_set (gp_cmp f b) 64), hc, I, rfl, rfl⟩ 64 0 rfl⟩)))) 64 0 rfl⟩)))
        · exact br_f h1 (br_t h2 (br_f h3 (br_f h4 (br_f h1 (br_t h2 (br_f h3 (br_f h4 ⟨rfl, R _⟩)))))))
    · exact br_f h1 (br_f h2 (br_f h1 (br_f h2 ⟨rfl, R _⟩)))
theorem i_vc_oppose {k : Nat} {u : SX} {v : SY} (I : i_Rel k u v) (hk : k + 4 ≤ 2048) (v1 : Int32) : wpX_oppose (fun r u' => wpY_oppose (fun r' v' => r' = r ∧ i_Rel (k + 4) u' v') v v1) u v1 := by
  obtain ⟨c, e, s, G, hc, I, rfl, rfl⟩ := I
  have R : ∀ n, i_Rel n (nI c, e, s, G) (G 0, G 1, nI c, e, s) := fun _ => ⟨c, e, s, G, hc, I, rfl, rfl⟩
  exact gx_opp (gy_opp ⟨rfl, c, e, s, vp_updL G (gp_k v1) (G (gp_k v1) ^^^ (-1)), hc, I, rfl, rfl⟩)
theorem i_vc_skip {k : Nat} {u : SX} {v : SY} (I : i_Rel k u v) (hk : k + 4 ≤ 2048) : wpX_skip (fun r u' => wpY_skip (fun r' v' => r' = r ∧ i_Rel (k + 4) u' v') v) u := by
  obtain ⟨c, e, s, G, hc, I, rfl, rfl⟩ := I
  have R : ∀ n, i_Rel n (nI c, e, s, G) (G 0, G 1, nI c, e, s) := fun _ => ⟨c, e, s, G, hc, I, rfl, rfl⟩
  rcases Nat.lt_or_ge c 30 with h | h
  · exact gx_skip h (gy_skip h ⟨rfl, c + 1, gp_fill e c gb_one 64, vp_updL s c (-1), G, h, gp_InvS I (fun i hi _ => gb_one0 hi), rfl, rfl⟩)
  · have z : c = 30 := by omega
    subst z
    refine br_t rfl ?_
    unfold wpY_skip wpY_plain
    exact gy_full1 (br_f gn_10 ⟨rfl, R _⟩)
theorem i_vc_fail {k : Nat} {u : SX} {v : SY} (I : i_Rel k u v) (hk : k + 4 ≤ 2048) : wpX_fail (fun r u' => wpY_fail (fun r' v' => r' = r ∧ i_Rel (k + 4) u' v') v) u := by
  obtain ⟨c, e, s, G, hc, I, rfl, rfl⟩ := I
  have R : ∀ n, i_Rel n (nI c, e, s, G) (G 0, G 1, nI c, e, s) := fun _ => ⟨c, e, s, G, hc, I, rfl, rfl⟩
  rcases Nat.lt_or_ge c 30 with h | h
  · exact gx_fail h (gy_fail h ⟨rfl, c + 1, gp_fill e c gp_zero 64, vp_updL s c 0, G, h, gp_InvS I (fun i _ hb => absurd rfl (gb_ne0 hb)), rfl, rfl⟩)
  · have z : c = 30 := by omega
    subst z
    refine br_t rfl ?_
    unfold wpY_fail wpY_plain
    exact gy_full1 (br_f gn_10 ⟨rfl, R _⟩)
theorem i_vc_assign {k : Nat} {u : SX} {v : SY} (I : i_Rel k u v) (hk : k + 4 ≤ 2048) (v1 : Int32) (v2 : Int32) : wpX_assign (fun r u' => wpY_assign (fun r' v' => r' = r ∧ i_Rel (k + 4) u' v') v v1 v2) u v1 v2 := by
  obtain ⟨c, e, s, G, hc, I, rfl, rfl⟩ := I
  have R : ∀ n, i_Rel n (nI c, e, s, G) (G 0, G 1, nI c, e, s) := fun _ => ⟨c, e, s, G, hc, I, rfl, rfl⟩
  by_cases h1 : v2 < 0
  · exact br_t h1 (br_t h1 ⟨rfl, R _⟩)
  · by_cases h2 : v2 ≤ 511
    · rcases Nat.lt_or_ge c 30 with h | h
      · obtain ⟨f, hf, rfl⟩ := nI_of2 (M := 511) (n := 511) (by decide) h1 h2
        have N : i_Rel (k + 4) (nI (c + 1), gp_fill e c (gp_asg v1 f) 64, vp_updL s c (-1), G) (G 0, G 1, nI (c + 1), gp_fill e c (gp_asg v1 f) 64, vp_updL s c (-1)) := ⟨c + 1, _, _, G, h, gp_InvS I (fun i hi _ => gb_one0 (gp_nxtL v1 f hi)), rfl, rfl⟩
        have y : wpY_assign (fun r' v' => r' = nI c ∧ i_Rel (k + 4) (nI (c + 1), gp_fill e c (gp_asg v1 f) 64, vp_updL s c (-1), G) v') (G 0, G 1, nI c, e, s) v1 (nI f) := by
          have q := gy_asgL (post := fun r' v' => r' = nI c ∧ i_Rel (k + 4) (nI (c + 1), gp_fill e c (gp_asg v1 f) 64, vp_updL s c (-1), G) v') (w := v1) (f := f) (g := G 0) (k := G 1) (e := e) (s := s) (by omega) h ⟨rfl, N⟩ 64 0 rfl
          rw [gp_fill0] at q
          exact br_f h1 (br_t h2 (gy_full0 h (br_t rfl ⟨65, q⟩)))
        have q := gx_asgL (post := fun r u' => wpY_assign (fun r' v' => r' = r ∧ i_Rel (k + 4) u' v') (G 0, G 1, nI c, e, s) v1 (nI f)) (w := v1) (f := f) (e := e) (s := s) (G := G) (by omega) h y 64 0 rfl
        rw [gp_fill0] at q
        exact br_f h1 (br_t h2 (br_f (gn_n30 h) ⟨65, q⟩))
      · have z : c = 30 := by omega
        subst z
        exact br_f h1 (br_t h2 (br_t rfl (br_f h1 (br_t h2 (gy_full1 (br_f gn_10 ⟨rfl, R _⟩))))))
    · exact br_f h1 (br_f h2 (br_f h1 (br_f h2 ⟨rfl, R _⟩)))
theorem i_vc_sequence {k : Nat} {u : SX} {v : SY} (I : i_Rel k u v) (hk : k + 4 ≤ 2048) (v1 : Int32) (v2 : Int32) : wpX_sequence (fun r u' => wpY_sequence (fun r' v' => r' = r ∧ i_Rel (k + 4) u' v') v v1 v2) u v1 v2 := by
  obtain ⟨c, e, s, G, hc, I, rfl, rfl⟩ := I
  have R : ∀ n, i_Rel n (nI c, e, s, G) (G 0, G 1, nI c, e, s) := fun _ => ⟨c, e, s, G, hc, I, rfl, rfl⟩
  by_cases q : (∃ p, p < c ∧ v1 = nI p) ∧ (∃ p, p < c ∧ v2 = nI p)
  · obtain ⟨⟨a, ha, rfl⟩, ⟨b, hb, rfl⟩⟩ := q
    rcases Nat.lt_or_ge c 30 with h | h
    · exact gx_seq h ha hb (gy_seq h ha hb ⟨rfl, c + 1, gp_fill e c (gp_sqV e a b) 64, vp_updL s c (gp_set (gp_sqP e s a b) 64), G, h, gp_InvS I (gp_sqNe I ha hb), rfl, rfl⟩)
    · have z : c = 30 := by omega
      subst z
      unfold wpX_sequence
      refine gx_two hc ha hb (br_t rfl ?_)
      unfold wpY_sequence
      exact gy_two hc ha hb (gy_full1 (br_f gn_10 ⟨rfl, R _⟩))
  · unfold wpX_sequence
    refine gx_twoN hc q ?_
    unfold wpY_sequence
    exact gy_twoN hc q ⟨rfl, R _⟩
theorem i_vc_choice {k : Nat} {u : SX} {v : SY} (I : i_Rel k u v) (hk : k + 4 ≤ 2048) (v1 : Int32) (v2 : Int32) : wpX_choice (fun r u' => wpY_choice (fun r' v' => r' = r ∧ i_Rel (k + 4) u' v') v v1 v2) u v1 v2 := by
  obtain ⟨c, e, s, G, hc, I, rfl, rfl⟩ := I
  have R : ∀ n, i_Rel n (nI c, e, s, G) (G 0, G 1, nI c, e, s) := fun _ => ⟨c, e, s, G, hc, I, rfl, rfl⟩
  by_cases q : (∃ p, p < c ∧ v1 = nI p) ∧ (∃ p, p < c ∧ v2 = nI p)
  · obtain ⟨⟨a, ha, rfl⟩, ⟨b, hb, rfl⟩⟩ := q
    rcases Nat.lt_or_ge c 30 with h | h
    · exact gx_cho h ha hb (gy_cho h ha hb ⟨rfl, c + 1, gp_fill e c (gp_stp e G a b) 64, vp_updL s c (gp_set (gp_chP s G a b) 64), G, h, gp_InvS I (gp_chNe I ha hb), rfl, rfl⟩)
    · have z : c = 30 := by omega
      subst z
      unfold wpX_choice
      refine gx_two hc ha hb (br_t rfl ?_)
      unfold wpY_choice
      exact gy_two hc ha hb (gy_full1 (br_f gn_10 ⟨rfl, R _⟩))
  · unfold wpX_choice
    refine gx_twoN hc q ?_
    unfold wpY_choice
    exact gy_twoN hc q ⟨rfl, R _⟩
theorem i_vc_loop {k : Nat} {u : SX} {v : SY} (I : i_Rel k u v) (hk : k + 4 ≤ 2048) (v1 : Int32) (v2 : Int32) : wpX_loop (fun r u' => wpY_loop (fun r' v' => r' = r ∧ i_Rel (k + 4) u' v') v v1 v2) u v1 v2 := by
  obtain ⟨c, e, s, G, hc, I, rfl, rfl⟩ := I
  have R : ∀ n, i_Rel n (nI c, e, s, G) (G 0, G 1, nI c, e, s) := fun _ => ⟨c, e, s, G, hc, I, rfl, rfl⟩
  by_cases q : (∃ p, p < c ∧ v1 = nI p) ∧ (∃ p, p < c ∧ v2 = nI p)
  · obtain ⟨⟨a, ha, rfl⟩, ⟨b, hb, rfl⟩⟩ := q
    rcases Nat.lt_or_ge c 30 with h | h
    · obtain ⟨w, hE, hX, hY⟩ := gs_sureT (nI c) G (gp_InvF (v := gp_lpV e G a b) (j := 64) I) hc ha hb
      exact gx_lp h ha hb hX (gy_lp h ha hb hY ⟨rfl, c + 1, gp_fill e c (gp_lpV e G a b) 64, vp_updL s c w, G, h, gp_InvS I (gp_lpNe (s := s) h ha hb hE), rfl, rfl⟩)
    · have z : c = 30 := by omega
      subst z
      unfold wpX_loop
      refine gx_two hc ha hb (br_t rfl ?_)
      unfold wpY_loop
      exact gy_two hc ha hb (gy_full1 (br_f gn_10 ⟨rfl, R _⟩))
  · unfold wpX_loop
    refine gx_twoN hc q ?_
    unfold wpY_loop
    exact gy_twoN hc q ⟨rfl, R _⟩
theorem i_vc_programs {k : Nat} {u : SX} {v : SY} (I : i_Rel k u v) (hk : k + 4 ≤ 2048) : wpX_programs (fun r => wpY_programs (fun r' => r' = r ∧ i_Rel (k + 4) u v) v) u := by
  obtain ⟨c, e, s, G, hc, I, rfl, rfl⟩ := I
  have R : ∀ n, i_Rel n (nI c, e, s, G) (G 0, G 1, nI c, e, s) := fun _ => ⟨c, e, s, G, hc, I, rfl, rfl⟩
  exact ⟨rfl, R _⟩
theorem i_vc_ends {k : Nat} {u : SX} {v : SY} (I : i_Rel k u v) (hk : k + 4 ≤ 2048) (v1 : Int32) (v2 : Int32) : wpX_ends (fun r => wpY_ends (fun r' => r' = r ∧ i_Rel (k + 4) u v) v v1 v2) u v1 v2 := by
  obtain ⟨c, e, s, G, hc, I, rfl, rfl⟩ := I
  have R : ∀ n, i_Rel n (nI c, e, s, G) (G 0, G 1, nI c, e, s) := fun _ => ⟨c, e, s, G, hc, I, rfl, rfl⟩
  by_cases q : ∃ p, p < c ∧ v1 = nI p
  · obtain ⟨p, hp, rfl⟩ := q
    have p30 : p < 30 := by omega
    unfold wpX_ends
    refine gx_good1 hc hp (br_f gn_10 ?_)
    rcases pk_ix v2 (n := 64) (by decide) with h | h | ⟨j, hj, rfl⟩
    · refine br_t h (br_t rfl ?_)
      unfold wpY_ends
      exact gy_bad0 hc hp (br_t rfl (br_t h ⟨rfl, R _⟩))
    · have h0 : ¬ v2 < 0 := Int32.not_lt.mpr (Int32.le_trans (by decide) h)
      have h6 : ¬ v2 ≤ 63 := fun z => absurd (Int32.le_trans h z) (by decide)
      refine br_f h0 (br_t h (br_t rfl ?_))
      unfold wpY_ends
      exact gy_bad0 hc hp (br_t rfl (br_f h0 (br_f h6 ⟨rfl, R _⟩)))
    · have h0 : ¬ nI j < 0 := nI_pos (by omega)
      have h6 : nI j ≤ 63 := nI_le (b := 63) (by omega) (by decide)
      refine br_f h0 (br_f (gn_ge hj) (br_f gn_10 (And.intro (gn_in p30 hj) ?_)))
      unfold wpY_ends
      exact gy_bad0 hc hp (br_t rfl (br_f h0 (br_t h6 (And.intro (gn_in p30 hj) ⟨rfl, R _⟩))))
  · unfold wpX_ends
    refine gx_good0 q ?_
    refine br_t rfl (br_t rfl ?_)
    unfold wpY_ends
    exact gy_bad1 q (br_f gn_10 ⟨rfl, R _⟩)
theorem i_vc_sure {k : Nat} {u : SX} {v : SY} (I : i_Rel k u v) (hk : k + 4 ≤ 2048) (v1 : Int32) : wpX_sure (fun r => wpY_sure (fun r' => r' = r ∧ i_Rel (k + 4) u v) v v1) u v1 := by
  obtain ⟨c, e, s, G, hc, I, rfl, rfl⟩ := I
  have R : ∀ n, i_Rel n (nI c, e, s, G) (G 0, G 1, nI c, e, s) := fun _ => ⟨c, e, s, G, hc, I, rfl, rfl⟩
  by_cases q : ∃ p, p < c ∧ v1 = nI p
  · obtain ⟨p, hp, rfl⟩ := q
    have p30 : p < 30 := by omega
    unfold wpX_sure
    refine gx_good1 hc hp (br_f gn_10 (And.intro (gn_in30 p30) ?_))
    unfold wpY_sure
    exact gy_bad0 hc hp (br_t rfl (And.intro (gn_in30 p30) ⟨rfl, R _⟩))
  · unfold wpX_sure
    refine gx_good0 q ?_
    refine br_t rfl ?_
    unfold wpY_sure
    exact gy_bad1 q (br_f gn_10 ⟨rfl, R _⟩)
theorem i_vc_demand {k : Nat} {u : SX} {v : SY} (I : i_Rel k u v) (hk : k + 4 ≤ 2048) (v1 : Int32) (a1 : Int64) : wpX_demand (fun r => wpY_demand (fun r' => r' = r ∧ i_Rel (k + 4) u v) v v1 a1) u v1 a1 := by
  obtain ⟨c, e, s, G, hc, I, rfl, rfl⟩ := I
  have R : ∀ n, i_Rel n (nI c, e, s, G) (G 0, G 1, nI c, e, s) := fun _ => ⟨c, e, s, G, hc, I, rfl, rfl⟩
  by_cases q : ∃ p, p < c ∧ v1 = nI p
  · obtain ⟨p, hp, rfl⟩ := q
    have p30 : p < 30 := by omega
    unfold wpX_demand
    refine gx_good1 hc hp (br_f gn_10 (And.intro (gn_in30 p30) (gx_weak p30 ?_)))
    unfold wpY_demand
    refine gy_bad0 hc hp (br_t rfl (gy_weak p30 (And.intro (gn_in30 p30) ⟨Int64.and_comm _ _, R _⟩)))
  · unfold wpX_demand
    refine gx_good0 q ?_
    refine br_t rfl ?_
    unfold wpY_demand
    exact gy_bad1 q (br_f gn_10 ⟨rfl, R _⟩)
theorem i_vc_weakDemand {k : Nat} {u : SX} {v : SY} (I : i_Rel k u v) (hk : k + 4 ≤ 2048) (v1 : Int32) (a1 : Int64) : wpX_weakDemand (fun r => wpY_weakDemand (fun r' => r' = r ∧ i_Rel (k + 4) u v) v v1 a1) u v1 a1 := by
  obtain ⟨c, e, s, G, hc, I, rfl, rfl⟩ := I
  have R : ∀ n, i_Rel n (nI c, e, s, G) (G 0, G 1, nI c, e, s) := fun _ => ⟨c, e, s, G, hc, I, rfl, rfl⟩
  by_cases q : ∃ p, p < c ∧ v1 = nI p
  · obtain ⟨p, hp, rfl⟩ := q
    have p30 : p < 30 := by omega
    unfold wpX_weakDemand
    refine gx_good1 hc hp (br_f gn_10 (gx_weak p30 ?_))
    unfold wpY_weakDemand
    exact gy_bad0 hc hp (br_t rfl (gy_weak p30 ⟨rfl, R _⟩))
  · unfold wpX_weakDemand
    refine gx_good0 q ?_
    refine br_t rfl ?_
    unfold wpY_weakDemand
    exact gy_bad1 q (br_f gn_10 ⟨rfl, R _⟩)
theorem i_vc_image {k : Nat} {u : SX} {v : SY} (I : i_Rel k u v) (hk : k + 4 ≤ 2048) (v1 : Int32) (a1 : Int64) : wpX_image (fun r => wpY_image (fun r' => r' = r ∧ i_Rel (k + 4) u v) v v1 a1) u v1 a1 := by
  obtain ⟨c, e, s, G, hc, I, rfl, rfl⟩ := I
  have R : ∀ n, i_Rel n (nI c, e, s, G) (G 0, G 1, nI c, e, s) := fun _ => ⟨c, e, s, G, hc, I, rfl, rfl⟩
  by_cases q : ∃ p, p < c ∧ v1 = nI p
  · obtain ⟨p, hp, rfl⟩ := q
    have p30 : p < 30 := by omega
    unfold wpX_image
    refine gx_good1 hc hp (br_f gn_10 (gx_img p30 ?_))
    unfold wpY_image
    exact gy_bad0 hc hp (br_t rfl (gy_from p30 ⟨rfl, R _⟩))
  · unfold wpX_image
    refine gx_good0 q ?_
    refine br_t rfl ?_
    unfold wpY_image
    exact gy_bad1 q (br_f gn_10 ⟨rfl, R _⟩)
theorem i_vc_refines {k : Nat} {u : SX} {v : SY} (I : i_Rel k u v) (hk : k + 4 ≤ 2048) (v1 : Int32) (v2 : Int32) : wpX_refines (fun r => wpY_refines (fun r' => r' = r ∧ i_Rel (k + 4) u v) v v1 v2) u v1 v2 := by
  obtain ⟨c, e, s, G, hc, I, rfl, rfl⟩ := I
  have R : ∀ n, i_Rel n (nI c, e, s, G) (G 0, G 1, nI c, e, s) := fun _ => ⟨c, e, s, G, hc, I, rfl, rfl⟩
  by_cases q : (∃ p, p < c ∧ v1 = nI p) ∧ (∃ p, p < c ∧ v2 = nI p)
  · obtain ⟨⟨a, ha, rfl⟩, ⟨b, hb, rfl⟩⟩ := q
    obtain ⟨r, hX, hY⟩ := gs_ref (c := nI c) (g := G 0) (k := G 1) (e := e) (s := s) (G := G) (show a < 30 by omega) (show b < 30 by omega) 64 0 rfl
    unfold wpX_refines
    refine gx_two hc ha hb ⟨65, hX _ ?_⟩
    unfold wpY_refines
    exact gy_two hc ha hb ⟨65, hY _ ⟨rfl, R _⟩⟩
  · unfold wpX_refines
    refine gx_twoN hc q ?_
    unfold wpY_refines
    exact gy_twoN hc q ⟨rfl, R _⟩
theorem i_vc_settled {k : Nat} {u : SX} {v : SY} (I : i_Rel k u v) (hk : k + 4 ≤ 2048) (v1 : Int32) : wpX_settled (fun r => wpY_settled (fun r' => r' = r ∧ i_Rel (k + 4) u v) v v1) u v1 := by
  obtain ⟨c, e, s, G, hc, I, rfl, rfl⟩ := I
  have R : ∀ n, i_Rel n (nI c, e, s, G) (G 0, G 1, nI c, e, s) := fun _ => ⟨c, e, s, G, hc, I, rfl, rfl⟩
  by_cases q : ∃ p, p < c ∧ v1 = nI p
  · obtain ⟨p, hp, rfl⟩ := q
    have p30 : p < 30 := by omega
    obtain ⟨r, hX, hY⟩ := gs_set (c := nI c) (g := G 0) (h := G 1) (G := G) I hc hp 64 0 rfl
    unfold wpX_settled
    refine gx_good1 hc hp (br_f gn_10 ⟨65, hX _ ?_⟩)
    unfold wpY_settled
    exact gy_bad0 hc hp (br_t rfl ⟨65, hY _ ⟨rfl, R _⟩⟩)
  · unfold wpX_settled
    refine gx_good0 q ?_
    refine br_t rfl ?_
    unfold wpY_settled
    exact gy_bad1 q (br_f gn_10 ⟨rfl, R _⟩)
theorem i_vc_widest {k : Nat} {u : SX} {v : SY} (I : i_Rel k u v) (hk : k + 4 ≤ 2048) (v1 : Int32) : wpX_widest (fun r => wpY_widest (fun r' => r' = r ∧ i_Rel (k + 4) u v) v v1) u v1 := by
  obtain ⟨c, e, s, G, hc, I, rfl, rfl⟩ := I
  have R : ∀ n, i_Rel n (nI c, e, s, G) (G 0, G 1, nI c, e, s) := fun _ => ⟨c, e, s, G, hc, I, rfl, rfl⟩
  by_cases q : ∃ p, p < c ∧ v1 = nI p
  · obtain ⟨p, hp, rfl⟩ := q
    have p30 : p < 30 := by omega
    obtain ⟨r, hX, hY⟩ := gs_wid (c := nI c) (g := G 0) (h := G 1) (e := e) (s := s) (G := G) p30 64 0 rfl 0
    unfold wpX_widest
    refine gx_good1 hc hp (br_f gn_10 ⟨65, hX _ ?_⟩)
    unfold wpY_widest
    exact gy_bad0 hc hp (br_t rfl ⟨65, hY _ ⟨rfl, R _⟩⟩)
  · unfold wpX_widest
    refine gx_good0 q ?_
    refine br_t rfl ?_
    unfold wpY_widest
    exact gy_bad1 q (br_f gn_10 ⟨rfl, R _⟩)
end
