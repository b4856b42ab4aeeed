/-! NUMBERS: an int by its integer value -/
def iN (z : Int) : Int32 := Int32.ofInt z
theorem iN_toInt {z : Int} (h1 : -2147483648 ≤ z) (h2 : z < 2147483648) : (iN z).toInt = z := Int32.toInt_ofInt_of_le (by omega) (by omega)
theorem iN_of (x : Int32) : iN x.toInt = x := Int32.ofInt_toInt x
theorem nI_iN (n : Nat) : nI n = iN (n : Int) := Int32.ofInt_eq_ofNat.symm
theorem iN_add (a b : Int) : iN a + iN b = iN (a + b) := (Int32.ofInt_add a b).symm
theorem iN_sub (a b : Int) : iN a - iN b = iN (a - b) := (Int32.ofInt_sub a b).symm
theorem iN_mul (a b : Int) : iN a * iN b = iN (a * b) := (Int32.ofInt_mul a b).symm
theorem iN_neg (a : Int) : -iN a = iN (-a) := (Int32.ofInt_neg a).symm
theorem iN_lit (n : Nat) : (OfNat.ofNat n : Int32) = iN (OfNat.ofNat n : Int) := (Int32.ofInt_eq_ofNat (n := n)).symm
theorem iN_le {a b : Int} (h1 : -2147483648 ≤ a) (h2 : a < 2147483648) (h3 : -2147483648 ≤ b) (h4 : b < 2147483648) : iN a ≤ iN b ↔ a ≤ b := by
  rw [Int32.le_iff_toInt_le, iN_toInt h1 h2, iN_toInt h3 h4]
theorem iN_lt {a b : Int} (h1 : -2147483648 ≤ a) (h2 : a < 2147483648) (h3 : -2147483648 ≤ b) (h4 : b < 2147483648) : iN a < iN b ↔ a < b := by
  rw [Int32.lt_iff_toInt_lt, iN_toInt h1 h2, iN_toInt h3 h4]
theorem iN_eq {a b : Int} (h1 : -2147483648 ≤ a) (h2 : a < 2147483648) (h3 : -2147483648 ≤ b) (h4 : b < 2147483648) : iN a = iN b ↔ a = b := by
  rw [← Int32.toInt_inj, iN_toInt h1 h2, iN_toInt h3 h4]
theorem iN_cl {a : Int} (h1 : 0 ≤ a) (h2 : a < 2147483648) : (iN a).toNatClampNeg = a.toNat := by
  show (iN a).toInt.toNat = a.toNat
  rw [iN_toInt (by omega) h2]
theorem iN_vp {a : Int} {n : Nat} (h1 : -2147483648 ≤ a) (h2 : a < 2147483648) : vp_in (iN a) n ↔ 0 ≤ a ∧ a < n := by
  rw [vp_in_iff, iN_toInt h1 h2]
theorem iN_div {a b : Int} (h1 : 0 ≤ a) (h2 : a < 2147483648) (h3 : 0 < b) (h4 : b < 2147483648) : iN a / iN b = iN (a / b) := by
  rw [← Int32.toInt_inj, Int32.toInt_div_of_ne_right _ _ (by rw [show (-1 : Int32) = iN (-1) by decide]; intro e; rw [iN_eq (by omega) h4 (by omega) (by omega)] at e; omega), iN_toInt (by omega) h2, iN_toInt (by omega) h4, Int.tdiv_eq_ediv_of_nonneg h1]
  have h5 : 0 ≤ a / b := Int.ediv_nonneg h1 (by omega)
  have h6 : a / b ≤ a := Int.ediv_le_self _ h1
  rw [iN_toInt (by omega) (by omega)]
theorem iN_bound (x : Int32) : -2147483648 ≤ x.toInt ∧ x.toInt < 2147483648 := by
  have h1 := x.le_toInt
  have h2 := x.toInt_lt
  constructor <;> omega
/-- any int, by its value -/
theorem iN_any (x : Int32) : ∃ z : Int, x = iN z ∧ -2147483648 ≤ z ∧ z < 2147483648 := ⟨x.toInt, (iN_of x).symm, iN_bound x⟩
/-- sums and counts over the first n places -/
def sumN (f : Nat → Nat) : Nat → Nat
  | 0 => 0
  | k + 1 => sumN f k + f k
def cntB (f : Nat → Bool) : Nat → Nat
  | 0 => 0
  | k + 1 => cntB f k + (if f k then 1 else 0)
theorem cntB_le (f : Nat → Bool) (n : Nat) : cntB f n ≤ n := by
  induction n with
  | zero => exact Nat.le_refl _
  | succ n ih => unfold cntB; split <;> omega
theorem cntB_congr {f g : Nat → Bool} {n : Nat} (h : ∀ k, k < n → f k = g k) : cntB f n = cntB g n := by
  induction n with
  | zero => rfl
  | succ n ih => unfold cntB; rw [ih (fun k hk => h k (by omega)), h n (by omega)]
theorem sumN_congr {f g : Nat → Nat} {n : Nat} (h : ∀ k, k < n → f k = g k) : sumN f n = sumN g n := by
  induction n with
  | zero => rfl
  | succ n ih => unfold sumN; rw [ih (fun k hk => h k (by omega)), h n (by omega)]
theorem sumN_le {f : Nat → Nat} {n c : Nat} (h : ∀ k, k < n → f k ≤ c) : sumN f n ≤ n * c := by
  induction n with
  | zero => exact Nat.le_of_eq (by simp [sumN])
  | succ n ih =>
    have := ih (fun k hk => h k (by omega))
    have := h n (by omega)
    unfold sumN
    rw [Nat.succ_mul]
    omega
/-! bits of ints that aren't negative -/
theorem iN_nI {a : Int} (h : 0 ≤ a) : iN a = nI a.toNat := by
  rw [nI_iN, Int.toNat_of_nonneg h]
theorem nI_and (a b : Nat) : nI a &&& nI b = nI (a &&& b) := by
  apply Int32.toBitVec_inj.1
  show BitVec.ofNat 32 a &&& BitVec.ofNat 32 b = BitVec.ofNat 32 (a &&& b)
  apply BitVec.eq_of_getLsbD_eq
  intro i hi
  simp [hi]
theorem nI_or (a b : Nat) : nI a ||| nI b = nI (a ||| b) := by
  apply Int32.toBitVec_inj.1
  show BitVec.ofNat 32 a ||| BitVec.ofNat 32 b = BitVec.ofNat 32 (a ||| b)
  apply BitVec.eq_of_getLsbD_eq
  intro i hi
  simp [hi]
theorem iN_and {a b : Int} (ha : 0 ≤ a) (hb : 0 ≤ b) : iN a &&& iN b = iN ((a.toNat &&& b.toNat : Nat) : Int) := by
  rw [iN_nI ha, iN_nI hb, nI_and, nI_iN]
theorem iN_or {a b : Int} (ha : 0 ≤ a) (hb : 0 ≤ b) : iN a ||| iN b = iN ((a.toNat ||| b.toNat : Nat) : Int) := by
  rw [iN_nI ha, iN_nI hb, nI_or, nI_iN]
theorem iN_sh : ∀ n, n < 32 → ((nI n &&& 31).toBitVec.smod 32).toNat = n := by decide +kernel
theorem iN_shl {a n : Int} (ha : 0 ≤ a) (hn : 0 ≤ n ∧ n < 32) (h : a * 2 ^ n.toNat < 2147483648) : iN a <<< (iN n &&& 31) = iN (a * 2 ^ n.toNat) := by
  obtain ⟨a, rfl⟩ := Int.eq_ofNat_of_zero_le ha
  obtain ⟨n, rfl⟩ := Int.eq_ofNat_of_zero_le hn.1
  rw [← nI_iN, ← nI_iN, Int.toNat_natCast]
  rw [Int.toNat_natCast] at h
  have h' : a * 2 ^ n < 2147483648 := by
    have : ((a * 2 ^ n : Nat) : Int) < 2147483648 := by rw [Int.natCast_mul, Int.natCast_pow]; exact h
    omega
  rw [pk_shlN _ n (iN_sh n (by omega)) (by omega), nI_iN, Int.natCast_mul, Int.natCast_pow]
  rfl
theorem iN_shr {a n : Int} (ha : 0 ≤ a ∧ a < 2147483648) (hn : 0 ≤ n ∧ n < 32) : iN a >>> (iN n &&& 31) = iN ((a.toNat >>> n.toNat : Nat) : Int) := by
  obtain ⟨a, rfl⟩ := Int.eq_ofNat_of_zero_le ha.1
  obtain ⟨n, rfl⟩ := Int.eq_ofNat_of_zero_le hn.1
  rw [← nI_iN, ← nI_iN, Int.toNat_natCast, Int.toNat_natCast, pk_shrN (by omega) _ n (iN_sh n (by omega)), nI_iN, Nat.shiftRight_eq_div_pow]
theorem iN_not (a : Int) : iN a ^^^ iN (-1) = iN (-a - 1) := by
  rw [show iN (-1) = (-1 : Int32) from by decide, Int32.xor_neg_one, Int32.not_eq_neg_sub, iN_neg, show (1 : Int32) = iN 1 from rfl, iN_sub]
theorem iN_andNot {a b : Int} (ha : 0 ≤ a ∧ a < 2147483648) (hb : 0 ≤ b ∧ b < 2147483648) : iN a &&& iN (-b - 1) = iN ((a.toNat ^^^ (a.toNat &&& b.toNat) : Nat) : Int) := by
  obtain ⟨a, rfl⟩ := Int.eq_ofNat_of_zero_le ha.1
  obtain ⟨b, rfl⟩ := Int.eq_ofNat_of_zero_le hb.1
  rw [← iN_not, ← nI_iN, ← nI_iN, ← nI_iN, Int.toNat_natCast, Int.toNat_natCast, show iN (-1) = (-1 : Int32) from by decide, Int32.xor_neg_one]
  apply Int32.toBitVec_inj.1
  rw [Int32.toBitVec_and, Int32.toBitVec_not]
  show BitVec.ofNat 32 a &&& ~~~BitVec.ofNat 32 b = BitVec.ofNat 32 (a ^^^ (a &&& b))
  apply BitVec.eq_of_getLsbD_eq
  intro i hi
  simp [hi]
  cases (BitVec.ofNat 32 a)[i] <;> cases (BitVec.ofNat 32 b)[i] <;> rfl
