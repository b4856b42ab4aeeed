/-! Coins: counts of kinds, what is behind a weighing, the search for a good weighing -/
def kvc (pr : Nat → Int) (set : Nat) (v : Int) (n : Nat) : Nat := cntB (fun i => set.testBit i && decide (pr i = v)) n
def kinds (pr : Nat → Int) (set n : Nat) : Nat := 100 * kvc pr set 3 n + 10 * kvc pr set 1 n + kvc pr set 2 n
def prOK (pr : Nat → Int) : Prop := ∀ i, i < 9 → 0 ≤ pr i ∧ pr i ≤ 3
theorem kvc_le (pr : Nat → Int) (set : Nat) (v : Int) (n : Nat) : kvc pr set v n ≤ n := cntB_le _ _
theorem kvc_sum (pr : Nat → Int) (set : Nat) : ∀ n, kvc pr set 3 n + kvc pr set 1 n + kvc pr set 2 n ≤ n
  | 0 => Nat.le_refl _
  | n + 1 => by
    have ih := kvc_sum pr set n
    unfold kvc at *
    simp only [cntB]
    by_cases hb : set.testBit n = true
    case neg => simp [hb]; omega
    case pos =>
      simp only [hb, Bool.true_and]
      by_cases h1 : pr n = 3
      · simp [h1]; omega
      · by_cases h2 : pr n = 1
        · simp [h2]; omega
        · by_cases h3 : pr n = 2
          · simp [h3]; omega
          · simp [h1, h2, h3]; omega
theorem kinds_dig (pr : Nat → Int) (set n : Nat) (h : n ≤ 9) : kinds pr set n < 1000 ∧ kinds pr set n / 100 = kvc pr set 3 n ∧ kinds pr set n / 10 % 10 = kvc pr set 1 n ∧ kinds pr set n % 10 = kvc pr set 2 n ∧ dsum (kinds pr set n) ≤ n := by
  have hs := kvc_sum pr set n
  have d := dig3 (B := kvc pr set 3 n) (H := kvc pr set 1 n) (L := kvc pr set 2 n) (by omega) (by omega)
  have e : kinds pr set n = 100 * kvc pr set 3 n + 10 * kvc pr set 1 n + kvc pr set 2 n := rfl
  unfold dsum
  rw [e, d.1, d.2.1, d.2.2]
  omega
theorem kinds_succ (pr : Nat → Int) (set n : Nat) : kinds pr set (n + 1) = kinds pr set n + if set.testBit n then (if pr n = 3 then 100 else if pr n = 1 then 10 else if pr n = 2 then 1 else 0) else 0 := by
  unfold kinds kvc
  simp only [cntB]
  by_cases hb : set.testBit n = true
  case neg => simp [hb]
  case pos =>
    simp only [hb, Bool.true_and]
    by_cases h1 : pr n = 3
    · simp [h1]; omega
    · by_cases h2 : pr n = 1
      · simp [h2]; omega
      · by_cases h3 : pr n = 2
        · simp [h3]; try omega
        · simp [h1, h2, h3]
theorem cntB_two {f g h : Nat → Bool} : ∀ n, (∀ i, i < n → f i = true → g i = true → False) → (∀ i, i < n → f i = true → h i = true) → (∀ i, i < n → g i = true → h i = true) → cntB f n + cntB g n ≤ cntB h n
  | 0, _, _, _ => Nat.le_refl _
  | n + 1, h1, h2, h3 => by
    have ih := cntB_two n (fun i hi => h1 i (by omega)) (fun i hi => h2 i (by omega)) (fun i hi => h3 i (by omega))
    have a1 := h1 n (by omega)
    have a2 := h2 n (by omega)
    have a3 := h3 n (by omega)
    simp only [cntB]
    cases hf : f n <;> cases hg : g n <;> cases hh : h n <;> simp_all <;> omega
theorem all_bit (cn i : Nat) : (2 ^ cn - 1).testBit i = decide (i < cn) := Nat.testBit_two_pow_sub_one cn i
theorem kvc_two (pr : Nat → Int) {x y : Nat} (v : Int) (n : Nat) (hd : x &&& y = 0) : kvc pr x v n + kvc pr y v n ≤ kvc pr (2 ^ n - 1) v n := by
  refine cntB_two n (fun i hi h1 h2 => ?_) (fun i hi h1 => ?_) (fun i hi h1 => ?_)
  · simp only [Bool.and_eq_true] at h1 h2
    have := congrArg (fun z => Nat.testBit z i) hd
    simp only [Nat.testBit_and, h1.1, h2.1, Nat.zero_testBit] at this
    exact absurd this (by decide)
  · simp only [Bool.and_eq_true] at h1 ⊢
    exact ⟨by rw [all_bit]; exact decide_eq_true hi, h1.2⟩
  · simp only [Bool.and_eq_true] at h1 ⊢
    exact ⟨by rw [all_bit]; exact decide_eq_true hi, h1.2⟩
def pm1 (x : Int) : Nat := x.toNat % 2 + x.toNat / 2
def pmN (pr : Nat → Int) (n : Nat) : Nat := sumN (fun i => pm1 (pr i)) n
theorem pmN_le {pr : Nat → Int} (h : prOK pr) : ∀ n, n ≤ 9 → pmN pr n ≤ n * 2 := fun n hn => sumN_le (c := 2) (fun k hk => by have := h k (by omega); unfold pm1; omega)
def isWF (cn : Nat) (left right : Int) : Bool := decide (0 < left ∧ 0 < right ∧ (left.toNat ||| right.toNat) ≤ 2 ^ cn - 1 ∧ left.toNat &&& right.toNat = 0 ∧ bits9 left.toNat = bits9 right.toNat)
def bhd (x : Int) (a b : Bool) (o : Int) : Int := if a = false ∧ b = false then (if o = 0 then x else 0) else if o = 0 then 0 else if a = decide (o = 1) then ((x.toNat &&& 1 : Nat) : Int) else ((x.toNat &&& 2 : Nat) : Int)
theorem bhd_in {x : Int} (h : 0 ≤ x ∧ x ≤ 3) (a b : Bool) (o : Int) : 0 ≤ bhd x a b o ∧ bhd x a b o ≤ 3 := by
  have h1 : x.toNat &&& 1 ≤ 3 := Nat.le_trans Nat.and_le_right (by decide)
  have h2 : x.toNat &&& 2 ≤ 3 := Nat.le_trans Nat.and_le_right (by decide)
  unfold bhd
  repeat' split
  all_goals omega
def bhdF (pr : Nat → Int) (left right o : Int) : Nat → Int := fun i => bhd (pr i) (left.toNat.testBit i) (right.toNat.testBit i) o
def bhdP (pr : Nat → Int) (left right o : Int) (n : Nat) : Nat → Int := fun i => if i < n then bhdF pr left right o i else pr i
theorem bhdF_in {pr : Nat → Int} (h : prOK pr) (left right o : Int) : ∀ i, i < 9 → 0 ≤ bhdF pr left right o i ∧ bhdF pr left right o i ≤ 3 := fun i hi => bhd_in (h i hi) _ _ _
theorem bhdP_OK {pr : Nat → Int} (h : prOK pr) (left right o : Int) (n : Nat) : prOK (bhdP pr left right o n) := fun i hi => by
  unfold bhdP
  split
  · exact bhd_in (h i hi) _ _ _
  · exact h i hi
def doesF (f pr : Nat → Int) (cn left right : Nat) : Bool := decide (0 < f (kinds pr (2 ^ cn - 1) cn)) && decide (worstLR f (kvc pr (2 ^ cn - 1) 3 cn) (kvc pr (2 ^ cn - 1) 1 cn) (kvc pr (2 ^ cn - 1) 2 cn) (kinds pr left cn) (kinds pr right cn) < f (kinds pr (2 ^ cn - 1) cn))
/-- the first of the values up to n -/
def firstO {α : Type} (f : Nat → Option α) : Nat → Option α
  | 0 => none
  | n + 1 => match firstO f n with
    | some x => some x
    | none => f n
theorem firstO_some {α : Type} {f : Nat → Option α} {x : α} {j : Nat} (h0 : firstO f j = none) (hj : f j = some x) : ∀ n, j < n → firstO f n = some x
  | 0, h => absurd h (Nat.not_lt_zero _)
  | n + 1, h => by
    rcases Nat.lt_or_ge j n with g | g
    · show (match firstO f n with | some x => some x | none => f n) = _
      rw [firstO_some h0 hj n g]
    · have e : j = n := by omega
      subst e
      show (match firstO f j with | some x => some x | none => f j) = _
      rw [h0]
      exact hj
theorem firstO_next {α : Type} {f : Nat → Option α} {j : Nat} (h0 : firstO f j = none) (hj : f j = none) : firstO f (j + 1) = none := by
  show (match firstO f j with | some x => some x | none => f j) = _
  rw [h0]
  exact hj
def gdR (P : Nat → Nat → Bool) (left : Nat) : Nat → Option (Nat × Nat) := fun right => if right ≠ 0 ∧ P left right = true then some (left, right) else none
def gdL (P : Nat → Nat → Bool) (cn size : Nat) : Nat → Option (Nat × Nat) := fun left => if left ≠ 0 ∧ bits9 left = size then firstO (gdR P left) (2 ^ cn) else none
def gdS (P : Nat → Nat → Bool) (cn : Nat) : Nat → Option (Nat × Nat) := fun size => if size ≠ 0 then firstO (gdL P cn size) (2 ^ cn) else none
def goodF (P : Nat → Nat → Bool) (cn : Nat) : Option (Nat × Nat) := firstO (gdS P cn) (cn / 2 + 1)
def goodP (f pr : Nat → Int) (cn : Nat) : Nat → Nat → Bool := fun left right => isWF cn left right && doesF f pr cn left right
theorem firstO_of {α : Type} {f : Nat → Option α} {x : α} : ∀ {n : Nat}, firstO f n = some x → ∃ j, j < n ∧ f j = some x
  | 0, h => nomatch h
  | n + 1, h => by
    have h' : (match firstO f n with | some x => some x | none => f n) = some x := h
    cases e : firstO f n with
    | none => rw [e] at h'; exact ⟨n, by omega, h'⟩
    | some y =>
      rw [e] at h'
      obtain ⟨j, hj, e2⟩ := firstO_of (n := n) e
      exact ⟨j, by omega, e2.trans h'⟩
theorem goodF_lt {P : Nat → Nat → Bool} {cn left right : Nat} (h : goodF P cn = some (left, right)) : left < 2 ^ cn ∧ right < 2 ^ cn ∧ left ≠ 0 ∧ right ≠ 0 ∧ P left right = true := by
  obtain ⟨size, h1, h2⟩ := firstO_of h
  unfold gdS at h2
  split at h2
  · obtain ⟨x, h3, h4⟩ := firstO_of h2
    unfold gdL at h4
    split at h4
    · rename_i hx
      obtain ⟨y, h5, h6⟩ := firstO_of h4
      unfold gdR at h6
      split at h6
      · rename_i hy
        cases h6
        exact ⟨h3, h5, hx.1, hy.1, hy.2⟩
      · exact nomatch h6
    · exact nomatch h4
  · exact nomatch h2
theorem or_le_all {cn x y : Nat} (hx : x ≤ 2 ^ cn - 1) (hy : y ≤ 2 ^ cn - 1) : x ||| y ≤ 2 ^ cn - 1 := by
  have h := Nat.one_le_two_pow (n := cn)
  have := Nat.or_lt_two_pow (x := x) (y := y) (n := cn) (by omega) (by omega)
  omega
theorem or_le_left {x y n : Nat} (h : x ||| y ≤ n) : x ≤ n := Nat.le_trans Nat.left_le_or h
theorem or_le_right {x y n : Nat} (h : x ||| y ≤ n) : y ≤ n := Nat.le_trans Nat.right_le_or h
theorem pow2_9 {n : Nat} (h : n ≤ 9) : 1 ≤ 2 ^ n ∧ 2 ^ n ≤ 512 := by
  refine ⟨Nat.one_le_two_pow, ?_⟩
  have := Nat.pow_le_pow_right (n := 2) (by decide) h
  omega
