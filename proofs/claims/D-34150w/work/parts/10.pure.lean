/-! PURE: placings of weights, as numbers in base three -/
/-- the place of a weight in the placing number p, j places from the last weight -/
def trit (p j : Nat) : Int := 1 - ((p / 3 ^ j % 3 : Nat) : Int)
/-- what the last j of n weights weigh in the placing p -/
def psum (ms : Nat → Int) (n p : Nat) : Nat → Int
  | 0 => 0
  | j + 1 => psum ms n p j + trit p j * ms (n - 1 - j)
theorem trit_in (p j : Nat) : trit p j = -1 ∨ trit p j = 0 ∨ trit p j = 1 := by
  unfold trit
  have := Nat.mod_lt (p / 3 ^ j) (show 3 > 0 by decide)
  omega
def msOK (n : Nat) (ms : Nat → Int) : Prop := ∀ k, k < n → 1 ≤ ms k ∧ ms k ≤ 500
def esOK (n : Nat) (es : Nat → Int) : Prop := ∀ k, k < n → 0 ≤ es k ∧ es k ≤ 9
theorem psum_le {ms : Nat → Int} {n p : Nat} (h : msOK n ms) : ∀ j, j ≤ n → -(500 * (j : Int)) ≤ psum ms n p j ∧ psum ms n p j ≤ 500 * (j : Int) := by
  intro j
  induction j with
  | zero => intro _; simp [psum]
  | succ j ih =>
    intro hj
    have h1 := ih (by omega)
    have h2 := h (n - 1 - j) (by omega)
    unfold psum
    rcases trit_in p j with e | e | e <;> rw [e] <;> constructor <;> omega
/-- the placing p of n weights, laid over what was there -/
def plac (n p : Nat) (old : Nat → Int) : Nat → Int := fun i => if i < n then trit p (n - 1 - i) else old i
def psize (n p : Nat) : Nat := cntB (fun k => !decide (trit p (n - 1 - k) = 0)) n
def pleft (n p : Nat) : Nat := cntB (fun k => decide (trit p (n - 1 - k) = -1)) n
def sumZ (f : Nat → Int) : Nat → Int
  | 0 => 0
  | k + 1 => sumZ f k + f k
def perr (es : Nat → Int) (n p : Nat) : Int := sumZ (fun k => if trit p (n - 1 - k) = 0 then 0 else es k) n
theorem sumZ_congr {f g : Nat → Int} {n : Nat} (h : ∀ k, k < n → f k = g k) : sumZ f n = sumZ g n := by
  induction n with
  | zero => rfl
  | succ n ih => unfold sumZ; rw [ih (fun k hk => h k (by omega)), h n (by omega)]
theorem sumZ_in {f : Nat → Int} {n : Nat} {c : Int} (h : ∀ k, k < n → 0 ≤ f k ∧ f k ≤ c) : 0 ≤ sumZ f n ∧ sumZ f n ≤ n * c := by
  induction n with
  | zero => simp [sumZ]
  | succ n ih =>
    have h1 := ih (fun k hk => h k (by omega))
    have h2 := h n (by omega)
    unfold sumZ
    have e : ((n + 1 : Nat) : Int) * c = n * c + c := by rw [Int.natCast_add, Int.add_mul]; simp
    rw [e]
    omega
def anyB (f : Nat → Bool) : Nat → Bool
  | 0 => false
  | k + 1 => anyB f k || f k
def allB (f : Nat → Bool) : Nat → Bool
  | 0 => true
  | k + 1 => allB f k && f k
theorem anyB_iff {f : Nat → Bool} {n : Nat} : anyB f n = true ↔ ∃ k, k < n ∧ f k = true := by
  induction n with
  | zero => simp [anyB]
  | succ n ih =>
    unfold anyB
    rw [Bool.or_eq_true, ih]
    constructor
    · rintro (⟨k, h1, h2⟩ | h)
      · exact ⟨k, by omega, h2⟩
      · exact ⟨n, by omega, h⟩
    · rintro ⟨k, h1, h2⟩
      rcases Nat.lt_or_ge k n with g | g
      · exact Or.inl ⟨k, g, h2⟩
      · exact Or.inr (by rw [show n = k by omega]; exact h2)
theorem allB_iff {f : Nat → Bool} {n : Nat} : allB f n = true ↔ ∀ k, k < n → f k = true := by
  induction n with
  | zero => simp [allB]
  | succ n ih =>
    unfold allB
    rw [Bool.and_eq_true, ih]
    constructor
    · rintro ⟨h1, h2⟩ k hk
      rcases Nat.lt_or_ge k n with g | g
      · exact h1 k g
      · rw [show k = n by omega]; exact h2
    · intro h
      exact ⟨fun k hk => h k (by omega), h n (by omega)⟩
theorem pow3_7 {n : Nat} (h : n ≤ 7) : 1 ≤ 3 ^ n ∧ 3 ^ n ≤ 2187 := by
  have : ∀ m, m ≤ 7 → 1 ≤ 3 ^ m ∧ 3 ^ m ≤ 2187 := by decide
  exact this n h
/-- how many placings weigh a mass -/
def pcnt (ms : Nat → Int) (n : Nat) (mass : Int) (N : Nat) : Nat := cntB (fun p => decide (psum ms n p n = mass)) N
theorem plac_at {n p k : Nat} {old : Nat → Int} (h : k < n) : plac n p old k = trit p (n - 1 - k) := if_pos h
theorem plac_in {n p : Nat} {old : Nat → Int} : ∀ k, k < n → -1 ≤ plac n p old k ∧ plac n p old k ≤ 1 := by
  intro k hk
  rw [plac_at hk]
  rcases trit_in p (n - 1 - k) with e | e | e <;> omega
theorem psize_plac {n p : Nat} {old : Nat → Int} : cntB (fun k => !decide (plac n p old k = 0)) n = psize n p := cntB_congr (fun k hk => by rw [plac_at hk])
theorem pleft_plac {n p : Nat} {old : Nat → Int} : cntB (fun k => decide (plac n p old k = -1)) n = pleft n p := cntB_congr (fun k hk => by rw [plac_at hk])
theorem perr_plac {n p : Nat} {es old : Nat → Int} : sumZ (fun k => if plac n p old k = 0 then 0 else es k) n = perr es n p := sumZ_congr (fun k hk => by rw [plac_at hk])
theorem psize_le (n p : Nat) : psize n p ≤ n := cntB_le _ _
theorem pleft_le (n p : Nat) : pleft n p ≤ n := cntB_le _ _
theorem perr_in {es : Nat → Int} {n p : Nat} (h : esOK n es) : 0 ≤ perr es n p ∧ perr es n p ≤ n * 9 := by
  refine sumZ_in (fun k hk => ?_)
  have := h k hk

  split <;> omega
theorem psum_in {ms : Nat → Int} {n p : Nat} (h : msOK n ms) (hn : n ≤ 7) : -3500 ≤ psum ms n p n ∧ psum ms n p n ≤ 3500 := by
  have := psum_le (p := p) h n (Nat.le_refl _)
  omega
/-- the best placing among the first ones: the fewest weights, then the fewest to the left, then the first -/
def pbest (ms : Nat → Int) (n : Nat) (mass : Int) : Nat → Option Nat
  | 0 => none
  | p + 1 => match pbest ms n mass p with
    | none => if psum ms n p n = mass then some p else none
    | some q => if psum ms n p n = mass ∧ (psize n p < psize n q ∨ (psize n p = psize n q ∧ pleft n p < pleft n q)) then some p else some q
def pbsize (n : Nat) : Option Nat → Int
  | none => -1
  | some q => psize n q
def pbleft (n : Nat) : Option Nat → Int
  | none => 0
  | some q => pleft n q
def pbplac (n : Nat) (old : Nat → Int) : Option Nat → (Nat → Int)
  | none => old
  | some q => plac n q old
/-- the least error of a placing for a mass, among the first ones; -1 for none -/
def plerr (ms es : Nat → Int) (n : Nat) (mass : Int) : Nat → Int
  | 0 => -1
  | p + 1 => if psum ms n p n = mass ∧ (plerr ms es n mass p = -1 ∨ perr es n p < plerr ms es n mass p) then perr es n p else plerr ms es n mass p
theorem plerr_in {ms es : Nat → Int} {n : Nat} {mass : Int} (h : esOK n es) : ∀ p, -1 ≤ plerr ms es n mass p ∧ plerr ms es n mass p ≤ n * 9 := by
  intro p
  induction p with
  | zero => unfold plerr; omega
  | succ p ih =>
    unfold plerr
    have := perr_in (p := p) h
    split <;> omega
theorem plac_plac {n p q : Nat} {old : Nat → Int} : plac n p (plac n q old) = plac n p old := by
  funext i
  unfold plac
  split
  · rfl
  · rfl
theorem pbplac_out {n : Nat} {old : Nat → Int} (o : Option Nat) {i : Nat} (h : n ≤ i) : pbplac n old o i = old i := by
  cases o with
  | none => rfl
  | some q => exact if_neg (by omega)
theorem pbest_in {ms : Nat → Int} {n : Nat} {mass : Int} : ∀ (p q : Nat), pbest ms n mass p = some q → q < p ∧ psum ms n q n = mass := by
  intro p
  induction p with
  | zero => intro q h; cases h
  | succ p ih =>
    intro q h
    unfold pbest at h
    split at h
    · split at h
      · rename_i h2
        cases h
        exact ⟨by omega, h2⟩
      · cases h
    · rename_i q0 h0
      split at h
      · rename_i h2
        cases h
        exact ⟨by omega, h2.1⟩
      · cases h
        have := ih _ h0
        exact ⟨by omega, this.2⟩
/-- some of the weights alone -/
def allow (n p set : Nat) (k : Nat) : Bool := allB (fun k => decide (trit p (n - 1 - k) = 0) || set.testBit k) k
/-- whether some of the first N placings of weights of a set weighs x -/
def wsum (ms : Nat → Int) (n set : Nat) (N : Nat) (x : Int) : Bool := anyB (fun p => decide (psum ms n p n = x) && allow n p set n) N
def canW (w : Int → Bool) (mass more : Int) : Bool := w mass || (decide (0 < more) && ((decide (0 ≤ mass + more ∧ mass + more ≤ 4000) && w (mass + more)) || w (mass - more)))
/-- the first number from m on, within f steps, that has not P -/
def firstF (P : Nat → Bool) : Nat → Nat → Nat
  | 0, m => m
  | f + 1, m => if P m then firstF P f (m + 1) else m
theorem firstF_congr {P R : Nat → Bool} : ∀ (f m : Nat), (∀ k, m ≤ k → k < m + f → P k = R k) → firstF P f m = firstF R f m := by
  intro f
  induction f with
  | zero => intro m _; rfl
  | succ f ih =>
    intro m h
    unfold firstF
    rw [h m (Nat.le_refl _) (by omega), ih (m + 1) (fun k h1 h2 => h k (by omega) (by omega))]
theorem firstF_in {P : Nat → Bool} : ∀ (f m : Nat), m ≤ firstF P f m ∧ firstF P f m ≤ m + f := by
  intro f
  induction f with
  | zero => intro m; exact ⟨Nat.le_refl _, Nat.le_refl _⟩
  | succ f ih =>
    intro m
    unfold firstF
    have := ih (m + 1)
    split <;> omega
/-- the least mass that can't be weighed with a set, perhaps with a weight more -/
def pgap (ms : Nat → Int) (n set : Nat) (more : Int) : Nat := firstF (fun m => canW (wsum ms n set (3 ^ n)) m more) 4000 1
def bits9 (set : Nat) : Nat := cntB (fun k => set.testBit k) 9
def pneed (ms : Nat → Int) (n : Nat) (mass : Int) : Nat → Int
  | 0 => -1
  | s + 1 => if (pneed ms n mass s = -1 ∨ bits9 s < bits9 (pneed ms n mass s).toNat) ∧ mass < (pgap ms n s 0 : Nat) then (s : Int) else pneed ms n mass s
theorem pneed_in {ms : Nat → Int} {n : Nat} {mass : Int} : ∀ s : Nat, -1 ≤ pneed ms n mass s ∧ pneed ms n mass s < s := by
  intro s
  induction s with
  | zero => unfold pneed; omega
  | succ s ih => unfold pneed; split <;> omega
/-- the greatest gap with one of the first masses more, and the first mass that gives it -/
def pmore (ms : Nat → Int) (n : Nat) : Nat → Int × Int
  | 0 => (0, 0)
  | k + 1 => if (pmore ms n k).1 < (pgap ms n (2 ^ n - 1) ((k + 1 : Nat) : Int) : Nat) then (((pgap ms n (2 ^ n - 1) ((k + 1 : Nat) : Int) : Nat) : Int), ((k + 1 : Nat) : Int)) else pmore ms n k
theorem pmore_in {ms : Nat → Int} {n : Nat} : ∀ k : Nat, 0 ≤ (pmore ms n k).1 ∧ (pmore ms n k).1 ≤ 4001 := by
  intro k
  induction k with
  | zero => exact ⟨Int.le_refl _, by unfold pmore; omega⟩
  | succ k ih =>
    unfold pmore
    have := firstF_in (P := fun m => canW (wsum ms n (2 ^ n - 1) (3 ^ n)) m ((k + 1 : Nat) : Int)) 4000 1
    split
    · dsimp only [pgap]; omega
    · exact ih
theorem pow2_7 {n : Nat} (h : n ≤ 7) : 1 ≤ 2 ^ n ∧ 2 ^ n ≤ 128 := by
  have : ∀ m, m ≤ 7 → 1 ≤ 2 ^ m ∧ 2 ^ m ≤ 128 := by decide
  exact this n h
/-- what an array of 8001 booleans says of sums -/
def wOK (ms : Nat → Int) (n set N : Nat) (wg : Nat → Bool) : Prop := ∀ i : Nat, i < 8001 → wg i = wsum ms n set N ((i : Int) - 4000)
theorem wOK_at {ms : Nat → Int} {n set N : Nat} {wg : Nat → Bool} (h : wOK ms n set N wg) {x : Int} (h1 : -4000 ≤ x) (h2 : x ≤ 4000) : wg (4000 + x).toNat = wsum ms n set N x := by
  rw [h _ (by omega), show (((4000 + x).toNat : Nat) : Int) - 4000 = x by omega]
theorem wsum_succ {ms : Nat → Int} {n set j : Nat} {x : Int} : wsum ms n set (j + 1) x = (wsum ms n set j x || (decide (psum ms n j n = x) && allow n j set n)) := rfl
theorem allow_succ {n p set i : Nat} : allow n p set (i + 1) = (allow n p set i && (decide (trit p (n - 1 - i) = 0) || set.testBit i)) := rfl
theorem canW_congr {w v : Int → Bool} {mass more : Int} (h1 : 1 ≤ mass ∧ mass ≤ 4000) (h2 : 0 ≤ more ∧ more ≤ 500) (h : ∀ x : Int, -4000 ≤ x → x ≤ 4000 → w x = v x) : canW w mass more = canW v mass more := by
  unfold canW
  rw [h mass (by omega) (by omega), h (mass - more) (by omega) (by omega)]
  by_cases g : 0 ≤ mass + more ∧ mass + more ≤ 4000
  · rw [h (mass + more) (by omega) (by omega)]
  · rw [decide_eq_false g]; rfl
