/-! The book's numbers -/
/-- the cost out of the rows -/
def costF (rows : Nat → Nat → Int) (w : Nat) (sum : Int) : Int := if -3500 ≤ sum ∧ sum ≤ 3500 then rows w (3500 + sum).toNat else 9999
def rowsOK (rows : Nat → Nat → Int) (w : Nat) : Prop := ∀ i, i < 7001 → 0 ≤ rows w i ∧ rows w i ≤ 9999
theorem costF_in {rows : Nat → Nat → Int} {w : Nat} (h : rowsOK rows w) (sum : Int) : 0 ≤ costF rows w sum ∧ costF rows w sum ≤ 9999 := by
  unfold costF
  split
  · exact h _ (by omega)
  · omega
def hasF (rows : Nat → Nat → Int) (sum : Int) : Bool := decide (costF rows 0 sum < 9999)
def gapP (rows : Nat → Nat → Int) (mass : Int) (m : Nat) : Bool := hasF rows m || hasF rows ((m : Int) - mass) || hasF rows ((m : Int) + mass)
theorem hasF_out {rows : Nat → Nat → Int} {sum : Int} (h : 3500 < sum) : hasF rows sum = false := by
  unfold hasF costF
  rw [if_neg (by omega)]
  rfl
def ofF (f : Nat → Int) (at_ other : Int) : Int := if 0 ≤ at_ ∧ at_ < 7001 then f at_.toNat else other
/-- the costs of the d last of n weights -/
def bstC (f : Int → Int) (s : Int) : Int := if -3500 ≤ s ∧ s ≤ 3500 then f s else 9999
def bst (ms : Nat → Int) (n : Nat) : Nat → Int → Int
  | 0, s => if s = 0 then 0 else 9999
  | d + 1, s => min (bst ms n d s) (min (16 + bstC (bst ms n d) (s - ms (n - (d + 1)))) (17 + bstC (bst ms n d) (s + ms (n - (d + 1)))))
theorem ofF_congr {f g : Nat → Int} (h : ∀ i, i < 7001 → f i = g i) (a o : Int) : ofF f a o = ofF g a o := by
  unfold ofF
  split
  · exact h _ (by omega)
  · rfl
theorem ofF_in {f : Nat → Int} {c : Int} (h : ∀ i, i < 7001 → 0 ≤ f i ∧ f i ≤ c) (a : Int) {o : Int} (ho : 0 ≤ o ∧ o ≤ c) : 0 ≤ ofF f a o ∧ ofF f a o ≤ c := by
  unfold ofF
  split
  · exact h _ (by omega)
  · exact ho
theorem cpy_all {f g : Nat → Int} : ∀ i, i < 7001 → va_cpy f g 0 0 7001 i = f i := fun i hi => by
  unfold va_cpy
  rw [if_pos (by omega), show 0 + (i - 0) = i by omega]
theorem bst_in (ms : Nat → Int) (n : Nat) : ∀ (d : Nat) (s : Int), 0 ≤ bst ms n d s ∧ bst ms n d s ≤ 9999
  | 0, s => by unfold bst; split <;> omega
  | d + 1, s => by
    have h0 := bst_in ms n d s
    have h1 : ∀ x, 0 ≤ bstC (bst ms n d) x := fun x => by
      unfold bstC
      split
      · exact (bst_in ms n d x).1
      · omega
    have a := h1 (s - ms (n - (d + 1)))
    have b := h1 (s + ms (n - (d + 1)))
    unfold bst
    omega
theorem bstC_in (ms : Nat → Int) (n d : Nat) (s : Int) : 0 ≤ bstC (bst ms n d) s ∧ bstC (bst ms n d) s ≤ 9999 := by
  unfold bstC
  split
  · exact bst_in ms n d s
  · omega
theorem costF_bst {rows : Nat → Nat → Int} {ms : Nat → Int} {n d w : Nat} (h : ∀ i, i < 7001 → rows w i = bst ms n d ((i : Int) - 3500)) (s : Int) : costF rows w s = bstC (bst ms n d) s := by
  unfold costF bstC
  by_cases g : -3500 ≤ s ∧ s ≤ 3500
  · rw [if_pos g, if_pos g, h _ (by omega)]
    congr 1
    omega
  · rw [if_neg g, if_neg g]
/-- the ways and the least errors by the first j weights, by place (3500 + sum) -/
def wyF (ms : Nat → Int) : Nat → (Nat → Int)
  | 0 => fun i => if i = 3500 then 1 else 0
  | j + 1 => fun i => wyF ms j i + (ofF (wyF ms j) ((i : Int) - ms j) 0 + ofF (wyF ms j) ((i : Int) + ms j) 0)
def erF (ms es : Nat → Int) : Nat → (Nat → Int)
  | 0 => fun i => if i = 3500 then 0 else 9999
  | j + 1 => fun i => min (erF ms es j i) (min 9999 (es j + min (ofF (erF ms es j) ((i : Int) - ms j) 9999) (ofF (erF ms es j) ((i : Int) + ms j) 9999)))
theorem wyF_in (ms : Nat → Int) : ∀ j i, 0 ≤ wyF ms j i ∧ wyF ms j i ≤ 3 ^ j
  | 0, i => by show 0 ≤ (if i = 3500 then (1 : Int) else 0) ∧ (if i = 3500 then (1 : Int) else 0) ≤ 3 ^ 0; split <;> decide
  | j + 1, i => by
    have h := wyF_in ms j
    have p : (0 : Int) ≤ 3 ^ j := Int.pow_nonneg (by decide)
    have h1 := ofF_in (f := wyF ms j) (fun i _ => h i) ((i : Int) - ms j) (o := 0) ⟨by omega, p⟩
    have h2 := ofF_in (f := wyF ms j) (fun i _ => h i) ((i : Int) + ms j) (o := 0) ⟨by omega, p⟩
    have h3 := h i
    show 0 ≤ wyF ms j i + _ ∧ wyF ms j i + _ ≤ 3 ^ (j + 1)
    rw [Int.pow_succ]
    omega
theorem erF_in {ms es : Nat → Int} : ∀ j, (∀ k, k < j → 0 ≤ es k) → ∀ i, 0 ≤ erF ms es j i ∧ erF ms es j i ≤ 9999
  | 0, _, i => by show 0 ≤ (if i = 3500 then (0 : Int) else 9999) ∧ (if i = 3500 then (0 : Int) else 9999) ≤ 9999; split <;> decide
  | j + 1, he, i => by
    have h := erF_in (ms := ms) j (fun k hk => he k (by omega))
    have h1 := ofF_in (f := erF ms es j) (fun i _ => h i) ((i : Int) - ms j) (o := 9999) (by omega)
    have h2 := ofF_in (f := erF ms es j) (fun i _ => h i) ((i : Int) + ms j) (o := 9999) (by omega)
    have h3 := h i
    have h4 := he j (by omega)
    show 0 ≤ min (erF ms es j i) _ ∧ min (erF ms es j i) _ ≤ 9999
    omega
def BookOK (n : Nat) (ms es ways erro : Nat → Int) (rows : Nat → Nat → Int) : Prop := (∀ i, i < 7001 → ways i = wyF ms n i ∧ erro i = erF ms es n i) ∧ (∀ w, w ≤ n → ∀ i, i < 7001 → rows w i = bst ms n (n - w) ((i : Int) - 3500))
