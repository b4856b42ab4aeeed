/-! PURE: coins by their kinds, and how many weighings are needed -/
def lg3 (p : Nat) : Nat := if p ≤ 1 then 0 else if p ≤ 3 then 1 else if p ≤ 9 then 2 else 3
/-- how many weighings are needed among cn coins: b that may be both, h heavier, l lighter alone -/
def ND (cn b h l : Nat) : Nat := if (cn = 4 ∧ b = 4) ∨ (cn = 5 ∧ b = 4 ∧ h + l = 1) then 3 else lg3 (2 * b + h + l)
theorem ND_le (cn b h l : Nat) : ND cn b h l ≤ 3 := by
  unfold ND lg3
  repeat' split
  all_goals omega
def dsum (x : Nat) : Nat := x / 100 + x / 10 % 10 + x % 10
def vl (cn x : Nat) : Prop := 1 ≤ x ∧ dsum x ≤ cn
def ndv (cn x : Nat) : Nat := ND cn (x / 100) (x / 10 % 10) (x % 10)
def fitsN (x b h l : Nat) : Bool := decide (x / 100 ≤ b ∧ x / 10 % 10 ≤ h ∧ x % 10 ≤ l)
def okLR (g b h l x y : Nat) : Bool := decide (x / 100 + y / 100 ≤ b ∧ x / 10 % 10 + y / 10 % 10 ≤ h ∧ x % 10 + y % 10 ≤ l ∧ dsum x ≤ dsum y + g ∧ dsum y ≤ dsum x + g ∧ 0 < dsum x + dsum y)
def nofN (f : Nat → Int) (b h l : Nat) : Int := if 2 * b + h + l = 0 then 0 else f (100 * b + 10 * h + l)
def mx (a b : Int) : Int := if a < b then b else a
theorem mx_lt {a b c : Int} : mx a b < c ↔ a < c ∧ b < c := by unfold mx; split <;> omega
def worstLR (f : Nat → Int) (b h l x y : Nat) : Int := mx (mx (nofN f 0 (y / 100 + y / 10 % 10) (x / 100 + x % 10)) (nofN f (b - x / 100 - y / 100) (h - x / 10 % 10 - y / 10 % 10) (l - x % 10 - y % 10))) (nofN f 0 (x / 100 + x / 10 % 10) (y / 100 + y % 10))
def canDoF (f : Nat → Int) (g b h l : Nat) (need : Int) : Bool := anyB (fun x => fitsN x b h l && anyB (fun y => okLR g b h l x y && decide (worstLR f b h l x y < need)) (x + 1)) 1000
/-- an outcome that needs fewer than v -/
def outN (cn v b h l : Nat) : Bool := decide (2 * b + h + l = 0 ∨ ND cn b h l < v)
def allO (cn v b h l bl hl ll br hr lr : Nat) : Bool := outN cn v 0 (br + hr) (bl + ll) && outN cn v (b - bl - br) (h - hl - hr) (l - ll - lr) && outN cn v 0 (bl + hl) (br + lr)
def okD (g bl hl ll br hr lr : Nat) : Bool := decide (bl + hl + ll ≤ br + hr + lr + g ∧ br + hr + lr ≤ bl + hl + ll + g ∧ 0 < bl + hl + ll + br + hr + lr)
def chkA (cn b h l : Nat) : Bool := decide (2 * b + h + l ≤ 1) || (List.range (b + 1)).any fun bl => (List.range (h + 1)).any fun hl => (List.range (l + 1)).any fun ll => (List.range (b - bl + 1)).any fun br => (List.range (h - hl + 1)).any fun hr => (List.range (l - ll + 1)).any fun lr => Nat.ble (100 * br + 10 * hr + lr) (100 * bl + 10 * hl + ll) && okD (cn - b - h - l) bl hl ll br hr lr && allO cn (ND cn b h l) b h l bl hl ll br hr lr
def chkB (cn b h l : Nat) : Bool := (List.range (b + 1)).all fun bl => (List.range (h + 1)).all fun hl => (List.range (l + 1)).all fun ll => (List.range (b - bl + 1)).all fun br => (List.range (h - hl + 1)).all fun hr => (List.range (l - ll + 1)).all fun lr => !(okD (cn - b - h - l) bl hl ll br hr lr && allO cn (ND cn b h l - 1) b h l bl hl ll br hr lr)
def chkAll (ck : Nat → Nat → Nat → Nat → Bool) (cn : Nat) : Bool := (List.range (cn + 1)).all fun b => (List.range (cn - b + 1)).all fun h => (List.range (cn - b - h + 1)).all fun l => ck cn b h l
theorem chkAll_at {ck : Nat → Nat → Nat → Nat → Bool} {cn b h l : Nat} (hc : chkAll ck cn = true) (hs : b + h + l ≤ cn) : ck cn b h l = true := by
  unfold chkAll at hc
  simp only [List.all_eq_true, List.mem_range] at hc
  exact hc b (by omega) h (by omega) l (by omega)
set_option maxRecDepth 100000 in
theorem chkA_all : ∀ cn : Nat, 3 ≤ cn → cn ≤ 9 → chkAll chkA cn = true := by
  have h : ((List.range 7).all fun i => chkAll chkA (i + 3)) = true := by decide +kernel
  simp only [List.all_eq_true, List.mem_range] at h
  intro cn h1 h2
  have := h (cn - 3) (by omega)
  rwa [show cn - 3 + 3 = cn by omega] at this
set_option maxRecDepth 100000 in
theorem chkB_all : ∀ cn : Nat, 3 ≤ cn → cn ≤ 9 → chkAll chkB cn = true := by
  have h : ((List.range 7).all fun i => chkAll chkB (i + 3)) = true := by decide +kernel
  simp only [List.all_eq_true, List.mem_range] at h
  intro cn h1 h2
  have := h (cn - 3) (by omega)
  rwa [show cn - 3 + 3 = cn by omega] at this
