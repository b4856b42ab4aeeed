/-! PURE: the reference's levels give the needs -/
theorem canDoF_iff {f : Nat → Int} {g b h l : Nat} {need : Int} : canDoF f g b h l need = true ↔ ∃ x y : Nat, x < 1000 ∧ y ≤ x ∧ fitsN x b h l = true ∧ okLR g b h l x y = true ∧ worstLR f b h l x y < need := by
  unfold canDoF
  rw [anyB_iff]
  constructor
  · rintro ⟨x, hx, h1⟩
    rw [Bool.and_eq_true, anyB_iff] at h1
    obtain ⟨h1, y, hy, h2⟩ := h1
    rw [Bool.and_eq_true, decide_eq_true_eq] at h2
    exact ⟨x, y, hx, by omega, h1, h2.1, h2.2⟩
  · rintro ⟨x, y, hx, hy, h1, h2, h3⟩
    refine ⟨x, hx, ?_⟩
    rw [Bool.and_eq_true, anyB_iff]
    exact ⟨h1, y, by omega, by rw [Bool.and_eq_true, decide_eq_true_eq]; exact ⟨h2, h3⟩⟩
/-- the needs as far as they are laid: those below a need, and those of it below a place -/
def stgOK (cn need k : Nat) (f : Nat → Int) : Prop := ∀ x : Nat, x < 1000 → f x = if (1 ≤ x ∧ dsum x ≤ cn) ∧ (ndv cn x < need ∨ (ndv cn x = need ∧ x < k)) then (ndv cn x : Int) else 99
theorem dig3 {B H L : Nat} (hH : H < 10) (hL : L < 10) : (100 * B + 10 * H + L) / 100 = B ∧ (100 * B + 10 * H + L) / 10 % 10 = H ∧ (100 * B + 10 * H + L) % 10 = L := by omega
theorem nofN_lt {cn need k : Nat} {f : Nat → Int} (hs : stgOK cn need k f) (hn : 1 ≤ need ∧ need ≤ 4) (hc : cn ≤ 9) {B H L : Nat} (hb : B + H + L ≤ cn) : nofN f B H L < need ↔ outN cn need B H L = true := by
  unfold nofN outN
  rw [decide_eq_true_eq]
  by_cases h0 : 2 * B + H + L = 0
  · rw [if_pos h0]
    constructor
    · intro _; exact Or.inl h0
    · intro _; omega
  · rw [if_neg h0]
    have hd := dig3 (B := B) (H := H) (L := L) (by omega) (by omega)
    have e1 : dsum (100 * B + 10 * H + L) = B + H + L := by unfold dsum; omega
    have e2 : ndv cn (100 * B + 10 * H + L) = ND cn B H L := by unfold ndv; rw [hd.1, hd.2.1, hd.2.2]
    have h3 := ND_le cn B H L
    rw [hs _ (by omega), e1, e2]
    constructor
    · intro h
      right
      split at h
      · omega
      · omega
    · rintro (h | h)
      · exact absurd h h0
      · rw [if_pos ⟨⟨by omega, hb⟩, Or.inl h⟩]
        omega
theorem worst_ltD {cn need k : Nat} {f : Nat → Int} (hs : stgOK cn need k f) (hn : 1 ≤ need ∧ need ≤ 4) (hc : cn ≤ 9) {b h l bl hl ll br hr lr : Nat} (hb : b + h + l ≤ cn) (h1 : bl + br ≤ b) (h2 : hl + hr ≤ h) (h3 : ll + lr ≤ l) :
    mx (mx (nofN f 0 (br + hr) (bl + ll)) (nofN f (b - bl - br) (h - hl - hr) (l - ll - lr))) (nofN f 0 (bl + hl) (br + lr)) < need ↔ allO cn need b h l bl hl ll br hr lr = true := by
  have g1 : 0 + (br + hr) + (bl + ll) ≤ cn := by omega
  have g2 : (b - bl - br) + (h - hl - hr) + (l - ll - lr) ≤ cn := by omega
  have g3 : 0 + (bl + hl) + (br + lr) ≤ cn := by omega
  unfold allO
  rw [mx_lt, mx_lt, nofN_lt hs hn hc g1, nofN_lt hs hn hc g2, nofN_lt hs hn hc g3, Bool.and_eq_true, Bool.and_eq_true]
theorem worst_lt {cn need k : Nat} {f : Nat → Int} (hs : stgOK cn need k f) (hn : 1 ≤ need ∧ need ≤ 4) (hc : cn ≤ 9) {b h l x y : Nat} (hb : b + h + l ≤ cn) (h1 : x / 100 + y / 100 ≤ b) (h2 : x / 10 % 10 + y / 10 % 10 ≤ h) (h3 : x % 10 + y % 10 ≤ l) :
    worstLR f b h l x y < need ↔ allO cn need b h l (x / 100) (x / 10 % 10) (x % 10) (y / 100) (y / 10 % 10) (y % 10) = true := worst_ltD hs hn hc hb h1 h2 h3
theorem okLR_D {g b h l x y : Nat} : okLR g b h l x y = true ↔ (x / 100 + y / 100 ≤ b ∧ x / 10 % 10 + y / 10 % 10 ≤ h ∧ x % 10 + y % 10 ≤ l) ∧ okD g (x / 100) (x / 10 % 10) (x % 10) (y / 100) (y / 10 % 10) (y % 10) = true := by
  unfold okLR okD dsum
  rw [decide_eq_true_eq, decide_eq_true_eq]
  generalize x / 100 = a1
  generalize x / 10 % 10 = a2
  generalize x % 10 = a3
  generalize y / 100 = b1
  generalize y / 10 % 10 = b2
  generalize y % 10 = b3
  constructor
  · rintro ⟨c1, c2, c3, c4, c5, c6⟩
    exact ⟨⟨c1, c2, c3⟩, c4, c5, by omega⟩
  · rintro ⟨⟨c1, c2, c3⟩, c4, c5, c6⟩
    exact ⟨c1, c2, c3, c4, c5, by omega⟩
theorem outN_mono {cn v w b h l : Nat} (hvw : v ≤ w) (h1 : outN cn v b h l = true) : outN cn w b h l = true := by
  unfold outN at *
  rw [decide_eq_true_eq] at *
  omega
theorem allO_mono {cn v w b h l bl hl ll br hr lr : Nat} (hvw : v ≤ w) (h1 : allO cn v b h l bl hl ll br hr lr = true) : allO cn w b h l bl hl ll br hr lr = true := by
  unfold allO at *
  rw [Bool.and_eq_true, Bool.and_eq_true] at *
  exact ⟨⟨outN_mono hvw h1.1.1, outN_mono hvw h1.1.2⟩, outN_mono hvw h1.2⟩
theorem chkA_ex {cn b h l : Nat} (hc : 3 ≤ cn ∧ cn ≤ 9) (hs : b + h + l ≤ cn) (hp : 2 ≤ 2 * b + h + l) : ∃ bl hl ll br hr lr : Nat, bl + br ≤ b ∧ hl + hr ≤ h ∧ ll + lr ≤ l ∧ 100 * br + 10 * hr + lr ≤ 100 * bl + 10 * hl + ll ∧ okD (cn - b - h - l) bl hl ll br hr lr = true ∧ allO cn (ND cn b h l) b h l bl hl ll br hr lr = true := by
  have h1 := chkAll_at (chkA_all cn hc.1 hc.2) hs
  unfold chkA at h1
  rw [decide_eq_false (by omega), Bool.false_or] at h1
  simp only [List.any_eq_true, List.mem_range, Bool.and_eq_true] at h1
  obtain ⟨bl, a1, hl, a2, ll, a3, br, a4, hr, a5, lr, a6, ⟨a7, a8⟩, a9⟩ := h1
  exact ⟨bl, hl, ll, br, hr, lr, by omega, by omega, by omega, Nat.le_of_ble_eq_true a7, a8, a9⟩
theorem chkB_no {cn b h l bl hl ll br hr lr v : Nat} (hc : 3 ≤ cn ∧ cn ≤ 9) (hs : b + h + l ≤ cn) (h1 : bl + br ≤ b) (h2 : hl + hr ≤ h) (h3 : ll + lr ≤ l) (hok : okD (cn - b - h - l) bl hl ll br hr lr = true) (ha : allO cn v b h l bl hl ll br hr lr = true) : ND cn b h l ≤ v := by
  rcases Nat.lt_or_ge v (ND cn b h l) with g | g
  · have hb := chkAll_at (chkB_all cn hc.1 hc.2) hs
    unfold chkB at hb
    simp only [List.all_eq_true, List.mem_range] at hb
    have hb2 := hb bl (by omega) hl (by omega) ll (by omega) br (by omega) hr (by omega) lr (by omega)
    rw [hok, allO_mono (w := ND cn b h l - 1) (by omega) ha] at hb2
    cases hb2
  · exact g
theorem ND_pairs {cn b h l : Nat} (h1 : 1 ≤ ND cn b h l) : 2 ≤ 2 * b + h + l := by
  unfold ND lg3 at h1
  repeat' split at h1
  all_goals omega
theorem canDo_yes {cn need k : Nat} {f : Nat → Int} (hc : 3 ≤ cn ∧ cn ≤ 9) (hs : stgOK cn need k f) (hn : 1 ≤ need ∧ need ≤ 4) {b h l : Nat} (hb : b + h + l ≤ cn) (hv : ND cn b h l = need) : canDoF f (cn - b - h - l) b h l need = true := by
  rw [canDoF_iff]
  obtain ⟨bl, hl, ll, br, hr, lr, a1, a2, a3, a4, a5, a6⟩ := chkA_ex hc hb (ND_pairs (cn := cn) (b := b) (h := h) (l := l) (by omega))
  have d1 := dig3 (B := bl) (H := hl) (L := ll) (by omega) (by omega)
  have d2 := dig3 (B := br) (H := hr) (L := lr) (by omega) (by omega)
  refine ⟨100 * bl + 10 * hl + ll, 100 * br + 10 * hr + lr, by omega, a4, ?_, ?_, ?_⟩
  · unfold fitsN
    rw [decide_eq_true_eq, d1.1, d1.2.1, d1.2.2]
    exact ⟨by omega, by omega, by omega⟩
  · rw [okLR_D, d1.1, d1.2.1, d1.2.2, d2.1, d2.2.1, d2.2.2]
    exact ⟨⟨a1, a2, a3⟩, a5⟩
  · unfold worstLR
    rw [d1.1, d1.2.1, d1.2.2, d2.1, d2.2.1, d2.2.2, worst_ltD hs hn hc.2 hb a1 a2 a3, ← hv]
    exact a6
theorem canDo_nd {cn need k : Nat} {f : Nat → Int} (hc : 3 ≤ cn ∧ cn ≤ 9) (hs : stgOK cn need k f) (hn : 1 ≤ need ∧ need ≤ 4) {b h l : Nat} (hb : b + h + l ≤ cn) (h0 : need ≤ ND cn b h l) : canDoF f (cn - b - h - l) b h l need = decide (ND cn b h l = need) := by
  by_cases hv : ND cn b h l = need
  · rw [decide_eq_true hv]
    exact canDo_yes hc hs hn hb hv
  · rw [decide_eq_false hv]
    cases hcd : canDoF f (cn - b - h - l) b h l need with
    | false => rfl
    | true =>
      rw [canDoF_iff] at hcd
      obtain ⟨x, y, hx, hy, h1, h2, h3⟩ := hcd
      obtain ⟨⟨c1, c2, c3⟩, c4⟩ := okLR_D.mp h2
      have h4 := (worst_lt hs hn hc.2 hb c1 c2 c3).mp h3
      have h5 := chkB_no hc hb c1 c2 c3 c4 h4
      exact absurd (Nat.le_antisymm h5 h0) hv
