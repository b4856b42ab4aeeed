/-! PURE: the levels, step by step -/
def ndT (cn k : Nat) : Int := if 1 ≤ k ∧ dsum k ≤ cn then (ndv cn k : Int) else 99
theorem ndv_le (cn x : Nat) : ndv cn x ≤ 3 := ND_le _ _ _ _
theorem ndv_0 {cn x : Nat} (h1 : 1 ≤ x) (h2 : x < 1000) : ndv cn x = 0 ↔ x = 1 ∨ x = 10 := by
  unfold ndv ND
  constructor
  · intro h
    split at h
    · omega
    · unfold lg3 at h
      split at h
      · omega
      · repeat' split at h
        all_goals omega
  · rintro (rfl | rfl)
    · rw [if_neg (by omega)]; rfl
    · rw [if_neg (by omega)]; rfl
theorem stg_rng {cn need k : Nat} {f : Nat → Int} (h : stgOK cn need k f) : ∀ x, x < 1000 → 0 ≤ f x ∧ f x ≤ 99 := by
  intro x hx
  have := ndv_le cn x
  rw [h x hx]
  split <;> omega
theorem stg_first {cn : Nat} {f : Nat → Int} (hc : 3 ≤ cn) (h : ∀ x, x < 1000 → f x = 99) : stgOK cn 1 1 (va_up (va_up f 10 0) 1 0) := by
  intro x hx
  by_cases h1 : x = 1
  · subst h1
    have e := (ndv_0 (cn := cn) (x := 1) (by omega) (by omega)).mpr (Or.inl rfl)
    rw [va_up_self, e, if_pos ⟨⟨by omega, by show 1 ≤ cn; omega⟩, Or.inl (by omega)⟩]
    rfl
  · rw [va_up_ne _ _ h1]
    by_cases h2 : x = 10
    · subst h2
      have e := (ndv_0 (cn := cn) (x := 10) (by omega) (by omega)).mpr (Or.inr rfl)
      rw [va_up_self, e, if_pos ⟨⟨by omega, by show 1 ≤ cn; omega⟩, Or.inl (by omega)⟩]
      rfl
    · rw [va_up_ne _ _ h2, h x hx]
      by_cases h3 : 1 ≤ x
      · have := mt (ndv_0 (cn := cn) h3 hx).mp (by omega)
        rw [if_neg (by omega)]
      · rw [if_neg (by omega)]
theorem stg_next {cn need : Nat} {f : Nat → Int} (h : stgOK cn need 1000 f) : stgOK cn (need + 1) 1 f := by
  intro x hx
  rw [h x hx]
  by_cases g : (1 ≤ x ∧ dsum x ≤ cn) ∧ (ndv cn x < need ∨ (ndv cn x = need ∧ x < 1000))
  · rw [if_pos g, if_pos (by omega)]
  · rw [if_neg g, if_neg (by omega)]
theorem stg_keep {cn need k : Nat} {f : Nat → Int} (h : stgOK cn need k f) (hk : (1 ≤ k ∧ dsum k ≤ cn) → ndv cn k ≠ need) : stgOK cn need (k + 1) f := by
  intro x hx
  rw [h x hx]
  by_cases e : x = k
  · subst e
    by_cases g : (1 ≤ x ∧ dsum x ≤ cn) ∧ (ndv cn x < need ∨ (ndv cn x = need ∧ x < x))
    · rw [if_pos g, if_pos (by omega)]
    · rw [if_neg g, if_neg (by omega)]
  · by_cases g : (1 ≤ x ∧ dsum x ≤ cn) ∧ (ndv cn x < need ∨ (ndv cn x = need ∧ x < k))
    · rw [if_pos g, if_pos (by omega)]
    · rw [if_neg g, if_neg (by omega)]
theorem stg_put {cn need k : Nat} {f : Nat → Int} (h : stgOK cn need k f) (h1 : 1 ≤ k ∧ dsum k ≤ cn) (h2 : ndv cn k = need) : stgOK cn need (k + 1) (va_up f k need) := by
  intro x hx
  by_cases e : x = k
  · subst e
    rw [va_up_self, if_pos ⟨h1, Or.inr ⟨h2, by omega⟩⟩, h2]
  · rw [va_up_ne _ _ e, h x hx]
    by_cases g : (1 ≤ x ∧ dsum x ≤ cn) ∧ (ndv cn x < need ∨ (ndv cn x = need ∧ x < k))
    · rw [if_pos g, if_pos (by omega)]
    · rw [if_neg g, if_neg (by omega)]
theorem stg_last {cn : Nat} {f : Nat → Int} (h : stgOK cn 5 1 f) : ∀ x, x < 1000 → f x = ndT cn x := by
  intro x hx
  have := ndv_le cn x
  rw [h x hx]
  unfold ndT
  by_cases g : 1 ≤ x ∧ dsum x ≤ cn
  · rw [if_pos ⟨g, Or.inl (by omega)⟩, if_pos g]
  · rw [if_neg (by omega), if_neg g]
theorem canDo_k {cn need k : Nat} {f : Nat → Int} (hc : 3 ≤ cn ∧ cn ≤ 9) (hs : stgOK cn need k f) (hn : 1 ≤ need ∧ need ≤ 4) (hk : 1 ≤ k ∧ k < 1000) (hd : dsum k ≤ cn) (h99 : f k = 99) : canDoF f (cn - k / 100 - k / 10 % 10 - k % 10) (k / 100) (k / 10 % 10) (k % 10) need = decide (ndv cn k = need) := by
  have h3 := ndv_le cn k
  have h0 : need ≤ ndv cn k := by
    rw [hs k hk.2] at h99
    split at h99 <;> omega
  exact canDo_nd hc hs hn (by unfold dsum at hd; exact hd) h0
