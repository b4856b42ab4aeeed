theorem sp0 {b h l left right : Int} {fb fh fl : Nat → Int} : spB b left right fb 0 = 0 ∧ spH h left right fh 0 = right / 100 + right / 10 % 10 ∧ spL l left right fl 0 = left / 100 + left % 10 := by
  unfold spB spH spL va_up
  exact ⟨rfl, rfl, rfl⟩
theorem sp1 {b h l left right : Int} {fb fh fl : Nat → Int} : spB b left right fb 1 = b - left / 100 - right / 100 ∧ spH h left right fh 1 = h - left / 10 % 10 - right / 10 % 10 ∧ spL l left right fl 1 = l - left % 10 - right % 10 := by
  unfold spB spH spL va_up
  exact ⟨rfl, rfl, rfl⟩
theorem sp2 {b h l left right : Int} {fb fh fl : Nat → Int} : spB b left right fb 2 = 0 ∧ spH h left right fh 2 = left / 100 + left / 10 % 10 ∧ spL l left right fl 2 = right / 100 + right % 10 := by
  unfold spB spH spL va_up
  exact ⟨rfl, rfl, rfl⟩
theorem zc1 (x : Nat) : (x : Int) / 100 = ((x / 100 : Nat) : Int) := rfl
theorem zc2 (x : Nat) : (x : Int) / 10 % 10 = ((x / 10 % 10 : Nat) : Int) := rfl
theorem zc3 (x : Nat) : (x : Int) % 10 = ((x % 10 : Nat) : Int) := rfl
theorem sp_rng {b h l x y : Nat} {fb fh fl : Nat → Int} (h0 : b + h + l ≤ 9) (h1 : x / 100 + y / 100 ≤ b) (h2 : x / 10 % 10 + y / 10 % 10 ≤ h) (h3 : x % 10 + y % 10 ≤ l) : rngO (spB b x y fb) (spH h x y fh) (spL l x y fl) := by
  intro i hi
  have e0 := sp0 (b := b) (h := h) (l := l) (left := x) (right := y) (fb := fb) (fh := fh) (fl := fl)
  have e1 := sp1 (b := b) (h := h) (l := l) (left := x) (right := y) (fb := fb) (fh := fh) (fl := fl)
  have e2 := sp2 (b := b) (h := h) (l := l) (left := x) (right := y) (fb := fb) (fh := fh) (fl := fl)
  simp only [zc1, zc2, zc3] at e0 e1 e2
  generalize x / 100 = x1 at *
  generalize y / 100 = y1 at *
  generalize x / 10 % 10 = x2 at *
  generalize y / 10 % 10 = y2 at *
  generalize x % 10 = x3 at *
  generalize y % 10 = y3 at *
  rcases (show i = 0 ∨ i = 1 ∨ i = 2 by omega) with rfl | rfl | rfl
  · rw [e0.1, e0.2.1, e0.2.2]
    exact ⟨by omega, by omega, by omega⟩
  · rw [e1.1, e1.2.1, e1.2.2]
    exact ⟨by omega, by omega, by omega⟩
  · rw [e2.1, e2.2.1, e2.2.2]
    exact ⟨by omega, by omega, by omega⟩
theorem sp_worst {f : Nat → Int} {b h l x y : Nat} {fb fh fl : Nat → Int} (h1 : x / 100 + y / 100 ≤ b) (h2 : x / 10 % 10 + y / 10 % 10 ≤ h) (h3 : x % 10 + y % 10 ≤ l) :
    mx (mx (nofZ f (spB b x y fb 0) (spH h x y fh 0) (spL l x y fl 0)) (nofZ f (spB b x y fb 1) (spH h x y fh 1) (spL l x y fl 1))) (nofZ f (spB b x y fb 2) (spH h x y fh 2) (spL l x y fl 2)) = worstLR f b h l x y := by
  have e0 := sp0 (b := b) (h := h) (l := l) (left := x) (right := y) (fb := fb) (fh := fh) (fl := fl)
  have e1 := sp1 (b := b) (h := h) (l := l) (left := x) (right := y) (fb := fb) (fh := fh) (fl := fl)
  have e2 := sp2 (b := b) (h := h) (l := l) (left := x) (right := y) (fb := fb) (fh := fh) (fl := fl)
  unfold worstLR
  rw [e0.1, e0.2.1, e0.2.2, e1.1, e1.2.1, e1.2.2, e2.1, e2.2.1, e2.2.2, ← nofZ_N, ← nofZ_N, ← nofZ_N]
  simp only [zc1, zc2, zc3]
  generalize x / 100 = x1 at *
  generalize y / 100 = y1 at *
  generalize x / 10 % 10 = x2 at *
  generalize y / 10 % 10 = y2 at *
  generalize x % 10 = x3 at *
  generalize y % 10 = y3 at *
  rw [show ((b - x1 - y1 : Nat) : Int) = (b : Int) - x1 - y1 by omega, show ((h - x2 - y2 : Nat) : Int) = (h : Int) - x2 - y2 by omega, show ((l - x3 - y3 : Nat) : Int) = (l : Int) - x3 - y3 by omega]
  simp only [Int.natCast_add, Int.natCast_zero]
def inF (f : Nat → Int) (g b h l : Nat) (need : Int) (x : Nat) : Nat → Bool := fun y => okLR g b h l x y && decide (worstLR f b h l x y < need)
def outF (f : Nat → Int) (g b h l : Nat) (need : Int) : Nat → Bool := fun x => fitsN x b h l && anyB (inF f g b h l need x) (x + 1)
theorem canDoF_out {f : Nat → Int} {g b h l : Nat} {need : Int} : canDoF f g b h l need = anyB (outF f g b h l need) 1000 := rfl
theorem dsum_Z {x : Nat} : ((dsum x : Nat) : Int) = (x : Int) / 100 + (x : Int) / 10 % 10 + (x : Int) % 10 := by unfold dsum; omega

set_option maxRecDepth 100000 in
set_option maxHeartbeats 4000000 in
theorem w_X3_canDo (l : Launch) (hlt : l.stackTraces = false) (T : GT) (mo : Nat) (am : Nat) (ae : Nat) (ap : Nat) (ab : Nat) (aw : Nat) (ac : Nat) (an : Nat) (a0 : Nat) (a1 : Nat) (a2 : Nat) (th : Int) (many : Int) (coins : Int) (needs : Nat → Int) (both : Nat → Int) (heavy : Nat → Int) (light : Nat → Int) (bb : Int) (hh : Int) (ll : Int) (need : Int) (I15 : Int → (Nat → Int) → (Nat → Int) → (Nat → Int) → Prop) (M15 : Int → (Nat → Int) → (Nat → Int) → (Nat → Int) → g_mu) (I26 : Int → Int → (Nat → Int) → (Nat → Int) → (Nat → Int) → Prop) (M26 : Int → Int → (Nat → Int) → (Nat → Int) → (Nat → Int) → g_mu) (post : Bool → (Nat → Int) → (Nat → Int) → (Nat → Int) → Prop) (v0_ : I15 0 both heavy light) (v15 : ∀ (left : Int) (bo : Nat → Int) (he : Nat → Int) (li : Nat → Int), I15 left bo he li → (-2147483648 ≤ left ∧ left < 2147483648) ∧ ((1000 ≤ left → (post false bo he li)) ∧ (left < 1000 → (I26 left 0 bo he li ∧ g_lt (M26 left 0 bo he li) (M15 left bo he li))))) (v26 : ∀ (left : Int) (right : Int) (bo : Nat → Int) (he : Nat → Int) (li : Nat → Int), I26 left right bo he li → (-2147483648 ≤ right ∧ right < 2147483648) ∧ ((-2147483648 ≤ left ∧ left < 2147483648) ∧ ((left < right → (I15 (left + 1) bo he li ∧ g_lt (M15 (left + 1) bo he li) (M26 left right bo he li))) ∧ (right ≤ left → ((0 ≤ left ∧ left < 1000) ∧ ((0 ≤ bb ∧ bb ≤ 9) ∧ ((0 ≤ hh ∧ hh ≤ 9) ∧ ((0 ≤ ll ∧ ll ≤ 9) ∧ (((fitsN left.toNat bb.toNat hh.toNat ll.toNat) = false → (I15 (left + 1) bo he li ∧ g_lt (M15 (left + 1) bo he li) (M26 left right bo he li))) ∧ ((fitsN left.toNat bb.toNat hh.toNat ll.toNat) = true → ((0 ≤ left ∧ left < 2147483648) ∧ ((0 ≤ right ∧ right < 2147483648) ∧ ((0 ≤ left ∧ left < 2147483648) ∧ ((0 ≤ (left / 10) ∧ (left / 10) < 2147483648) ∧ ((0 ≤ right ∧ right < 2147483648) ∧ ((0 ≤ (right / 10) ∧ (right / 10) < 2147483648) ∧ ((0 ≤ left ∧ left < 2147483648) ∧ ((0 ≤ right ∧ right < 2147483648) ∧ ((0 ≤ left ∧ left < 1000) ∧ ((0 ≤ right ∧ right < 1000) ∧ ((-2147483648 ≤ ((left / 100) + (right / 100)) ∧ ((left / 100) + (right / 100)) < 2147483648) ∧ ((-2147483648 ≤ bb ∧ bb < 2147483648) ∧ ((bb < ((left / 100) + (right / 100)) → (I26 left (right + 1) bo he li ∧ g_lt (M26 left (right + 1) bo he li) (M26 left right bo he li))) ∧ (((left / 100) + (right / 100)) ≤ bb → ((-2147483648 ≤ (((left / 10) % 10) + ((right / 10) % 10)) ∧ (((left / 10) % 10) + ((right / 10) % 10)) < 2147483648) ∧ ((-2147483648 ≤ hh ∧ hh < 2147483648) ∧ ((hh < (((left / 10) % 10) + ((right / 10) % 10)) → (I26 left (right + 1) bo he li ∧ g_lt (M26 left (right + 1) bo he li) (M26 left right bo he li))) ∧ ((((left / 10) % 10) + ((right / 10) % 10)) ≤ hh → ((-2147483648 ≤ ((left % 10) + (right % 10)) ∧ ((left % 10) + (right % 10)) < 2147483648) ∧ ((-2147483648 ≤ ll ∧ ll < 2147483648) ∧ ((ll < ((left % 10) + (right % 10)) → (I26 left (right + 1) bo he li ∧ g_lt (M26 left (right + 1) bo he li) (M26 left right bo he li))) ∧ (((left % 10) + (right % 10)) ≤ ll → ((-2147483648 ≤ (((dsum left.toNat : Nat) : Int) - ((dsum right.toNat : Nat) : Int)) ∧ (((dsum left.toNat : Nat) : Int) - ((dsum right.toNat : Nat) : Int)) < 2147483648) ∧ ((-2147483648 ≤ (((coins - bb) - hh) - ll) ∧ (((coins - bb) - hh) - ll) < 2147483648) ∧ (((((coins - bb) - hh) - ll) < (((dsum left.toNat : Nat) : Int) - ((dsum right.toNat : Nat) : Int)) → (I26 left (right + 1) bo he li ∧ g_lt (M26 left (right + 1) bo he li) (M26 left right bo he li))) ∧ ((((dsum left.toNat : Nat) : Int) - ((dsum right.toNat : Nat) : Int)) ≤ (((coins - bb) - hh) - ll) → ((-2147483648 ≤ (-(((dsum left.toNat : Nat) : Int) - ((dsum right.toNat : Nat) : Int))) ∧ (-(((dsum left.toNat : Nat) : Int) - ((dsum right.toNat : Nat) : Int))) < 2147483648) ∧ ((-2147483648 ≤ (((coins - bb) - hh) - ll) ∧ (((coins - bb) - hh) - ll) < 2147483648) ∧ (((((coins - bb) - hh) - ll) < (-(((dsum left.toNat : Nat) : Int) - ((dsum right.toNat : Nat) : Int))) → (I26 left (right + 1) bo he li ∧ g_lt (M26 left (right + 1) bo he li) (M26 left right bo he li))) ∧ ((-(((dsum left.toNat : Nat) : Int) - ((dsum right.toNat : Nat) : Int))) ≤ (((coins - bb) - hh) - ll) → ((0 ≤ left ∧ left < 1000) ∧ ((0 ≤ right ∧ right < 1000) ∧ ((-2147483648 ≤ (((dsum left.toNat : Nat) : Int) + ((dsum right.toNat : Nat) : Int)) ∧ (((dsum left.toNat : Nat) : Int) + ((dsum right.toNat : Nat) : Int)) < 2147483648) ∧ (((((dsum left.toNat : Nat) : Int) + ((dsum right.toNat : Nat) : Int)) ≤ 0 → (I26 left (right + 1) bo he li ∧ g_lt (M26 left (right + 1) bo he li) (M26 left right bo he li))) ∧ (0 < (((dsum left.toNat : Nat) : Int) + ((dsum right.toNat : Nat) : Int)) → ((0 ≤ left ∧ left < 1000) ∧ ((0 ≤ right ∧ right < 1000) ∧ ((rngO (spB bb left right bo) (spH hh left right he) (spL ll left right li)) ∧ ((rngN needs) ∧ ((-2147483648 ≤ (mx (mx (nofZ needs ((spB bb left right bo) 0) ((spH hh left right he) 0) ((spL ll left right li) 0)) (nofZ needs ((spB bb left right bo) 1) ((spH hh left right he) 1) ((spL ll left right li) 1))) (nofZ needs ((spB bb left right bo) 2) ((spH hh left right he) 2) ((spL ll left right li) 2))) ∧ (mx (mx (nofZ needs ((spB bb left right bo) 0) ((spH hh left right he) 0) ((spL ll left right li) 0)) (nofZ needs ((spB bb left right bo) 1) ((spH hh left right he) 1) ((spL ll left right li) 1))) (nofZ needs ((spB bb left right bo) 2) ((spH hh left right he) 2) ((spL ll left right li) 2))) < 2147483648) ∧ ((-2147483648 ≤ need ∧ need < 2147483648) ∧ ((need ≤ (mx (mx (nofZ needs ((spB bb left right bo) 0) ((spH hh left right he) 0) ((spL ll left right li) 0)) (nofZ needs ((spB bb left right bo) 1) ((spH hh left right he) 1) ((spL ll left right li) 1))) (nofZ needs ((spB bb left right bo) 2) ((spH hh left right he) 2) ((spL ll left right li) 2))) → (I26 left (right + 1) (spB bb left right bo) (spH hh left right he) (spL ll left right li) ∧ g_lt (M26 left (right + 1) (spB bb left right bo) (spH hh left right he) (spL ll left right li)) (M26 left right bo he li))) ∧ ((mx (mx (nofZ needs ((spB bb left right bo) 0) ((spH hh left right he) 0) ((spL ll left right li) 0)) (nofZ needs ((spB bb left right bo) 1) ((spH hh left right he) 1) ((spL ll left right li) 1))) (nofZ needs ((spB bb left right bo) 2) ((spH hh left right he) 2) ((spL ll left right li) 2))) < need → (post true (spB bb left right bo) (spH hh left right he) (spL ll left right li))))))))))))))))))))))))))))))))))))))))))))))))))))))) : MW l T yX3_canDo cX3_canDo 13 (some .boolean) ({ frames := 3, cells := 0, slots := 0, locals := 64 }) [.ref mo, .int (iN bb), .int (iN hh), .int (iN ll), .int (iN need)] [(mo, .inr (2, [.int (iN th), .ref am, .ref ae, .int (iN many), .ref ap, .ref ab, .ref aw, .int (iN coins), .ref ac, .ref an, .ref a0, .ref a1, .ref a2])), (an, .inl (T.2.1 0, 1000, .inl (zA needs))), (a0, .inl (T.2.1 0, 3, .inl (zA both))), (a1, .inl (T.2.1 0, 3, .inl (zA heavy))), (a2, .inl (T.2.1 0, 3, .inl (zA light)))] (fun v_ wn_ => ∃ (b2 : Bool), ∃ (both2 : Nat → Int), ∃ (heavy2 : Nat → Int), ∃ (light2 : Nat → Int), v_ = some (.int (bI b2)) ∧ wn_ = [(mo, .inr (2, [.int (iN th), .ref am, .ref ae, .int (iN many), .ref ap, .ref ab, .ref aw, .int (iN coins), .ref ac, .ref an, .ref a0, .ref a1, .ref a2])), (an, .inl (T.2.1 0, 1000, .inl (zA needs))), (a0, .inl (T.2.1 0, 3, .inl (zA both2))), (a1, .inl (T.2.1 0, 3, .inl (zA heavy2))), (a2, .inl (T.2.1 0, 3, .inl (zA light2)))] ∧ post b2 both2 heavy2 light2) 0 0 := by
  refine MW.start hlt (by decide) (lv0 := [some (.ref mo), some (.int (iN bb)), some (.int (iN hh)), some (.int (iN ll)), some (.int (iN need)), none, none, none, none, none, none, none, none]) rfl (Nat.le_of_ble_eq_true rfl) rfl ?_
  intro p e R s m args below meth c A cx hr hnm hST hrw
  have key : ∀ μ : g_mu, (∀ (left : Int) (bo : Nat → Int) (he : Nat → Int) (li : Nat → Int), I15 left bo he li → M15 left bo he li = μ → G p l e R s m args below meth c 13 T A A (MQ below (g_Q T (fun v_ wn_ => ∃ (b2 : Bool), ∃ (both2 : Nat → Int), ∃ (heavy2 : Nat → Int), ∃ (light2 : Nat → Int), v_ = some (.int (bI b2)) ∧ wn_ = [(mo, .inr (2, [.int (iN th), .ref am, .ref ae, .int (iN many), .ref ap, .ref ab, .ref aw, .int (iN coins), .ref ac, .ref an, .ref a0, .ref a1, .ref a2])), (an, .inl (T.2.1 0, 1000, .inl (zA needs))), (a0, .inl (T.2.1 0, 3, .inl (zA both2))), (a1, .inl (T.2.1 0, 3, .inl (zA heavy2))), (a2, .inl (T.2.1 0, 3, .inl (zA light2)))] ∧ post b2 both2 heavy2 light2) A) args s 0 0 A) 0 0 [(mo, .inr (2, [.int (iN th), .ref am, .ref ae, .int (iN many), .ref ap, .ref ab, .ref aw, .int (iN coins), .ref ac, .ref an, .ref a0, .ref a1, .ref a2])), (an, .inl (T.2.1 0, 1000, .inl (zA needs))), (a0, .inl (T.2.1 0, 3, .inl (zA bo))), (a1, .inl (T.2.1 0, 3, .inl (zA he))), (a2, .inl (T.2.1 0, 3, .inl (zA li)))] [some (.ref mo), some (.int (iN bb)), some (.int (iN hh)), some (.int (iN ll)), some (.int (iN need)), some (.int (iN (((coins - bb) - hh) - ll))), some (.int (iN left)), none, none, none, none, none, none] 15 []) ∧ (∀ (left : Int) (right : Int) (bo : Nat → Int) (he : Nat → Int) (li : Nat → Int), I26 left right bo he li → M26 left right bo he li = μ → G p l e R s m args below meth c 13 T A A (MQ below (g_Q T (fun v_ wn_ => ∃ (b2 : Bool), ∃ (both2 : Nat → Int), ∃ (heavy2 : Nat → Int), ∃ (light2 : Nat → Int), v_ = some (.int (bI b2)) ∧ wn_ = [(mo, .inr (2, [.int (iN th), .ref am, .ref ae, .int (iN many), .ref ap, .ref ab, .ref aw, .int (iN coins), .ref ac, .ref an, .ref a0, .ref a1, .ref a2])), (an, .inl (T.2.1 0, 1000, .inl (zA needs))), (a0, .inl (T.2.1 0, 3, .inl (zA both2))), (a1, .inl (T.2.1 0, 3, .inl (zA heavy2))), (a2, .inl (T.2.1 0, 3, .inl (zA light2)))] ∧ post b2 both2 heavy2 light2) A) args s 0 0 A) 0 0 [(mo, .inr (2, [.int (iN th), .ref am, .ref ae, .int (iN many), .ref ap, .ref ab, .ref aw, .int (iN coins), .ref ac, .ref an, .ref a0, .ref a1, .ref a2])), (an, .inl (T.2.1 0, 1000, .inl (zA needs))), (a0, .inl (T.2.1 0, 3, .inl (zA bo))), (a1, .inl (T.2.1 0, 3, .inl (zA he))), (a2, .inl (T.2.1 0, 3, .inl (zA li)))] [some (.ref mo), some (.int (iN bb)), some (.int (iN hh)), some (.int (iN ll)), some (.int (iN need)), some (.int (iN (((coins - bb) - hh) - ll))), some (.int (iN left)), some (.int (iN right)), none, none, none, none, none] 26 []) := by
    refine g_ind (fun μ ih => ⟨?_, ?_⟩)
    · intro left bo he li hI hM
      subst hM
      have vc := v15 left bo he li hI
      refine g_iload (q := 17) cx dX3_canDo_15 rfl rfl ?_
      refine g_sipush (q := 20) (v := iN 1000) cx dX3_canDo_17 (by decide) rfl ?_
      refine g_icmp_geZ (q := 23) (tg := 195) cx vc.1 (by decide) dX3_canDo_20 (by decide) rfl (fun h_1 => ?_) (fun h_1 => ?_)
      · have vc := vc.2.1 h_1
        refine g_iconst (q := 196) (v := iN 0) cx dX3_canDo_195 rfl rfl ?_
        exact g_iretW cx hr (by decide) ⟨false, bo, he, li, rfl, rfl, vc⟩ (by first | exact Nat.le_of_ble_eq_true rfl | omega) (by first | exact Nat.le_of_ble_eq_true rfl | omega) dX3_canDo_196
      · have vc := vc.2.2 h_1
        refine g_iconst (q := 24) (v := iN 0) cx dX3_canDo_23 rfl rfl ?_
        refine g_istore (q := 26) (lv2 := [some (.ref mo), some (.int (iN bb)), some (.int (iN hh)), some (.int (iN ll)), some (.int (iN need)), some (.int (iN (((coins - bb) - hh) - ll))), some (.int (iN left)), some (.int (iN 0)), none, none, none, none, none]) cx dX3_canDo_24 (by decide) rfl rfl ?_
        exact ((ih _ vc.2).2) left 0 bo he li vc.1 rfl
    · intro left right bo he li hI hM
      subst hM
      have vc := v26 left right bo he li hI
      refine g_iload (q := 28) cx dX3_canDo_26 rfl rfl ?_
      refine g_iload (q := 30) cx dX3_canDo_28 rfl rfl ?_
      refine g_icmp_gtZ (q := 33) (tg := 189) cx vc.1 vc.2.1 dX3_canDo_30 (by decide) rfl (fun h_2 => ?_) (fun h_2 => ?_)
      · have vc := vc.2.2.1 h_2
        refine g_iinc (q := 192) (v := iN (left + 1)) (lv2 := [some (.ref mo), some (.int (iN bb)), some (.int (iN hh)), some (.int (iN ll)), some (.int (iN need)), some (.int (iN (((coins - bb) - hh) - ll))), some (.int (iN (left + 1))), some (.int (iN right)), none, none, none, none, none]) cx dX3_canDo_189 rfl (iN_add _ _) (by decide) rfl rfl ?_
        refine g_goto (q := 15) cx dX3_canDo_192 (by decide) ?_
        refine g_wk (lv2 := [some (.ref mo), some (.int (iN bb)), some (.int (iN hh)), some (.int (iN ll)), some (.int (iN need)), some (.int (iN (((coins - bb) - hh) - ll))), some (.int (iN (left + 1))), none, none, none, none, none, none]) ⟨rfl, ⟨rfl, ⟨rfl, ⟨rfl, ⟨rfl, ⟨rfl, ⟨rfl, trivial⟩⟩⟩⟩⟩⟩⟩ ?_
        exact ((ih _ vc.2).1) (left + 1) bo he li vc.1 rfl
      · have vc := vc.2.2.2 h_2
        refine g_iload (q := 35) cx dX3_canDo_33 rfl rfl ?_
        refine g_iload_n (q := 36) cx dX3_canDo_35 rfl rfl ?_
        refine g_iload_n (q := 37) cx dX3_canDo_36 rfl rfl ?_
        refine g_iload_n (q := 38) cx dX3_canDo_37 rfl rfl ?_
        refine g_cSr (q := 41) (As := [.int (iN left), .int (iN bb), .int (iN hh), .int (iN ll)]) (wr := [(mo, .inr (2, [.int (iN th), .ref am, .ref ae, .int (iN many), .ref ap, .ref ab, .ref aw, .int (iN coins), .ref ac, .ref an, .ref a0, .ref a1, .ref a2])), (an, .inl (T.2.1 0, 1000, .inl (zA needs))), (a0, .inl (T.2.1 0, 3, .inl (zA bo))), (a1, .inl (T.2.1 0, 3, .inl (zA he))), (a2, .inl (T.2.1 0, 3, .inl (zA li)))]) (st := []) cx hST (k_X3_fits l hlt T left bb hh ll (vc.1) (vc.2.1) (vc.2.2.1) (vc.2.2.2.1)) q1048 s_X3_fits rfl g_perm0 (g_rmB rfl) (Nat.le_of_ble_eq_true rfl) dX3_canDo_38 rfl (fun v_ hv_ => ?_)
        have vc := vc.2
        have vc := vc.2
        have vc := vc.2
        have vc := vc.2
        obtain ⟨b2_3, rfl, e_4⟩ := hv_
        subst e_4
        refine g_st (st2 := [.int (bI (fitsN left.toNat bb.toNat hh.toNat ll.toNat))]) rfl ?_
        refine g_if_eq (q := 44) (tg := 189) cx dX3_canDo_41 (by decide) rfl (fun h_5 => ?_) (fun h_5 => ?_)
        · have vc := vc.1 (bI_0.mp h_5)
          refine g_iinc (q := 192) (v := iN (left + 1)) (lv2 := [some (.ref mo), some (.int (iN bb)), some (.int (iN hh)), some (.int (iN ll)), some (.int (iN need)), some (.int (iN (((coins - bb) - hh) - ll))), some (.int (iN (left + 1))), some (.int (iN right)), none, none, none, none, none]) cx dX3_canDo_189 rfl (iN_add _ _) (by decide) rfl rfl ?_
          refine g_goto (q := 15) cx dX3_canDo_192 (by decide) ?_
          refine g_wk (lv2 := [some (.ref mo), some (.int (iN bb)), some (.int (iN hh)), some (.int (iN ll)), some (.int (iN need)), some (.int (iN (((coins - bb) - hh) - ll))), some (.int (iN (left + 1))), none, none, none, none, none, none]) ⟨rfl, ⟨rfl, ⟨rfl, ⟨rfl, ⟨rfl, ⟨rfl, ⟨rfl, trivial⟩⟩⟩⟩⟩⟩⟩ ?_
          exact ((ih _ vc.2).1) (left + 1) bo he li vc.1 rfl
        · have vc := vc.2 (bI_n0.mp h_5)
          refine g_iload (q := 46) cx dX3_canDo_44 rfl rfl ?_
          refine g_bipush (q := 48) (v := iN 100) cx dX3_canDo_46 (by decide) rfl ?_
          refine g_idivZ (q := 49) cx vc.1 (by decide) dX3_canDo_48 rfl ?_
          have vc := vc.2
          refine g_iload (q := 51) cx dX3_canDo_49 rfl rfl ?_
          refine g_bipush (q := 53) (v := iN 100) cx dX3_canDo_51 (by decide) rfl ?_
          refine g_idivZ (q := 54) cx vc.1 (by decide) dX3_canDo_53 rfl ?_
          have vc := vc.2
          refine g_iaddZ (q := 55) cx dX3_canDo_54 rfl ?_
          refine g_istore (q := 57) (lv2 := [some (.ref mo), some (.int (iN bb)), some (.int (iN hh)), some (.int (iN ll)), some (.int (iN need)), some (.int (iN (((coins - bb) - hh) - ll))), some (.int (iN left)), some (.int (iN right)), some (.int (iN ((left / 100) + (right / 100)))), none, none, none, none]) cx dX3_canDo_55 (by decide) rfl rfl ?_
          refine g_iload (q := 59) cx dX3_canDo_57 rfl rfl ?_
          refine g_bipush (q := 61) (v := iN 10) cx dX3_canDo_59 (by decide) rfl ?_
          refine g_idivZ (q := 62) cx vc.1 (by decide) dX3_canDo_61 rfl ?_
          have vc := vc.2
          refine g_bipush (q := 64) (v := iN 10) cx dX3_canDo_62 (by decide) rfl ?_
          refine g_iremZ (q := 65) cx vc.1 (by decide) dX3_canDo_64 rfl ?_
          have vc := vc.2
          refine g_iload (q := 67) cx dX3_canDo_65 rfl rfl ?_
          refine g_bipush (q := 69) (v := iN 10) cx dX3_canDo_67 (by decide) rfl ?_
          refine g_idivZ (q := 70) cx vc.1 (by decide) dX3_canDo_69 rfl ?_
          have vc := vc.2
          refine g_bipush (q := 72) (v := iN 10) cx dX3_canDo_70 (by decide) rfl ?_
          refine g_iremZ (q := 73) cx vc.1 (by decide) dX3_canDo_72 rfl ?_
          have vc := vc.2
          refine g_iaddZ (q := 74) cx dX3_canDo_73 rfl ?_
          refine g_istore (q := 76) (lv2 := [some (.ref mo), some (.int (iN bb)), some (.int (iN hh)), some (.int (iN ll)), some (.int (iN need)), some (.int (iN (((coins - bb) - hh) - ll))), some (.int (iN left)), some (.int (iN right)), some (.int (iN ((left / 100) + (right / 100)))), some (.int (iN (((left / 10) % 10) + ((right / 10) % 10)))), none, none, none]) cx dX3_canDo_74 (by decide) rfl rfl ?_
          refine g_iload (q := 78) cx dX3_canDo_76 rfl rfl ?_
          refine g_bipush (q := 80) (v := iN 10) cx dX3_canDo_78 (by decide) rfl ?_
          refine g_iremZ (q := 81) cx vc.1 (by decide) dX3_canDo_80 rfl ?_
          have vc := vc.2
          refine g_iload (q := 83) cx dX3_canDo_81 rfl rfl ?_
          refine g_bipush (q := 85) (v := iN 10) cx dX3_canDo_83 (by decide) rfl ?_
          refine g_iremZ (q := 86) cx vc.1 (by decide) dX3_canDo_85 rfl ?_
          have vc := vc.2
          refine g_iaddZ (q := 87) cx dX3_canDo_86 rfl ?_
          refine g_istore (q := 89) (lv2 := [some (.ref mo), some (.int (iN bb)), some (.int (iN hh)), some (.int (iN ll)), some (.int (iN need)), some (.int (iN (((coins - bb) - hh) - ll))), some (.int (iN left)), some (.int (iN right)), some (.int (iN ((left / 100) + (right / 100)))), some (.int (iN (((left / 10) % 10) + ((right / 10) % 10)))), some (.int (iN ((left % 10) + (right % 10)))), none, none]) cx dX3_canDo_87 (by decide) rfl rfl ?_
          refine g_iload (q := 91) cx dX3_canDo_89 rfl rfl ?_
          refine g_cSr (q := 94) (As := [.int (iN left)]) (wr := [(mo, .inr (2, [.int (iN th), .ref am, .ref ae, .int (iN many), .ref ap, .ref ab, .ref aw, .int (iN coins), .ref ac, .ref an, .ref a0, .ref a1, .ref a2])), (an, .inl (T.2.1 0, 1000, .inl (zA needs))), (a0, .inl (T.2.1 0, 3, .inl (zA bo))), (a1, .inl (T.2.1 0, 3, .inl (zA he))), (a2, .inl (T.2.1 0, 3, .inl (zA li)))]) (st := []) cx hST (k_X3_sum l hlt T left (vc.1)) q1051 s_X3_sum rfl g_perm0 (g_rmB rfl) (Nat.le_of_ble_eq_true rfl) dX3_canDo_91 rfl (fun v_ hv_ => ?_)
          have vc := vc.2
          obtain ⟨r_6, rfl, e_7⟩ := hv_
          subst e_7
          refine g_st (st2 := [.int (iN ((dsum left.toNat : Nat) : Int))]) rfl ?_
          refine g_iload (q := 96) cx dX3_canDo_94 rfl rfl ?_
          refine g_cSr (q := 99) (As := [.int (iN right)]) (wr := [(mo, .inr (2, [.int (iN th), .ref am, .ref ae, .int (iN many), .ref ap, .ref ab, .ref aw, .int (iN coins), .ref ac, .ref an, .ref a0, .ref a1, .ref a2])), (an, .inl (T.2.1 0, 1000, .inl (zA needs))), (a0, .inl (T.2.1 0, 3, .inl (zA bo))), (a1, .inl (T.2.1 0, 3, .inl (zA he))), (a2, .inl (T.2.1 0, 3, .inl (zA li)))]) (st := [.int (iN ((dsum left.toNat : Nat) : Int))]) cx hST (k_X3_sum l hlt T right (vc.1)) q1051 s_X3_sum rfl g_perm0 (g_rmB rfl) (Nat.le_of_ble_eq_true rfl) dX3_canDo_96 rfl (fun v_ hv_ => ?_)
          have vc := vc.2
          obtain ⟨r_8, rfl, e_9⟩ := hv_
          subst e_9
          refine g_st (st2 := [.int (iN ((dsum right.toNat : Nat) : Int)), .int (iN ((dsum left.toNat : Nat) : Int))]) rfl ?_
          refine g_isubZ (q := 100) cx dX3_canDo_99 rfl ?_
          refine g_istore (q := 102) (lv2 := [some (.ref mo), some (.int (iN bb)), some (.int (iN hh)), some (.int (iN ll)), some (.int (iN need)), some (.int (iN (((coins - bb) - hh) - ll))), some (.int (iN left)), some (.int (iN right)), some (.int (iN ((left / 100) + (right / 100)))), some (.int (iN (((left / 10) % 10) + ((right / 10) % 10)))), some (.int (iN ((left % 10) + (right % 10)))), some (.int (iN (((dsum left.toNat : Nat) : Int) - ((dsum right.toNat : Nat) : Int)))), none]) cx dX3_canDo_100 (by decide) rfl rfl ?_
          refine g_iload (q := 104) cx dX3_canDo_102 rfl rfl ?_
          refine g_iload_n (q := 105) cx dX3_canDo_104 rfl rfl ?_
          refine g_icmp_gtZ (q := 108) (tg := 153) cx vc.1 vc.2.1 dX3_canDo_105 (by decide) rfl (fun h_10 => ?_) (fun h_10 => ?_)
          · have vc := vc.2.2.1 h_10
            refine g_iconst (q := 154) (v := iN 0) cx dX3_canDo_153 rfl rfl ?_
            refine g_istore (q := 156) (lv2 := [some (.ref mo), some (.int (iN bb)), some (.int (iN hh)), some (.int (iN ll)), some (.int (iN need)), some (.int (iN (((coins - bb) - hh) - ll))), some (.int (iN left)), some (.int (iN right)), some (.int (iN ((left / 100) + (right / 100)))), some (.int (iN (((left / 10) % 10) + ((right / 10) % 10)))), some (.int (iN ((left % 10) + (right % 10)))), some (.int (iN (((dsum left.toNat : Nat) : Int) - ((dsum right.toNat : Nat) : Int)))), some (.int (iN 0))]) cx dX3_canDo_154 (by decide) rfl rfl ?_
            refine g_iload (q := 158) cx dX3_canDo_156 rfl rfl ?_
            refine g_if_eq (q := 161) (tg := 183) cx dX3_canDo_158 (by decide) rfl (fun _ => ?_) (fun h => absurd h (by decide))
            refine g_iinc (q := 186) (v := iN (right + 1)) (lv2 := [some (.ref mo), some (.int (iN bb)), some (.int (iN hh)), some (.int (iN ll)), some (.int (iN need)), some (.int (iN (((coins - bb) - hh) - ll))), some (.int (iN left)), some (.int (iN (right + 1))), some (.int (iN ((left / 100) + (right / 100)))), some (.int (iN (((left / 10) % 10) + ((right / 10) % 10)))), some (.int (iN ((left % 10) + (right % 10)))), some (.int (iN (((dsum left.toNat : Nat) : Int) - ((dsum right.toNat : Nat) : Int)))), some (.int (iN 0))]) cx dX3_canDo_183 rfl (iN_add _ _) (by decide) rfl rfl ?_
            refine g_goto (q := 26) cx dX3_canDo_186 (by decide) ?_
            refine g_wk (lv2 := [some (.ref mo), some (.int (iN bb)), some (.int (iN hh)), some (.int (iN ll)), some (.int (iN need)), some (.int (iN (((coins - bb) - hh) - ll))), some (.int (iN left)), some (.int (iN (right + 1))), none, none, none, none, none]) ⟨rfl, ⟨rfl, ⟨rfl, ⟨rfl, ⟨rfl, ⟨rfl, ⟨rfl, ⟨rfl, trivial⟩⟩⟩⟩⟩⟩⟩⟩ ?_
            exact ((ih _ vc.2).2) left (right + 1) bo he li vc.1 rfl
          · have vc := vc.2.2.2 h_10
            refine g_iload (q := 110) cx dX3_canDo_108 rfl rfl ?_
            refine g_iload_n (q := 111) cx dX3_canDo_110 rfl rfl ?_
            refine g_icmp_gtZ (q := 114) (tg := 153) cx vc.1 vc.2.1 dX3_canDo_111 (by decide) rfl (fun h_11 => ?_) (fun h_11 => ?_)
            · have vc := vc.2.2.1 h_11
              refine g_iconst (q := 154) (v := iN 0) cx dX3_canDo_153 rfl rfl ?_
              refine g_istore (q := 156) (lv2 := [some (.ref mo), some (.int (iN bb)), some (.int (iN hh)), some (.int (iN ll)), some (.int (iN need)), some (.int (iN (((coins - bb) - hh) - ll))), some (.int (iN left)), some (.int (iN right)), some (.int (iN ((left / 100) + (right / 100)))), some (.int (iN (((left / 10) % 10) + ((right / 10) % 10)))), some (.int (iN ((left % 10) + (right % 10)))), some (.int (iN (((dsum left.toNat : Nat) : Int) - ((dsum right.toNat : Nat) : Int)))), some (.int (iN 0))]) cx dX3_canDo_154 (by decide) rfl rfl ?_
              refine g_iload (q := 158) cx dX3_canDo_156 rfl rfl ?_
              refine g_if_eq (q := 161) (tg := 183) cx dX3_canDo_158 (by decide) rfl (fun _ => ?_) (fun h => absurd h (by decide))
              refine g_iinc (q := 186) (v := iN (right + 1)) (lv2 := [some (.ref mo), some (.int (iN bb)), some (.int (iN hh)), some (.int (iN ll)), some (.int (iN need)), some (.int (iN (((coins - bb) - hh) - ll))), some (.int (iN left)), some (.int (iN (right + 1))), some (.int (iN ((left / 100) + (right / 100)))), some (.int (iN (((left / 10) % 10) + ((right / 10) % 10)))), some (.int (iN ((left % 10) + (right % 10)))), some (.int (iN (((dsum left.toNat : Nat) : Int) - ((dsum right.toNat : Nat) : Int)))), some (.int (iN 0))]) cx dX3_canDo_183 rfl (iN_add _ _) (by decide) rfl rfl ?_
              refine g_goto (q := 26) cx dX3_canDo_186 (by decide) ?_
              refine g_wk (lv2 := [some (.ref mo), some (.int (iN bb)), some (.int (iN hh)), some (.int (iN ll)), some (.int (iN need)), some (.int (iN (((coins - bb) - hh) - ll))), some (.int (iN left)), some (.int (iN (right + 1))), none, none, none, none, none]) ⟨rfl, ⟨rfl, ⟨rfl, ⟨rfl, ⟨rfl, ⟨rfl, ⟨rfl, ⟨rfl, trivial⟩⟩⟩⟩⟩⟩⟩⟩ ?_
              exact ((ih _ vc.2).2) left (right + 1) bo he li vc.1 rfl
            · have vc := vc.2.2.2 h_11
              refine g_iload (q := 116) cx dX3_canDo_114 rfl rfl ?_
              refine g_iload_n (q := 117) cx dX3_canDo_116 rfl rfl ?_
              refine g_icmp_gtZ (q := 120) (tg := 153) cx vc.1 vc.2.1 dX3_canDo_117 (by decide) rfl (fun h_12 => ?_) (fun h_12 => ?_)
              · have vc := vc.2.2.1 h_12
                refine g_iconst (q := 154) (v := iN 0) cx dX3_canDo_153 rfl rfl ?_
                refine g_istore (q := 156) (lv2 := [some (.ref mo), some (.int (iN bb)), some (.int (iN hh)), some (.int (iN ll)), some (.int (iN need)), some (.int (iN (((coins - bb) - hh) - ll))), some (.int (iN left)), some (.int (iN right)), some (.int (iN ((left / 100) + (right / 100)))), some (.int (iN (((left / 10) % 10) + ((right / 10) % 10)))), some (.int (iN ((left % 10) + (right % 10)))), some (.int (iN (((dsum left.toNat : Nat) : Int) - ((dsum right.toNat : Nat) : Int)))), some (.int (iN 0))]) cx dX3_canDo_154 (by decide) rfl rfl ?_
                refine g_iload (q := 158) cx dX3_canDo_156 rfl rfl ?_
                refine g_if_eq (q := 161) (tg := 183) cx dX3_canDo_158 (by decide) rfl (fun _ => ?_) (fun h => absurd h (by decide))
                refine g_iinc (q := 186) (v := iN (right + 1)) (lv2 := [some (.ref mo), some (.int (iN bb)), some (.int (iN hh)), some (.int (iN ll)), some (.int (iN need)), some (.int (iN (((coins - bb) - hh) - ll))), some (.int (iN left)), some (.int (iN (right + 1))), some (.int (iN ((left / 100) + (right / 100)))), some (.int (iN (((left / 10) % 10) + ((right / 10) % 10)))), some (.int (iN ((left % 10) + (right % 10)))), some (.int (iN (((dsum left.toNat : Nat) : Int) - ((dsum right.toNat : Nat) : Int)))), some (.int (iN 0))]) cx dX3_canDo_183 rfl (iN_add _ _) (by decide) rfl rfl ?_
                refine g_goto (q := 26) cx dX3_canDo_186 (by decide) ?_
                refine g_wk (lv2 := [some (.ref mo), some (.int (iN bb)), some (.int (iN hh)), some (.int (iN ll)), some (.int (iN need)), some (.int (iN (((coins - bb) - hh) - ll))), some (.int (iN left)), some (.int (iN (right + 1))), none, none, none, none, none]) ⟨rfl, ⟨rfl, ⟨rfl, ⟨rfl, ⟨rfl, ⟨rfl, ⟨rfl, ⟨rfl, trivial⟩⟩⟩⟩⟩⟩⟩⟩ ?_
                exact ((ih _ vc.2).2) left (right + 1) bo he li vc.1 rfl
              · have vc := vc.2.2.2 h_12
                refine g_iload (q := 122) cx dX3_canDo_120 rfl rfl ?_
                refine g_iload (q := 124) cx dX3_canDo_122 rfl rfl ?_
                refine g_icmp_gtZ (q := 127) (tg := 153) cx vc.1 vc.2.1 dX3_canDo_124 (by decide) rfl (fun h_13 => ?_) (fun h_13 => ?_)
                · have vc := vc.2.2.1 h_13
                  refine g_iconst (q := 154) (v := iN 0) cx dX3_canDo_153 rfl rfl ?_
                  refine g_istore (q := 156) (lv2 := [some (.ref mo), some (.int (iN bb)), some (.int (iN hh)), some (.int (iN ll)), some (.int (iN need)), some (.int (iN (((coins - bb) - hh) - ll))), some (.int (iN left)), some (.int (iN right)), some (.int (iN ((left / 100) + (right / 100)))), some (.int (iN (((left / 10) % 10) + ((right / 10) % 10)))), some (.int (iN ((left % 10) + (right % 10)))), some (.int (iN (((dsum left.toNat : Nat) : Int) - ((dsum right.toNat : Nat) : Int)))), some (.int (iN 0))]) cx dX3_canDo_154 (by decide) rfl rfl ?_
                  refine g_iload (q := 158) cx dX3_canDo_156 rfl rfl ?_
                  refine g_if_eq (q := 161) (tg := 183) cx dX3_canDo_158 (by decide) rfl (fun _ => ?_) (fun h => absurd h (by decide))
                  refine g_iinc (q := 186) (v := iN (right + 1)) (lv2 := [some (.ref mo), some (.int (iN bb)), some (.int (iN hh)), some (.int (iN ll)), some (.int (iN need)), some (.int (iN (((coins - bb) - hh) - ll))), some (.int (iN left)), some (.int (iN (right + 1))), some (.int (iN ((left / 100) + (right / 100)))), some (.int (iN (((left / 10) % 10) + ((right / 10) % 10)))), some (.int (iN ((left % 10) + (right % 10)))), some (.int (iN (((dsum left.toNat : Nat) : Int) - ((dsum right.toNat : Nat) : Int)))), some (.int (iN 0))]) cx dX3_canDo_183 rfl (iN_add _ _) (by decide) rfl rfl ?_
                  refine g_goto (q := 26) cx dX3_canDo_186 (by decide) ?_
                  refine g_wk (lv2 := [some (.ref mo), some (.int (iN bb)), some (.int (iN hh)), some (.int (iN ll)), some (.int (iN need)), some (.int (iN (((coins - bb) - hh) - ll))), some (.int (iN left)), some (.int (iN (right + 1))), none, none, none, none, none]) ⟨rfl, ⟨rfl, ⟨rfl, ⟨rfl, ⟨rfl, ⟨rfl, ⟨rfl, ⟨rfl, trivial⟩⟩⟩⟩⟩⟩⟩⟩ ?_
                  exact ((ih _ vc.2).2) left (right + 1) bo he li vc.1 rfl
                · have vc := vc.2.2.2 h_13
                  refine g_iload (q := 129) cx dX3_canDo_127 rfl rfl ?_
                  refine g_inegZ (q := 130) cx dX3_canDo_129 rfl ?_
                  refine g_iload (q := 132) cx dX3_canDo_130 rfl rfl ?_
                  refine g_icmp_gtZ (q := 135) (tg := 153) cx vc.1 vc.2.1 dX3_canDo_132 (by decide) rfl (fun h_14 => ?_) (fun h_14 => ?_)
                  · have vc := vc.2.2.1 h_14
                    refine g_iconst (q := 154) (v := iN 0) cx dX3_canDo_153 rfl rfl ?_
                    refine g_istore (q := 156) (lv2 := [some (.ref mo), some (.int (iN bb)), some (.int (iN hh)), some (.int (iN ll)), some (.int (iN need)), some (.int (iN (((coins - bb) - hh) - ll))), some (.int (iN left)), some (.int (iN right)), some (.int (iN ((left / 100) + (right / 100)))), some (.int (iN (((left / 10) % 10) + ((right / 10) % 10)))), some (.int (iN ((left % 10) + (right % 10)))), some (.int (iN (((dsum left.toNat : Nat) : Int) - ((dsum right.toNat : Nat) : Int)))), some (.int (iN 0))]) cx dX3_canDo_154 (by decide) rfl rfl ?_
                    refine g_iload (q := 158) cx dX3_canDo_156 rfl rfl ?_
                    refine g_if_eq (q := 161) (tg := 183) cx dX3_canDo_158 (by decide) rfl (fun _ => ?_) (fun h => absurd h (by decide))
                    refine g_iinc (q := 186) (v := iN (right + 1)) (lv2 := [some (.ref mo), some (.int (iN bb)), some (.int (iN hh)), some (.int (iN ll)), some (.int (iN need)), some (.int (iN (((coins - bb) - hh) - ll))), some (.int (iN left)), some (.int (iN (right + 1))), some (.int (iN ((left / 100) + (right / 100)))), some (.int (iN (((left / 10) % 10) + ((right / 10) % 10)))), some (.int (iN ((left % 10) + (right % 10)))), some (.int (iN (((dsum left.toNat : Nat) : Int) - ((dsum right.toNat : Nat) : Int)))), some (.int (iN 0))]) cx dX3_canDo_183 rfl (iN_add _ _) (by decide) rfl rfl ?_
                    refine g_goto (q := 26) cx dX3_canDo_186 (by decide) ?_
                    refine g_wk (lv2 := [some (.ref mo), some (.int (iN bb)), some (.int (iN hh)), some (.int (iN ll)), some (.int (iN need)), some (.int (iN (((coins - bb) - hh) - ll))), some (.int (iN left)), some (.int (iN (right + 1))), none, none, none, none, none]) ⟨rfl, ⟨rfl, ⟨rfl, ⟨rfl, ⟨rfl, ⟨rfl, ⟨rfl, ⟨rfl, trivial⟩⟩⟩⟩⟩⟩⟩⟩ ?_
                    exact ((ih _ vc.2).2) left (right + 1) bo he li vc.1 rfl
                  · have vc := vc.2.2.2 h_14
                    refine g_iload (q := 137) cx dX3_canDo_135 rfl rfl ?_
                    refine g_cSr (q := 140) (As := [.int (iN left)]) (wr := [(mo, .inr (2, [.int (iN th), .ref am, .ref ae, .int (iN many), .ref ap, .ref ab, .ref aw, .int (iN coins), .ref ac, .ref an, .ref a0, .ref a1, .ref a2])), (an, .inl (T.2.1 0, 1000, .inl (zA needs))), (a0, .inl (T.2.1 0, 3, .inl (zA bo))), (a1, .inl (T.2.1 0, 3, .inl (zA he))), (a2, .inl (T.2.1 0, 3, .inl (zA li)))]) (st := []) cx hST (k_X3_sum l hlt T left (vc.1)) q1051 s_X3_sum rfl g_perm0 (g_rmB rfl) (Nat.le_of_ble_eq_true rfl) dX3_canDo_137 rfl (fun v_ hv_ => ?_)
                    have vc := vc.2
                    obtain ⟨r_15, rfl, e_16⟩ := hv_
                    subst e_16
                    refine g_st (st2 := [.int (iN ((dsum left.toNat : Nat) : Int))]) rfl ?_
                    refine g_iload (q := 142) cx dX3_canDo_140 rfl rfl ?_
                    refine g_cSr (q := 145) (As := [.int (iN right)]) (wr := [(mo, .inr (2, [.int (iN th), .ref am, .ref ae, .int (iN many), .ref ap, .ref ab, .ref aw, .int (iN coins), .ref ac, .ref an, .ref a0, .ref a1, .ref a2])), (an, .inl (T.2.1 0, 1000, .inl (zA needs))), (a0, .inl (T.2.1 0, 3, .inl (zA bo))), (a1, .inl (T.2.1 0, 3, .inl (zA he))), (a2, .inl (T.2.1 0, 3, .inl (zA li)))]) (st := [.int (iN ((dsum left.toNat : Nat) : Int))]) cx hST (k_X3_sum l hlt T right (vc.1)) q1051 s_X3_sum rfl g_perm0 (g_rmB rfl) (Nat.le_of_ble_eq_true rfl) dX3_canDo_142 rfl (fun v_ hv_ => ?_)
                    have vc := vc.2
                    obtain ⟨r_17, rfl, e_18⟩ := hv_
                    subst e_18
                    refine g_st (st2 := [.int (iN ((dsum right.toNat : Nat) : Int)), .int (iN ((dsum left.toNat : Nat) : Int))]) rfl ?_
                    refine g_iaddZ (q := 146) cx dX3_canDo_145 rfl ?_
                    refine g_if_leZ (q := 149) (tg := 153) cx vc.1 dX3_canDo_146 (by decide) rfl (fun h_19 => ?_) (fun h_19 => ?_)
                    · have vc := vc.2.1 h_19
                      refine g_iconst (q := 154) (v := iN 0) cx dX3_canDo_153 rfl rfl ?_
                      refine g_istore (q := 156) (lv2 := [some (.ref mo), some (.int (iN bb)), some (.int (iN hh)), some (.int (iN ll)), some (.int (iN need)), some (.int (iN (((coins - bb) - hh) - ll))), some (.int (iN left)), some (.int (iN right)), some (.int (iN ((left / 100) + (right / 100)))), some (.int (iN (((left / 10) % 10) + ((right / 10) % 10)))), some (.int (iN ((left % 10) + (right % 10)))), some (.int (iN (((dsum left.toNat : Nat) : Int) - ((dsum right.toNat : Nat) : Int)))), some (.int (iN 0))]) cx dX3_canDo_154 (by decide) rfl rfl ?_
                      refine g_iload (q := 158) cx dX3_canDo_156 rfl rfl ?_
                      refine g_if_eq (q := 161) (tg := 183) cx dX3_canDo_158 (by decide) rfl (fun _ => ?_) (fun h => absurd h (by decide))
                      refine g_iinc (q := 186) (v := iN (right + 1)) (lv2 := [some (.ref mo), some (.int (iN bb)), some (.int (iN hh)), some (.int (iN ll)), some (.int (iN need)), some (.int (iN (((coins - bb) - hh) - ll))), some (.int (iN left)), some (.int (iN (right + 1))), some (.int (iN ((left / 100) + (right / 100)))), some (.int (iN (((left / 10) % 10) + ((right / 10) % 10)))), some (.int (iN ((left % 10) + (right % 10)))), some (.int (iN (((dsum left.toNat : Nat) : Int) - ((dsum right.toNat : Nat) : Int)))), some (.int (iN 0))]) cx dX3_canDo_183 rfl (iN_add _ _) (by decide) rfl rfl ?_
                      refine g_goto (q := 26) cx dX3_canDo_186 (by decide) ?_
                      refine g_wk (lv2 := [some (.ref mo), some (.int (iN bb)), some (.int (iN hh)), some (.int (iN ll)), some (.int (iN need)), some (.int (iN (((coins - bb) - hh) - ll))), some (.int (iN left)), some (.int (iN (right + 1))), none, none, none, none, none]) ⟨rfl, ⟨rfl, ⟨rfl, ⟨rfl, ⟨rfl, ⟨rfl, ⟨rfl, ⟨rfl, trivial⟩⟩⟩⟩⟩⟩⟩⟩ ?_
                      exact ((ih _ vc.2).2) left (right + 1) bo he li vc.1 rfl
                    · have vc := vc.2.2 h_19
                      refine g_iconst (q := 150) (v := iN 1) cx dX3_canDo_149 rfl rfl ?_
                      refine g_goto (q := 154) cx dX3_canDo_150 (by decide) ?_
                      refine g_istore (q := 156) (lv2 := [some (.ref mo), some (.int (iN bb)), some (.int (iN hh)), some (.int (iN ll)), some (.int (iN need)), some (.int (iN (((coins - bb) - hh) - ll))), some (.int (iN left)), some (.int (iN right)), some (.int (iN ((left / 100) + (right / 100)))), some (.int (iN (((left / 10) % 10) + ((right / 10) % 10)))), some (.int (iN ((left % 10) + (right % 10)))), some (.int (iN (((dsum left.toNat : Nat) : Int) - ((dsum right.toNat : Nat) : Int)))), some (.int (iN 1))]) cx dX3_canDo_154 (by decide) rfl rfl ?_
                      refine g_iload (q := 158) cx dX3_canDo_156 rfl rfl ?_
                      refine g_if_eq (q := 161) (tg := 183) cx dX3_canDo_158 (by decide) rfl (fun h => absurd h (by decide)) (fun _ => ?_)
                      refine g_aload_n (q := 162) cx dX3_canDo_161 rfl rfl ?_
                      refine g_iload_n (q := 163) cx dX3_canDo_162 rfl rfl ?_
                      refine g_iload_n (q := 164) cx dX3_canDo_163 rfl rfl ?_
                      refine g_iload_n (q := 165) cx dX3_canDo_164 rfl rfl ?_
                      refine g_iload (q := 167) cx dX3_canDo_165 rfl rfl ?_
                      refine g_iload (q := 169) cx dX3_canDo_167 rfl rfl ?_
                      refine g_cVw (q := 172) (b := mo) (As := [.int (iN bb), .int (iN hh), .int (iN ll), .int (iN left), .int (iN right)]) (wr := [(an, .inl (T.2.1 0, 1000, .inl (zA needs)))]) (st := []) cx hST hrw (k_X3_split l hlt T mo am ae ap ab aw ac an a0 a1 a2 th many coins bo he li bb hh ll left right (vc.1) (vc.2.1)) q1054 s_X3_split rfl 0 rfl rfl (g_perm [1, 0, 2, 3, 4] rfl rfl) (g_rmB rfl) (Nat.le_of_ble_eq_true rfl) dX3_canDo_169 rfl (fun v_ wn_ hv_ => ?_)
                      have vc := vc.2
                      have vc := vc.2
                      obtain ⟨both2_20, heavy2_21, light2_22, rfl, rfl, e_23⟩ := hv_
                      obtain ⟨rfl, rfl, rfl⟩ := e_23
                      refine g_wp (ws2 := [(mo, .inr (2, [.int (iN th), .ref am, .ref ae, .int (iN many), .ref ap, .ref ab, .ref aw, .int (iN coins), .ref ac, .ref an, .ref a0, .ref a1, .ref a2])), (an, .inl (T.2.1 0, 1000, .inl (zA needs))), (a0, .inl (T.2.1 0, 3, .inl (zA (spB bb left right bo)))), (a1, .inl (T.2.1 0, 3, .inl (zA (spH hh left right he)))), (a2, .inl (T.2.1 0, 3, .inl (zA (spL ll left right li))))]) (g_perm [1, 0, 2, 3, 4] rfl rfl) ?_
                      refine g_cs (cells2 := 0) (slots2 := 0) (ws2 := [(mo, .inr (2, [.int (iN th), .ref am, .ref ae, .int (iN many), .ref ap, .ref ab, .ref aw, .int (iN coins), .ref ac, .ref an, .ref a0, .ref a1, .ref a2])), (an, .inl (T.2.1 0, 1000, .inl (zA needs))), (a0, .inl (T.2.1 0, 3, .inl (zA (spB bb left right bo)))), (a1, .inl (T.2.1 0, 3, .inl (zA (spH hh left right he)))), (a2, .inl (T.2.1 0, 3, .inl (zA (spL ll left right li))))]) rfl rfl rfl ?_
                      refine g_st (st2 := []) rfl ?_
                      refine g_aload_n (q := 173) cx dX3_canDo_172 rfl rfl ?_
                      refine g_cVr (q := 176) (b := mo) (As := []) (wr := []) (st := []) cx hST (k_X3_worst l hlt T mo am ae ap ab aw ac an a0 a1 a2 th many coins needs (spB bb left right bo) (spH hh left right he) (spL ll left right li) (vc.1) (vc.2.1)) q1058 s_X3_worst rfl 0 rfl rfl g_perm1 (g_rmB rfl) (Nat.le_of_ble_eq_true rfl) dX3_canDo_173 rfl (fun v_ hv_ => ?_)
                      have vc := vc.2
                      have vc := vc.2
                      obtain ⟨r_24, rfl, e_25⟩ := hv_
                      subst e_25
                      refine g_st (st2 := [.int (iN (mx (mx (nofZ needs ((spB bb left right bo) 0) ((spH hh left right he) 0) ((spL ll left right li) 0)) (nofZ needs ((spB bb left right bo) 1) ((spH hh left right he) 1) ((spL ll left right li) 1))) (nofZ needs ((spB bb left right bo) 2) ((spH hh left right he) 2) ((spL ll left right li) 2))))]) rfl ?_
                      refine g_iload (q := 178) cx dX3_canDo_176 rfl rfl ?_
                      refine g_icmp_geZ (q := 181) (tg := 183) cx vc.1 vc.2.1 dX3_canDo_178 (by decide) rfl (fun h_26 => ?_) (fun h_26 => ?_)
                      · have vc := vc.2.2.1 h_26
                        refine g_iinc (q := 186) (v := iN (right + 1)) (lv2 := [some (.ref mo), some (.int (iN bb)), some (.int (iN hh)), some (.int (iN ll)), some (.int (iN need)), some (.int (iN (((coins - bb) - hh) - ll))), some (.int (iN left)), some (.int (iN (right + 1))), some (.int (iN ((left / 100) + (right / 100)))), some (.int (iN (((left / 10) % 10) + ((right / 10) % 10)))), some (.int (iN ((left % 10) + (right % 10)))), some (.int (iN (((dsum left.toNat : Nat) : Int) - ((dsum right.toNat : Nat) : Int)))), some (.int (iN 1))]) cx dX3_canDo_183 rfl (iN_add _ _) (by decide) rfl rfl ?_
                        refine g_goto (q := 26) cx dX3_canDo_186 (by decide) ?_
                        refine g_wk (lv2 := [some (.ref mo), some (.int (iN bb)), some (.int (iN hh)), some (.int (iN ll)), some (.int (iN need)), some (.int (iN (((coins - bb) - hh) - ll))), some (.int (iN left)), some (.int (iN (right + 1))), none, none, none, none, none]) ⟨rfl, ⟨rfl, ⟨rfl, ⟨rfl, ⟨rfl, ⟨rfl, ⟨rfl, ⟨rfl, trivial⟩⟩⟩⟩⟩⟩⟩⟩ ?_
                        exact ((ih _ vc.2).2) left (right + 1) (spB bb left right bo) (spH hh left right he) (spL ll left right li) vc.1 rfl
                      · have vc := vc.2.2.2 h_26
                        refine g_iconst (q := 182) (v := iN 1) cx dX3_canDo_181 rfl rfl ?_
                        exact g_iretW cx hr (by decide) ⟨true, (spB bb left right bo), (spH hh left right he), (spL ll left right li), rfl, rfl, vc⟩ (by first | exact Nat.le_of_ble_eq_true rfl | omega) (by first | exact Nat.le_of_ble_eq_true rfl | omega) dX3_canDo_182
  have vc := v0_
  refine g_aload_n (q := 1) cx dX3_canDo_0 rfl rfl ?_
  refine g_get (q := 4) cx k_cX3 0 rfl 7 (by decide) q1077 (Or.inl rfl) rfl dX3_canDo_1 rfl ?_
  refine g_iload_n (q := 5) cx dX3_canDo_4 rfl rfl ?_
  refine g_isubZ (q := 6) cx dX3_canDo_5 rfl ?_
  refine g_iload_n (q := 7) cx dX3_canDo_6 rfl rfl ?_
  refine g_isubZ (q := 8) cx dX3_canDo_7 rfl ?_
  refine g_iload_n (q := 9) cx dX3_canDo_8 rfl rfl ?_
  refine g_isubZ (q := 10) cx dX3_canDo_9 rfl ?_
  refine g_istore (q := 12) (lv2 := [some (.ref mo), some (.int (iN bb)), some (.int (iN hh)), some (.int (iN ll)), some (.int (iN need)), some (.int (iN (((coins - bb) - hh) - ll))), none, none, none, none, none, none, none]) cx dX3_canDo_10 (by decide) rfl rfl ?_
  refine g_iconst (q := 13) (v := iN 0) cx dX3_canDo_12 rfl rfl ?_
  refine g_istore (q := 15) (lv2 := [some (.ref mo), some (.int (iN bb)), some (.int (iN hh)), some (.int (iN ll)), some (.int (iN need)), some (.int (iN (((coins - bb) - hh) - ll))), some (.int (iN 0)), none, none, none, none, none, none]) cx dX3_canDo_13 (by decide) rfl rfl ?_
  exact ((key _).1) 0 both heavy light vc rfl

theorem k_X3_canDo (l : Launch) (hlt : l.stackTraces = false) (T : GT) (mo : Nat) (am : Nat) (ae : Nat) (ap : Nat) (ab : Nat) (aw : Nat) (ac : Nat) (an : Nat) (a0 : Nat) (a1 : Nat) (a2 : Nat) (th : Int) (many : Int) (coins : Int) (needs : Nat → Int) (both : Nat → Int) (heavy : Nat → Int) (light : Nat → Int) (bb : Int) (hh : Int) (ll : Int) (need : Int) (hp0 : 0 ≤ bb ∧ 0 ≤ hh ∧ 0 ≤ ll ∧ bb + hh + ll ≤ coins ∧ coins ≤ 9) (hp1 : rngN needs) (hp2 : 0 ≤ need ∧ need ≤ 99) : MW l T yX3_canDo cX3_canDo 13 (some .boolean) ({ frames := 3, cells := 0, slots := 0, locals := 64 }) [.ref mo, .int (iN bb), .int (iN hh), .int (iN ll), .int (iN need)] [(mo, .inr (2, [.int (iN th), .ref am, .ref ae, .int (iN many), .ref ap, .ref ab, .ref aw, .int (iN coins), .ref ac, .ref an, .ref a0, .ref a1, .ref a2])), (an, .inl (T.2.1 0, 1000, .inl (zA needs))), (a0, .inl (T.2.1 0, 3, .inl (zA both))), (a1, .inl (T.2.1 0, 3, .inl (zA heavy))), (a2, .inl (T.2.1 0, 3, .inl (zA light)))] (fun v_ wn_ => ∃ (b2 : Bool), ∃ (both2 : Nat → Int), ∃ (heavy2 : Nat → Int), ∃ (light2 : Nat → Int), v_ = some (.int (bI b2)) ∧ wn_ = [(mo, .inr (2, [.int (iN th), .ref am, .ref ae, .int (iN many), .ref ap, .ref ab, .ref aw, .int (iN coins), .ref ac, .ref an, .ref a0, .ref a1, .ref a2])), (an, .inl (T.2.1 0, 1000, .inl (zA needs))), (a0, .inl (T.2.1 0, 3, .inl (zA both2))), (a1, .inl (T.2.1 0, 3, .inl (zA heavy2))), (a2, .inl (T.2.1 0, 3, .inl (zA light2)))] ∧ b2 = (canDoF needs (coins.toNat - bb.toNat - hh.toNat - ll.toNat) bb.toNat hh.toNat ll.toNat need)) 0 0 := by
  rw [canDoF_out]
  refine w_X3_canDo l hlt T mo am ae ap ab aw ac an a0 a1 a2 th many coins needs both heavy light bb hh ll need (I15 := fun left bo he li => ∃ x : Nat, x ≤ 1000 ∧ left = x ∧ anyB (outF needs (coins.toNat - bb.toNat - hh.toNat - ll.toNat) bb.toNat hh.toNat ll.toNat need) x = false) (M15 := fun left _ _ _ => ((1000 - left).toNat, 1, 0, 0))
    (I26 := fun left right bo he li => ∃ x y : Nat, x < 1000 ∧ y ≤ x + 1 ∧ left = x ∧ right = y ∧ anyB (outF needs (coins.toNat - bb.toNat - hh.toNat - ll.toNat) bb.toNat hh.toNat ll.toNat need) x = false ∧ anyB (inF needs (coins.toNat - bb.toNat - hh.toNat - ll.toNat) bb.toNat hh.toNat ll.toNat need x) y = false) (M26 := fun left right _ _ _ => ((1000 - left).toNat, 0, 0, (1001 - right).toNat)) _ ?_ ?_ ?_
  · exact ⟨0, by omega, rfl, rfl⟩
  · rintro left bo he li ⟨x, hx, rfl, ha⟩
    refine ⟨by omega, fun h => ?_, fun h => ⟨⟨x, 0, by omega, by omega, rfl, rfl, ha, rfl⟩, g_ltI (by omega)⟩⟩
    rw [show 1000 = x by omega, ha]
  · obtain ⟨b, rfl⟩ := Int.eq_ofNat_of_zero_le hp0.1
    obtain ⟨h, rfl⟩ := Int.eq_ofNat_of_zero_le hp0.2.1
    obtain ⟨k, rfl⟩ := Int.eq_ofNat_of_zero_le hp0.2.2.1
    obtain ⟨cn, rfl⟩ := Int.eq_ofNat_of_zero_le (show 0 ≤ coins by omega)
    simp only [Int.toNat_natCast]
    have hs9 : b + h + k ≤ cn ∧ cn ≤ 9 := by omega
    have hgood : (cn : Int) - b - h - k = ((cn - b - h - k : Nat) : Int) := by omega
    rw [hgood]
    generalize hgg : cn - b - h - k = g
    rintro left right bo he li ⟨x, y, hx, hy, rfl, rfl, ha, hb⟩
    simp only [Int.toNat_natCast]
    have nextX : anyB (outF needs g b h k need) (x + 1) = (anyB (outF needs g b h k need) x || (fitsN x b h k && anyB (inF needs g b h k need x) (x + 1))) := rfl
    have nextY : anyB (inF needs g b h k need x) (y + 1) = (anyB (inF needs g b h k need x) y || (okLR g b h k x y && decide (worstLR needs b h k x y < need))) := rfl
    have no : y ≤ x → okLR g b h k x y = false → (∃ x_1 y_1 : Nat, x_1 < 1000 ∧ y_1 ≤ x_1 + 1 ∧ (x : Int) = x_1 ∧ (y : Int) + 1 = y_1 ∧ anyB (outF needs g b h k need) x_1 = false ∧ anyB (inF needs g b h k need x_1) y_1 = false) := by
      intro h1 h2
      exact ⟨x, y + 1, hx, by omega, rfl, rfl, ha, by rw [nextY, hb, h2]; rfl⟩
    have okf : okLR g b h k x y = decide ((x / 100 + y / 100 ≤ b ∧ x / 10 % 10 + y / 10 % 10 ≤ h ∧ x % 10 + y % 10 ≤ k ∧ dsum x ≤ dsum y + g ∧ dsum y ≤ dsum x + g ∧ 0 < dsum x + dsum y)) := rfl
    have mlt : ∀ y2 : Nat, y2 ≤ x → g_lt ((1000 - (x : Int)).toNat, 0, 0, (1001 - ((y2 : Int) + 1)).toNat) ((1000 - (x : Int)).toNat, 0, 0, (1001 - (y2 : Int)).toNat) := fun y2 h2 => g_ltI (by omega)
    have mlt2 : g_lt ((1000 - ((x : Int) + 1)).toNat, 1, 0, 0) ((1000 - (x : Int)).toNat, 0, 0, (1001 - (y : Int)).toNat) := g_ltI (by omega)
    have hdx : dsum x ≤ 27 + x := by unfold dsum; omega
    have hdy : dsum y ≤ 27 + y := by unfold dsum; omega
    have rX : 0 ≤ (x : Int) ∧ (x : Int) < 1000 := by omega
    refine ⟨by omega, by omega, fun h1 => ⟨⟨x + 1, by omega, rfl, ?_⟩, mlt2⟩, fun h1 => ?_⟩
    · rw [nextX, ha, show x + 1 = y by omega, hb, Bool.and_false]; rfl
    · have hyx : y ≤ x := by omega
      have rY : 0 ≤ (y : Int) ∧ (y : Int) < 1000 := by omega
      have rX1 : 0 ≤ (x : Int) ∧ (x : Int) < 2147483648 := by omega
      have rY1 : 0 ≤ (y : Int) ∧ (y : Int) < 2147483648 := by omega
      have rX2 : 0 ≤ (x : Int) / 10 ∧ (x : Int) / 10 < 2147483648 := by omega
      have rY2 : 0 ≤ (y : Int) / 10 ∧ (y : Int) / 10 < 2147483648 := by omega
      refine ⟨rX, by omega, by omega, by omega, fun hf => ⟨⟨x + 1, by omega, rfl, ?_⟩, mlt2⟩, fun hf => ⟨rX1, rY1, rX1, rX2, rY1, rY2, rX1, rY1, rX, rY, ?_⟩⟩
      · rw [nextX, ha, hf]; rfl
      · have sr := @sp_rng b h k x y bo he li (by omega)
        have sw := @sp_worst needs b h k x y bo he li
        have m := mlt y hyx
        simp only [zc1, zc2, zc3] at *
        have l1 : x / 100 ≤ 9 := by omega
        have l2 : x / 10 % 10 ≤ 9 := by omega
        have l3 : x % 10 ≤ 9 := by omega
        have l4 : y / 100 ≤ 9 := by omega
        have l5 : y / 10 % 10 ≤ 9 := by omega
        have l6 : y % 10 ≤ 9 := by omega
        generalize x / 100 = x1 at *
        generalize y / 100 = y1 at *
        generalize x / 10 % 10 = x2 at *
        generalize y / 10 % 10 = y2 at *
        generalize x % 10 = x3 at *
        generalize y % 10 = y3 at *
        have hbk : b ≤ 9 ∧ h ≤ 9 ∧ k ≤ 9 := by omega
        have hg9 : ((g : Nat) : Int) = (cn : Int) - b - h - k := by rw [← hgg]; exact hgood.symm
        have hg10 : g ≤ 9 := by omega
        refine ⟨by omega, by omega, fun c1 => ⟨no hyx (by rw [okf]; exact decide_eq_false (by omega)), m⟩, fun c1 => ⟨by omega, by omega, fun c2 => ⟨no hyx (by rw [okf]; exact decide_eq_false (by omega)), m⟩, fun c2 => ⟨by omega, by omega, fun c3 => ⟨no hyx (by rw [okf]; exact decide_eq_false (by omega)), m⟩, fun c3 => ⟨by omega, by omega, fun c4 => ⟨no hyx (by rw [okf]; exact decide_eq_false (by omega)), m⟩, fun c4 => ⟨by omega, by omega, fun c5 => ⟨no hyx (by rw [okf]; exact decide_eq_false (by omega)), m⟩, fun c5 => ⟨rX, rY, by omega, fun c6 => ⟨no hyx (by rw [okf]; exact decide_eq_false (by omega)), m⟩, fun c6 => ⟨rX, rY, ?_, hp1, ?_⟩⟩⟩⟩⟩⟩⟩
        · exact sr (by omega) (by omega) (by omega)
        · have ok1 : okLR g b h k x y = true := by rw [okf]; exact decide_eq_true (by omega)
          have sr2 := sr (by omega) (by omega) (by omega)
          have a0 := nofZ_in hp1 (sr2 0 (by omega)).1 (sr2 0 (by omega)).2.1 (sr2 0 (by omega)).2.2
          have a1 := nofZ_in hp1 (sr2 1 (by omega)).1 (sr2 1 (by omega)).2.1 (sr2 1 (by omega)).2.2
          have a2 := nofZ_in hp1 (sr2 2 (by omega)).1 (sr2 2 (by omega)).2.1 (sr2 2 (by omega)).2.2
          rw [sw (by omega) (by omega) (by omega)]
          have wr : -2147483648 ≤ worstLR needs b h k x y ∧ worstLR needs b h k x y < 2147483648 := by
            rw [← sw (by omega) (by omega) (by omega)]
            unfold mx
            repeat' split
            all_goals omega
          refine ⟨wr, by omega, fun c7 => ⟨⟨x, y + 1, hx, by omega, rfl, rfl, ha, ?_⟩, m⟩, fun c7 => ?_⟩
          · rw [nextY, hb, ok1, decide_eq_false (by omega)]; rfl
          · refine ((anyB_iff (f := outF needs g b h k need) (n := 1000)).mpr ⟨x, hx, ?_⟩).symm
            unfold outF
            rw [hf, Bool.true_and, anyB_iff]
            exact ⟨y, by omega, by unfold inF; rw [ok1, decide_eq_true c7]; rfl⟩
