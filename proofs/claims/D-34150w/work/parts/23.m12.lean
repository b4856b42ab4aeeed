theorem pmN_ex {pr : Nat → Int} : ∀ {n : Nat}, ¬ pmN pr n = 0 → ∃ i, i < n ∧ ¬ pr i = 0
  | 0, h => absurd rfl h
  | n + 1, h => by
    by_cases g : pmN pr n = 0
    · refine ⟨n, by omega, fun h0 => h ?_⟩
      show pmN pr n + pm1 (pr n) = 0
      rw [g, h0]
      rfl
    · obtain ⟨i, hi, h1⟩ := pmN_ex g
      exact ⟨i, by omega, h1⟩
theorem firstO_le {α : Type} {f : Nat → Option α} : ∀ {n m : Nat}, firstO f n = none → m ≤ n → firstO f m = none
  | 0, m, h, hm => by rw [show m = 0 by omega]; rfl
  | n + 1, m, h, hm => by
    have h' : (match firstO f n with | some x => some x | none => f n) = none := h
    cases e : firstO f n with
    | some y => rw [e] at h'; exact nomatch h'
    | none =>
      by_cases g : m = n + 1
      · rw [g]; exact h
      · exact firstO_le e (by omega)
def fcoin (pr : Nat → Int) : Nat := firstF (fun m => decide (pr m = 0)) 9 0
def gdN : Option (Nat × Nat) → Nat
  | none => 0
  | some (x, y) => (y * 2 ^ 9) ||| x
def gdx : Option (Nat × Nat) → Nat
  | none => 0
  | some (x, y) => x
def gdy : Option (Nat × Nat) → Nat
  | none => 0
  | some (x, y) => y
theorem gd_or {x y : Nat} (hx : x < 512) : y * 2 ^ 9 ||| x = y * 512 + x := by
  have h := Nat.shiftLeft_add_eq_or_of_lt (i := 9) (b := x) (by omega) y
  rw [Nat.shiftLeft_eq] at h
  omega
theorem gdN_in {o : Option (Nat × Nat)} (h : ∀ x y, o = some (x, y) → x < 512 ∧ y < 512) : gdN o < 262144 ∧ gdN o &&& 511 = gdx o ∧ gdN o >>> 9 = gdy o := by
  cases o with
  | none => exact ⟨by decide, by decide, by decide⟩
  | some p =>
    obtain ⟨x, y⟩ := p
    obtain ⟨h1, h2⟩ := h x y rfl
    have e := gd_or (x := x) (y := y) h1
    have m := Nat.and_two_pow_sub_one_eq_mod (y * 512 + x) 9
    have d := Nat.shiftRight_eq_div_pow (y * 512 + x) 9
    simp only [gdN, gdx, gdy, e]
    refine ⟨by omega, ?_, ?_⟩
    · rw [show 511 = 2 ^ 9 - 1 by decide, m]; omega
    · rw [d]; omega

set_option maxRecDepth 100000 in
set_option maxHeartbeats 4000000 in
theorem w_X3_coins (l : Launch) (hlt : l.stackTraces = false) (T : GT) (mo : Nat) (am : Nat) (ae : Nat) (ap : Nat) (ab : Nat) (aw : Nat) (ac : Nat) (an : Nat) (a0 : Nat) (a1 : Nat) (a2 : Nat) (th : Int) (many : Int) (coins : Int)  (post : Int → Int → Prop) (v0_ : post coins 0)  : MW l T yX3_coins cX3_coins 1 (some .int) ({ frames := 0, cells := 0, slots := 0, locals := 0 }) [.ref mo] [(mo, .inr (2, [.int (iN th), .ref am, .ref ae, .int (iN many), .ref ap, .ref ab, .ref aw, .int (iN coins), .ref ac, .ref an, .ref a0, .ref a1, .ref a2]))] (fun v_ wn_ => ∃ (r : Int), ∃ (th2 : Int), v_ = some (.int (iN r)) ∧ wn_ = [(mo, .inr (2, [.int (iN th2), .ref am, .ref ae, .int (iN many), .ref ap, .ref ab, .ref aw, .int (iN coins), .ref ac, .ref an, .ref a0, .ref a1, .ref a2]))] ∧ post r th2) 0 0 := by
  refine MW.start hlt (by decide) (lv0 := [some (.ref mo)]) rfl (Nat.le_of_ble_eq_true rfl) rfl ?_
  intro p e R s m args below meth c A cx hr hnm hST hrw
  have vc := v0_
  refine g_aload_n (q := 1) cx dX3_coins_0 rfl rfl ?_
  refine g_iconst (q := 2) (v := iN 0) cx dX3_coins_1 rfl rfl ?_
  refine g_put (q := 5) (ws2 := [(mo, .inr (2, [.int (iN 0), .ref am, .ref ae, .int (iN many), .ref ap, .ref ab, .ref aw, .int (iN coins), .ref ac, .ref an, .ref a0, .ref a1, .ref a2]))]) cx hrw k_cX3 0 rfl 0 (by decide) q1070 (Or.inl rfl) rfl rfl rfl (Nat.le_of_ble_eq_true rfl) rfl dX3_coins_2 rfl ?_
  refine g_aload_n (q := 6) cx dX3_coins_5 rfl rfl ?_
  refine g_get (q := 9) cx k_cX3 0 rfl 7 (by decide) q1077 (Or.inl rfl) rfl dX3_coins_6 rfl ?_
  exact g_iretW cx hr rfl ⟨coins, 0, rfl, rfl, vc⟩ (by first | exact Nat.le_of_ble_eq_true rfl | omega) (by first | exact Nat.le_of_ble_eq_true rfl | omega) dX3_coins_9

theorem k_X3_coins (l : Launch) (hlt : l.stackTraces = false) (T : GT) (mo : Nat) (am : Nat) (ae : Nat) (ap : Nat) (ab : Nat) (aw : Nat) (ac : Nat) (an : Nat) (a0 : Nat) (a1 : Nat) (a2 : Nat) (th : Int) (many : Int) (coins : Int)  : MW l T yX3_coins cX3_coins 1 (some .int) ({ frames := 0, cells := 0, slots := 0, locals := 0 }) [.ref mo] [(mo, .inr (2, [.int (iN th), .ref am, .ref ae, .int (iN many), .ref ap, .ref ab, .ref aw, .int (iN coins), .ref ac, .ref an, .ref a0, .ref a1, .ref a2]))] (fun v_ wn_ => ∃ (r : Int), ∃ (th2 : Int), v_ = some (.int (iN r)) ∧ wn_ = [(mo, .inr (2, [.int (iN th2), .ref am, .ref ae, .int (iN many), .ref ap, .ref ab, .ref aw, .int (iN coins), .ref ac, .ref an, .ref a0, .ref a1, .ref a2]))] ∧ r = coins ∧ th2 = 0) 0 0 := by
  exact w_X3_coins l hlt T mo am ae ap ab aw ac an a0 a1 a2 th many coins _ ⟨rfl, rfl⟩

set_option maxRecDepth 100000 in
set_option maxHeartbeats 4000000 in
theorem w_X3_possible (l : Launch) (hlt : l.stackTraces = false) (T : GT) (mo : Nat) (am : Nat) (ae : Nat) (ap : Nat) (ab : Nat) (aw : Nat) (ac : Nat) (an : Nat) (a0 : Nat) (a1 : Nat) (a2 : Nat) (th : Int) (many : Int) (coins : Int) (pairs : Nat → Int) (cn : Nat)  (post : Int → Int → Prop) (v0_ : (coins = cn ∧ cn ≤ 9) ∧ ((prOK pairs) ∧ (post ((pmN pairs cn : Nat) : Int) 0)))  : MW l T yX3_possible cX3_possible 1 (some .int) ({ frames := 1, cells := 0, slots := 0, locals := 22 }) [.ref mo] [(mo, .inr (2, [.int (iN th), .ref am, .ref ae, .int (iN many), .ref ap, .ref ab, .ref aw, .int (iN coins), .ref ac, .ref an, .ref a0, .ref a1, .ref a2])), (ac, .inl (T.2.1 0, 9, .inl (zA pairs)))] (fun v_ wn_ => ∃ (r : Int), ∃ (th2 : Int), v_ = some (.int (iN r)) ∧ wn_ = [(mo, .inr (2, [.int (iN th2), .ref am, .ref ae, .int (iN many), .ref ap, .ref ab, .ref aw, .int (iN coins), .ref ac, .ref an, .ref a0, .ref a1, .ref a2])), (ac, .inl (T.2.1 0, 9, .inl (zA pairs)))] ∧ post r th2) 0 0 := by
  refine MW.start hlt (by decide) (lv0 := [some (.ref mo)]) rfl (Nat.le_of_ble_eq_true rfl) rfl ?_
  intro p e R s m args below meth c A cx hr hnm hST hrw
  have vc := v0_
  refine g_aload_n (q := 1) cx dX3_possible_0 rfl rfl ?_
  refine g_iconst (q := 2) (v := iN 0) cx dX3_possible_1 rfl rfl ?_
  refine g_put (q := 5) (ws2 := [(mo, .inr (2, [.int (iN 0), .ref am, .ref ae, .int (iN many), .ref ap, .ref ab, .ref aw, .int (iN coins), .ref ac, .ref an, .ref a0, .ref a1, .ref a2])), (ac, .inl (T.2.1 0, 9, .inl (zA pairs)))]) cx hrw k_cX3 0 rfl 0 (by decide) q1070 (Or.inl rfl) rfl rfl rfl (Nat.le_of_ble_eq_true rfl) rfl dX3_possible_2 rfl ?_
  refine g_aload_n (q := 6) cx dX3_possible_5 rfl rfl ?_
  refine g_cVr (q := 9) (b := mo) (As := []) (wr := []) (st := []) cx hST (k_X3_possibleMany l hlt T mo am ae ap ab aw ac an a0 a1 a2 0 many coins pairs cn (vc.1) (vc.2.1)) q1263 s_X3_possibleMany rfl 0 rfl rfl g_perm1 (g_rmB rfl) (Nat.le_of_ble_eq_true rfl) dX3_possible_6 rfl (fun v_ hv_ => ?_)
  have vc := vc.2
  have vc := vc.2
  obtain ⟨r_1, rfl, e_2⟩ := hv_
  subst e_2
  refine g_st (st2 := [.int (iN ((pmN pairs cn : Nat) : Int))]) rfl ?_
  exact g_iretW cx hr rfl ⟨((pmN pairs cn : Nat) : Int), 0, rfl, rfl, vc⟩ (by first | exact Nat.le_of_ble_eq_true rfl | omega) (by first | exact Nat.le_of_ble_eq_true rfl | omega) dX3_possible_9

theorem k_X3_possible (l : Launch) (hlt : l.stackTraces = false) (T : GT) (mo : Nat) (am : Nat) (ae : Nat) (ap : Nat) (ab : Nat) (aw : Nat) (ac : Nat) (an : Nat) (a0 : Nat) (a1 : Nat) (a2 : Nat) (th : Int) (many : Int) (coins : Int) (pairs : Nat → Int) (cn : Nat) (hp0 : coins = cn ∧ cn ≤ 9) (hp1 : prOK pairs) : MW l T yX3_possible cX3_possible 1 (some .int) ({ frames := 1, cells := 0, slots := 0, locals := 22 }) [.ref mo] [(mo, .inr (2, [.int (iN th), .ref am, .ref ae, .int (iN many), .ref ap, .ref ab, .ref aw, .int (iN coins), .ref ac, .ref an, .ref a0, .ref a1, .ref a2])), (ac, .inl (T.2.1 0, 9, .inl (zA pairs)))] (fun v_ wn_ => ∃ (r : Int), ∃ (th2 : Int), v_ = some (.int (iN r)) ∧ wn_ = [(mo, .inr (2, [.int (iN th2), .ref am, .ref ae, .int (iN many), .ref ap, .ref ab, .ref aw, .int (iN coins), .ref ac, .ref an, .ref a0, .ref a1, .ref a2])), (ac, .inl (T.2.1 0, 9, .inl (zA pairs)))] ∧ r = ((pmN pairs cn : Nat) : Int) ∧ th2 = 0) 0 0 := by
  exact w_X3_possible l hlt T mo am ae ap ab aw ac an a0 a1 a2 th many coins pairs cn _ ⟨hp0, hp1, rfl, rfl⟩

set_option maxRecDepth 100000 in
set_option maxHeartbeats 4000000 in
theorem w_X3_mayBe (l : Launch) (hlt : l.stackTraces = false) (T : GT) (mo : Nat) (am : Nat) (ae : Nat) (ap : Nat) (ab : Nat) (aw : Nat) (ac : Nat) (an : Nat) (a0 : Nat) (a1 : Nat) (a2 : Nat) (th : Int) (many : Int) (coins : Int) (pairs : Nat → Int) (coin : Int) (hv : Bool) (cn : Nat)  (post : Bool → Int → Prop) (v0_ : (-2147483648 ≤ coin ∧ coin < 2147483648) ∧ ((-2147483648 ≤ (coins - 1) ∧ (coins - 1) < 2147483648) ∧ (((decide ((0 : Int) ≤ coin) && decide (coin ≤ (coins - 1))) = false → (post false 1)) ∧ ((decide ((0 : Int) ≤ coin) && decide (coin ≤ (coins - 1))) = true → ((0 ≤ coin ∧ coin < 9) ∧ ((hv = false → ((0 ≤ (pairs coin.toNat) ∧ (pairs coin.toNat) < 2147483648) ∧ ((-2147483648 ≤ (((pairs coin.toNat).toNat &&& 2 : Nat) : Int) ∧ (((pairs coin.toNat).toNat &&& 2 : Nat) : Int) < 2147483648) ∧ (((((pairs coin.toNat).toNat &&& 2 : Nat) : Int) = 0 → (post false 0)) ∧ (¬ (((pairs coin.toNat).toNat &&& 2 : Nat) : Int) = 0 → (post true 0)))))) ∧ (hv = true → ((0 ≤ (pairs coin.toNat) ∧ (pairs coin.toNat) < 2147483648) ∧ ((-2147483648 ≤ (((pairs coin.toNat).toNat &&& 1 : Nat) : Int) ∧ (((pairs coin.toNat).toNat &&& 1 : Nat) : Int) < 2147483648) ∧ (((((pairs coin.toNat).toNat &&& 1 : Nat) : Int) = 0 → (post false 0)) ∧ (¬ (((pairs coin.toNat).toNat &&& 1 : Nat) : Int) = 0 → (post true 0))))))))))))  : MW l T yX3_mayBe cX3_mayBe 3 (some .boolean) ({ frames := 1, cells := 0, slots := 0, locals := 22 }) [.ref mo, .int (iN coin), .int (bI hv)] [(mo, .inr (2, [.int (iN th), .ref am, .ref ae, .int (iN many), .ref ap, .ref ab, .ref aw, .int (iN coins), .ref ac, .ref an, .ref a0, .ref a1, .ref a2])), (ac, .inl (T.2.1 0, 9, .inl (zA pairs)))] (fun v_ wn_ => ∃ (b2 : Bool), ∃ (th2 : Int), v_ = some (.int (bI b2)) ∧ wn_ = [(mo, .inr (2, [.int (iN th2), .ref am, .ref ae, .int (iN many), .ref ap, .ref ab, .ref aw, .int (iN coins), .ref ac, .ref an, .ref a0, .ref a1, .ref a2])), (ac, .inl (T.2.1 0, 9, .inl (zA pairs)))] ∧ post b2 th2) 0 0 := by
  refine MW.start hlt (by decide) (lv0 := [some (.ref mo), some (.int (iN coin)), some (.int (bI hv))]) rfl (Nat.le_of_ble_eq_true rfl) rfl ?_
  intro p e R s m args below meth c A cx hr hnm hST hrw
  have vc := v0_
  refine g_aload_n (q := 1) cx dX3_mayBe_0 rfl rfl ?_
  refine g_iload_n (q := 2) cx dX3_mayBe_1 rfl rfl ?_
  refine g_iconst (q := 3) (v := iN 0) cx dX3_mayBe_2 rfl rfl ?_
  refine g_aload_n (q := 4) cx dX3_mayBe_3 rfl rfl ?_
  refine g_get (q := 7) cx k_cX3 0 rfl 7 (by decide) q1077 (Or.inl rfl) rfl dX3_mayBe_4 rfl ?_
  refine g_iconst (q := 8) (v := iN 1) cx dX3_mayBe_7 rfl rfl ?_
  refine g_isubZ (q := 9) cx dX3_mayBe_8 rfl ?_
  refine g_cSr (q := 12) (As := [.int (iN coin), .int (iN 0), .int (iN (coins - 1))]) (wr := [(mo, .inr (2, [.int (iN th), .ref am, .ref ae, .int (iN many), .ref ap, .ref ab, .ref aw, .int (iN coins), .ref ac, .ref an, .ref a0, .ref a1, .ref a2])), (ac, .inl (T.2.1 0, 9, .inl (zA pairs)))]) (st := [.ref mo]) cx hST (k_X3_in l hlt T coin 0 (coins - 1) (vc.1) (by decide) (vc.2.1)) q1119 s_X3_in rfl g_perm0 (g_rmB rfl) (Nat.le_of_ble_eq_true rfl) dX3_mayBe_9 rfl (fun v_ hv_ => ?_)
  have vc := vc.2
  have vc := vc.2
  obtain ⟨b_1, rfl, e_2⟩ := hv_
  subst e_2
  refine g_st (st2 := [.int (bI (decide ((0 : Int) ≤ coin) && decide (coin ≤ (coins - 1)))), .ref mo]) rfl ?_
  refine g_if_eq (q := 15) (tg := 19) cx dX3_mayBe_12 (by decide) rfl (fun h_3 => ?_) (fun h_3 => ?_)
  · have vc := vc.1 (bI_0.mp h_3)
    refine g_iconst (q := 20) (v := iN 1) cx dX3_mayBe_19 rfl rfl ?_
    refine g_cVw (q := 23) (b := mo) (As := [.int (iN 1)]) (wr := [(ac, .inl (T.2.1 0, 9, .inl (zA pairs)))]) (st := []) cx hST hrw (k_X3_goesWell l hlt T mo am ae ap ab aw ac an a0 a1 a2 th many coins 1 (by decide)) q1122 s_X3_goesWell rfl 0 rfl rfl (g_perm [1, 0] rfl rfl) (g_rmB rfl) (Nat.le_of_ble_eq_true rfl) dX3_mayBe_20 rfl (fun v_ wn_ hv_ => ?_)
    obtain ⟨b_4, th2_5, rfl, rfl, e_6⟩ := hv_
    obtain ⟨rfl, rfl⟩ := e_6
    refine g_wp (ws2 := [(mo, .inr (2, [.int (iN 1), .ref am, .ref ae, .int (iN many), .ref ap, .ref ab, .ref aw, .int (iN coins), .ref ac, .ref an, .ref a0, .ref a1, .ref a2])), (ac, .inl (T.2.1 0, 9, .inl (zA pairs)))]) (g_perm [1, 0] rfl rfl) ?_
    refine g_cs (cells2 := 0) (slots2 := 0) (ws2 := [(mo, .inr (2, [.int (iN 1), .ref am, .ref ae, .int (iN many), .ref ap, .ref ab, .ref aw, .int (iN coins), .ref ac, .ref an, .ref a0, .ref a1, .ref a2])), (ac, .inl (T.2.1 0, 9, .inl (zA pairs)))]) rfl rfl rfl ?_
    refine g_st (st2 := [.int (bI false)]) rfl ?_
    refine g_if_eq (q := 26) (tg := 49) cx dX3_mayBe_23 (by decide) rfl (fun _ => ?_) (fun h => absurd h (by decide))
    refine g_iconst (q := 50) (v := iN 0) cx dX3_mayBe_49 rfl rfl ?_
    exact g_iretW cx hr (by decide) ⟨false, 1, rfl, rfl, vc⟩ (by first | exact Nat.le_of_ble_eq_true rfl | omega) (by first | exact Nat.le_of_ble_eq_true rfl | omega) dX3_mayBe_50
  · have vc := vc.2 (bI_n0.mp h_3)
    refine g_iconst (q := 16) (v := iN 0) cx dX3_mayBe_15 rfl rfl ?_
    refine g_goto (q := 20) cx dX3_mayBe_16 (by decide) ?_
    refine g_cVw (q := 23) (b := mo) (As := [.int (iN 0)]) (wr := [(ac, .inl (T.2.1 0, 9, .inl (zA pairs)))]) (st := []) cx hST hrw (k_X3_goesWell l hlt T mo am ae ap ab aw ac an a0 a1 a2 th many coins 0 (by decide)) q1122 s_X3_goesWell rfl 0 rfl rfl (g_perm [1, 0] rfl rfl) (g_rmB rfl) (Nat.le_of_ble_eq_true rfl) dX3_mayBe_20 rfl (fun v_ wn_ hv_ => ?_)
    obtain ⟨b_7, th2_8, rfl, rfl, e_9⟩ := hv_
    obtain ⟨rfl, rfl⟩ := e_9
    refine g_wp (ws2 := [(mo, .inr (2, [.int (iN 0), .ref am, .ref ae, .int (iN many), .ref ap, .ref ab, .ref aw, .int (iN coins), .ref ac, .ref an, .ref a0, .ref a1, .ref a2])), (ac, .inl (T.2.1 0, 9, .inl (zA pairs)))]) (g_perm [1, 0] rfl rfl) ?_
    refine g_cs (cells2 := 0) (slots2 := 0) (ws2 := [(mo, .inr (2, [.int (iN 0), .ref am, .ref ae, .int (iN many), .ref ap, .ref ab, .ref aw, .int (iN coins), .ref ac, .ref an, .ref a0, .ref a1, .ref a2])), (ac, .inl (T.2.1 0, 9, .inl (zA pairs)))]) rfl rfl rfl ?_
    refine g_st (st2 := [.int (bI true)]) rfl ?_
    refine g_if_eq (q := 26) (tg := 49) cx dX3_mayBe_23 (by decide) rfl (fun h => absurd h (by decide)) (fun _ => ?_)
    refine g_aload_n (q := 27) cx dX3_mayBe_26 rfl rfl ?_
    refine g_get (q := 30) cx k_cX3 0 rfl 8 (by decide) q1078 (Or.inl rfl) rfl dX3_mayBe_27 rfl ?_
    refine g_iload_n (q := 31) cx dX3_mayBe_30 rfl rfl ?_
    refine g_ialdZ (q := 32) cx 1 (by decide) rfl vc.1 dX3_mayBe_31 rfl ?_
    have vc := vc.2
    refine g_iload_n (q := 33) cx dX3_mayBe_32 rfl rfl ?_
    refine g_if_eq (q := 36) (tg := 40) cx dX3_mayBe_33 (by decide) rfl (fun h_10 => ?_) (fun h_10 => ?_)
    · have vc := vc.1 (bI_0.mp h_10)
      refine g_iconst (q := 41) (v := iN 2) cx dX3_mayBe_40 rfl rfl ?_
      refine g_iandZ (q := 42) cx vc.1 (by decide) dX3_mayBe_41 rfl ?_
      have vc := vc.2
      refine g_if_eqZ (q := 45) (tg := 49) cx vc.1 dX3_mayBe_42 (by decide) rfl (fun h_11 => ?_) (fun h_11 => ?_)
      · have vc := vc.2.1 h_11
        refine g_iconst (q := 50) (v := iN 0) cx dX3_mayBe_49 rfl rfl ?_
        exact g_iretW cx hr (by decide) ⟨false, 0, rfl, rfl, vc⟩ (by first | exact Nat.le_of_ble_eq_true rfl | omega) (by first | exact Nat.le_of_ble_eq_true rfl | omega) dX3_mayBe_50
      · have vc := vc.2.2 h_11
        refine g_iconst (q := 46) (v := iN 1) cx dX3_mayBe_45 rfl rfl ?_
        refine g_goto (q := 50) cx dX3_mayBe_46 (by decide) ?_
        exact g_iretW cx hr (by decide) ⟨true, 0, rfl, rfl, vc⟩ (by first | exact Nat.le_of_ble_eq_true rfl | omega) (by first | exact Nat.le_of_ble_eq_true rfl | omega) dX3_mayBe_50
    · have vc := vc.2 (bI_n0.mp h_10)
      refine g_iconst (q := 37) (v := iN 1) cx dX3_mayBe_36 rfl rfl ?_
      refine g_goto (q := 41) cx dX3_mayBe_37 (by decide) ?_
      refine g_iandZ (q := 42) cx vc.1 (by decide) dX3_mayBe_41 rfl ?_
      have vc := vc.2
      refine g_if_eqZ (q := 45) (tg := 49) cx vc.1 dX3_mayBe_42 (by decide) rfl (fun h_12 => ?_) (fun h_12 => ?_)
      · have vc := vc.2.1 h_12
        refine g_iconst (q := 50) (v := iN 0) cx dX3_mayBe_49 rfl rfl ?_
        exact g_iretW cx hr (by decide) ⟨false, 0, rfl, rfl, vc⟩ (by first | exact Nat.le_of_ble_eq_true rfl | omega) (by first | exact Nat.le_of_ble_eq_true rfl | omega) dX3_mayBe_50
      · have vc := vc.2.2 h_12
        refine g_iconst (q := 46) (v := iN 1) cx dX3_mayBe_45 rfl rfl ?_
        refine g_goto (q := 50) cx dX3_mayBe_46 (by decide) ?_
        exact g_iretW cx hr (by decide) ⟨true, 0, rfl, rfl, vc⟩ (by first | exact Nat.le_of_ble_eq_true rfl | omega) (by first | exact Nat.le_of_ble_eq_true rfl | omega) dX3_mayBe_50

theorem k_X3_mayBe (l : Launch) (hlt : l.stackTraces = false) (T : GT) (mo : Nat) (am : Nat) (ae : Nat) (ap : Nat) (ab : Nat) (aw : Nat) (ac : Nat) (an : Nat) (a0 : Nat) (a1 : Nat) (a2 : Nat) (th : Int) (many : Int) (coins : Int) (pairs : Nat → Int) (coin : Int) (hv : Bool) (cn : Nat) (hp0 : coins = cn ∧ cn ≤ 9) (hp1 : prOK pairs) (hp2 : -2147483648 ≤ coin ∧ coin < 2147483648) : MW l T yX3_mayBe cX3_mayBe 3 (some .boolean) ({ frames := 1, cells := 0, slots := 0, locals := 22 }) [.ref mo, .int (iN coin), .int (bI hv)] [(mo, .inr (2, [.int (iN th), .ref am, .ref ae, .int (iN many), .ref ap, .ref ab, .ref aw, .int (iN coins), .ref ac, .ref an, .ref a0, .ref a1, .ref a2])), (ac, .inl (T.2.1 0, 9, .inl (zA pairs)))] (fun v_ wn_ => ∃ (b2 : Bool), ∃ (th2 : Int), v_ = some (.int (bI b2)) ∧ wn_ = [(mo, .inr (2, [.int (iN th2), .ref am, .ref ae, .int (iN many), .ref ap, .ref ab, .ref aw, .int (iN coins), .ref ac, .ref an, .ref a0, .ref a1, .ref a2])), (ac, .inl (T.2.1 0, 9, .inl (zA pairs)))] ∧ b2 = (if 0 ≤ coin ∧ coin < cn then !decide ((pairs coin.toNat).toNat &&& (if hv then 1 else 2) = 0) else false) ∧ th2 = (if 0 ≤ coin ∧ coin < cn then 0 else 1)) 0 0 := by
  refine w_X3_mayBe l hlt T mo am ae ap ab aw ac an a0 a1 a2 th many coins pairs coin hv cn _ ?_
  rw [← Bool.decide_and]
  have b2 : (pairs coin.toNat).toNat &&& 2 ≤ 2 := Nat.and_le_right
  have b1 : (pairs coin.toNat).toNat &&& 1 ≤ 1 := Nat.and_le_right
  refine ⟨hp2, by omega, fun h => ?_, fun h => ?_⟩
  · have g := of_decide_eq_false h
    rw [if_neg (by omega), if_neg (by omega)]
    exact ⟨rfl, rfl⟩
  · have g := of_decide_eq_true h
    have hr := hp1 coin.toNat (by omega)
    have gg : 0 ≤ coin ∧ coin < (cn : Int) := by omega
    rw [if_pos gg, if_pos gg]
    refine ⟨by omega, fun h1 => ⟨by omega, by omega, fun h2 => ?_, fun h2 => ?_⟩, fun h1 => ⟨by omega, by omega, fun h2 => ?_, fun h2 => ?_⟩⟩
    · rw [h1, if_neg (by decide), decide_eq_true (by omega)]
      exact ⟨rfl, rfl⟩
    · rw [h1, if_neg (by decide), decide_eq_false (by omega)]
      exact ⟨rfl, rfl⟩
    · rw [h1, if_pos rfl, decide_eq_true (by omega)]
      exact ⟨rfl, rfl⟩
    · rw [h1, if_pos rfl, decide_eq_false (by omega)]
      exact ⟨rfl, rfl⟩

set_option maxRecDepth 100000 in
set_option maxHeartbeats 4000000 in
theorem w_X3_faulty (l : Launch) (hlt : l.stackTraces = false) (T : GT) (mo : Nat) (am : Nat) (ae : Nat) (ap : Nat) (ab : Nat) (aw : Nat) (ac : Nat) (an : Nat) (a0 : Nat) (a1 : Nat) (a2 : Nat) (th : Int) (many : Int) (coins : Int) (pairs : Nat → Int) (cn : Nat) (I24 : Int → Int → Prop) (M24 : Int → Int → g_mu) (post : Int → Int → Prop) (v0_ : (coins = cn ∧ cn ≤ 9) ∧ ((prOK pairs) ∧ ((-2147483648 ≤ ((pmN pairs cn : Nat) : Int) ∧ ((pmN pairs cn : Nat) : Int) < 2147483648) ∧ ((¬ ((pmN pairs cn : Nat) : Int) = 1 → (post 0 1)) ∧ (((pmN pairs cn : Nat) : Int) = 1 → (I24 0 0)))))) (v24 : ∀ (k : Int) (t : Int), I24 k t → (0 ≤ k ∧ k < 9) ∧ ((-2147483648 ≤ (pairs k.toNat) ∧ (pairs k.toNat) < 2147483648) ∧ ((¬ (pairs k.toNat) = 0 → (post k t)) ∧ ((pairs k.toNat) = 0 → (I24 (k + 1) t ∧ g_lt (M24 (k + 1) t) (M24 k t)))))) : MW l T yX3_faulty cX3_faulty 2 (some .int) ({ frames := 1, cells := 0, slots := 0, locals := 22 }) [.ref mo] [(mo, .inr (2, [.int (iN th), .ref am, .ref ae, .int (iN many), .ref ap, .ref ab, .ref aw, .int (iN coins), .ref ac, .ref an, .ref a0, .ref a1, .ref a2])), (ac, .inl (T.2.1 0, 9, .inl (zA pairs)))] (fun v_ wn_ => ∃ (r : Int), ∃ (th2 : Int), v_ = some (.int (iN r)) ∧ wn_ = [(mo, .inr (2, [.int (iN th2), .ref am, .ref ae, .int (iN many), .ref ap, .ref ab, .ref aw, .int (iN coins), .ref ac, .ref an, .ref a0, .ref a1, .ref a2])), (ac, .inl (T.2.1 0, 9, .inl (zA pairs)))] ∧ post r th2) 0 0 := by
  refine MW.start hlt (by decide) (lv0 := [some (.ref mo), none]) rfl (Nat.le_of_ble_eq_true rfl) rfl ?_
  intro p e R s m args below meth c A cx hr hnm hST hrw
  have key : ∀ μ : g_mu, (∀ (k : Int) (t : Int), I24 k t → M24 k t = μ → G p l e R s m args below meth c 2 T A A (MQ below (g_Q T (fun v_ wn_ => ∃ (r : Int), ∃ (th2 : Int), v_ = some (.int (iN r)) ∧ wn_ = [(mo, .inr (2, [.int (iN th2), .ref am, .ref ae, .int (iN many), .ref ap, .ref ab, .ref aw, .int (iN coins), .ref ac, .ref an, .ref a0, .ref a1, .ref a2])), (ac, .inl (T.2.1 0, 9, .inl (zA pairs)))] ∧ post r th2) A) args s 0 0 A) 0 0 [(mo, .inr (2, [.int (iN t), .ref am, .ref ae, .int (iN many), .ref ap, .ref ab, .ref aw, .int (iN coins), .ref ac, .ref an, .ref a0, .ref a1, .ref a2])), (ac, .inl (T.2.1 0, 9, .inl (zA pairs)))] [some (.ref mo), some (.int (iN k))] 24 []) := by
    refine g_ind (fun μ ih => ?_)
    · intro k t hI hM
      subst hM
      have vc := v24 k t hI
      refine g_aload_n (q := 25) cx dX3_faulty_24 rfl rfl ?_
      refine g_get (q := 28) cx k_cX3 0 rfl 8 (by decide) q1078 (Or.inl rfl) rfl dX3_faulty_25 rfl ?_
      refine g_iload_n (q := 29) cx dX3_faulty_28 rfl rfl ?_
      refine g_ialdZ (q := 30) cx 1 (by decide) rfl vc.1 dX3_faulty_29 rfl ?_
      have vc := vc.2
      refine g_if_neZ (q := 33) (tg := 39) cx vc.1 dX3_faulty_30 (by decide) rfl (fun h_1 => ?_) (fun h_1 => ?_)
      · have vc := vc.2.1 h_1
        refine g_iload_n (q := 40) cx dX3_faulty_39 rfl rfl ?_
        exact g_iretW cx hr rfl ⟨k, t, rfl, rfl, vc⟩ (by first | exact Nat.le_of_ble_eq_true rfl | omega) (by first | exact Nat.le_of_ble_eq_true rfl | omega) dX3_faulty_40
      · have vc := vc.2.2 h_1
        refine g_iinc (q := 36) (v := iN (k + 1)) (lv2 := [some (.ref mo), some (.int (iN (k + 1)))]) cx dX3_faulty_33 rfl (iN_add _ _) (by decide) rfl rfl ?_
        refine g_goto (q := 24) cx dX3_faulty_36 (by decide) ?_
        exact (ih _ vc.2) (k + 1) t vc.1 rfl
  have vc := v0_
  refine g_aload_n (q := 1) cx dX3_faulty_0 rfl rfl ?_
  refine g_aload_n (q := 2) cx dX3_faulty_1 rfl rfl ?_
  refine g_cVr (q := 5) (b := mo) (As := []) (wr := []) (st := [.ref mo]) cx hST (k_X3_possibleMany l hlt T mo am ae ap ab aw ac an a0 a1 a2 th many coins pairs cn (vc.1) (vc.2.1)) q1263 s_X3_possibleMany rfl 0 rfl rfl g_perm1 (g_rmB rfl) (Nat.le_of_ble_eq_true rfl) dX3_faulty_2 rfl (fun v_ hv_ => ?_)
  have vc := vc.2
  have vc := vc.2
  obtain ⟨r_2, rfl, e_3⟩ := hv_
  subst e_3
  refine g_st (st2 := [.int (iN ((pmN pairs cn : Nat) : Int)), .ref mo]) rfl ?_
  refine g_iconst (q := 6) (v := iN 1) cx dX3_faulty_5 rfl rfl ?_
  refine g_icmp_neZ (q := 9) (tg := 13) cx vc.1 (by decide) dX3_faulty_6 (by decide) rfl (fun h_4 => ?_) (fun h_4 => ?_)
  · have vc := vc.2.1 h_4
    refine g_iconst (q := 14) (v := iN 1) cx dX3_faulty_13 rfl rfl ?_
    refine g_cVw (q := 17) (b := mo) (As := [.int (iN 1)]) (wr := [(ac, .inl (T.2.1 0, 9, .inl (zA pairs)))]) (st := []) cx hST hrw (k_X3_goesWell l hlt T mo am ae ap ab aw ac an a0 a1 a2 th many coins 1 (by decide)) q1122 s_X3_goesWell rfl 0 rfl rfl (g_perm [1, 0] rfl rfl) (g_rmB rfl) (Nat.le_of_ble_eq_true rfl) dX3_faulty_14 rfl (fun v_ wn_ hv_ => ?_)
    obtain ⟨b_5, th2_6, rfl, rfl, e_7⟩ := hv_
    obtain ⟨rfl, rfl⟩ := e_7
    refine g_wp (ws2 := [(mo, .inr (2, [.int (iN 1), .ref am, .ref ae, .int (iN many), .ref ap, .ref ab, .ref aw, .int (iN coins), .ref ac, .ref an, .ref a0, .ref a1, .ref a2])), (ac, .inl (T.2.1 0, 9, .inl (zA pairs)))]) (g_perm [1, 0] rfl rfl) ?_
    refine g_cs (cells2 := 0) (slots2 := 0) (ws2 := [(mo, .inr (2, [.int (iN 1), .ref am, .ref ae, .int (iN many), .ref ap, .ref ab, .ref aw, .int (iN coins), .ref ac, .ref an, .ref a0, .ref a1, .ref a2])), (ac, .inl (T.2.1 0, 9, .inl (zA pairs)))]) rfl rfl rfl ?_
    refine g_st (st2 := [.int (bI false)]) rfl ?_
    refine g_if_ne (q := 20) (tg := 22) cx dX3_faulty_17 (by decide) rfl (fun h => absurd h (by decide)) (fun _ => ?_)
    refine g_iconst (q := 21) (v := iN 0) cx dX3_faulty_20 rfl rfl ?_
    exact g_iretW cx hr rfl ⟨0, 1, rfl, rfl, vc⟩ (by first | exact Nat.le_of_ble_eq_true rfl | omega) (by first | exact Nat.le_of_ble_eq_true rfl | omega) dX3_faulty_21
  · have vc := vc.2.2 h_4
    refine g_iconst (q := 10) (v := iN 0) cx dX3_faulty_9 rfl rfl ?_
    refine g_goto (q := 14) cx dX3_faulty_10 (by decide) ?_
    refine g_cVw (q := 17) (b := mo) (As := [.int (iN 0)]) (wr := [(ac, .inl (T.2.1 0, 9, .inl (zA pairs)))]) (st := []) cx hST hrw (k_X3_goesWell l hlt T mo am ae ap ab aw ac an a0 a1 a2 th many coins 0 (by decide)) q1122 s_X3_goesWell rfl 0 rfl rfl (g_perm [1, 0] rfl rfl) (g_rmB rfl) (Nat.le_of_ble_eq_true rfl) dX3_faulty_14 rfl (fun v_ wn_ hv_ => ?_)
    obtain ⟨b_8, th2_9, rfl, rfl, e_10⟩ := hv_
    obtain ⟨rfl, rfl⟩ := e_10
    refine g_wp (ws2 := [(mo, .inr (2, [.int (iN 0), .ref am, .ref ae, .int (iN many), .ref ap, .ref ab, .ref aw, .int (iN coins), .ref ac, .ref an, .ref a0, .ref a1, .ref a2])), (ac, .inl (T.2.1 0, 9, .inl (zA pairs)))]) (g_perm [1, 0] rfl rfl) ?_
    refine g_cs (cells2 := 0) (slots2 := 0) (ws2 := [(mo, .inr (2, [.int (iN 0), .ref am, .ref ae, .int (iN many), .ref ap, .ref ab, .ref aw, .int (iN coins), .ref ac, .ref an, .ref a0, .ref a1, .ref a2])), (ac, .inl (T.2.1 0, 9, .inl (zA pairs)))]) rfl rfl rfl ?_
    refine g_st (st2 := [.int (bI true)]) rfl ?_
    refine g_if_ne (q := 20) (tg := 22) cx dX3_faulty_17 (by decide) rfl (fun _ => ?_) (fun h => absurd h (by decide))
    refine g_iconst (q := 23) (v := iN 0) cx dX3_faulty_22 rfl rfl ?_
    refine g_istore_n (q := 24) (lv2 := [some (.ref mo), some (.int (iN 0))]) cx dX3_faulty_23 rfl (by decide) rfl rfl ?_
    exact (key _) 0 0 vc rfl

theorem k_X3_faulty (l : Launch) (hlt : l.stackTraces = false) (T : GT) (mo : Nat) (am : Nat) (ae : Nat) (ap : Nat) (ab : Nat) (aw : Nat) (ac : Nat) (an : Nat) (a0 : Nat) (a1 : Nat) (a2 : Nat) (th : Int) (many : Int) (coins : Int) (pairs : Nat → Int) (cn : Nat) (hp0 : coins = cn ∧ cn ≤ 9) (hp1 : prOK pairs) : MW l T yX3_faulty cX3_faulty 2 (some .int) ({ frames := 1, cells := 0, slots := 0, locals := 22 }) [.ref mo] [(mo, .inr (2, [.int (iN th), .ref am, .ref ae, .int (iN many), .ref ap, .ref ab, .ref aw, .int (iN coins), .ref ac, .ref an, .ref a0, .ref a1, .ref a2])), (ac, .inl (T.2.1 0, 9, .inl (zA pairs)))] (fun v_ wn_ => ∃ (r : Int), ∃ (th2 : Int), v_ = some (.int (iN r)) ∧ wn_ = [(mo, .inr (2, [.int (iN th2), .ref am, .ref ae, .int (iN many), .ref ap, .ref ab, .ref aw, .int (iN coins), .ref ac, .ref an, .ref a0, .ref a1, .ref a2])), (ac, .inl (T.2.1 0, 9, .inl (zA pairs)))] ∧ r = (if pmN pairs cn = 1 then ((fcoin pairs : Nat) : Int) else 0) ∧ th2 = (if pmN pairs cn = 1 then 0 else 1)) 0 0 := by
  refine w_X3_faulty l hlt T mo am ae ap ab aw ac an a0 a1 a2 th many coins pairs cn (I24 := fun k t => ∃ j : Nat, j ≤ 8 ∧ k = j ∧ t = 0 ∧ pmN pairs cn = 1 ∧ (∀ i, i < j → pairs i = 0) ∧ firstF (fun m => decide (pairs m = 0)) (9 - j) j = fcoin pairs) (M24 := fun k _ => (0, 0, 0, (9 - k).toNat)) _ ?_ ?_
  · have hpm := pmN_le hp1 cn hp0.2
    refine ⟨hp0, hp1, by omega, fun h => ?_, fun h => ⟨0, by omega, rfl, rfl, by omega, fun i hi => absurd hi (Nat.not_lt_zero _), rfl⟩⟩
    rw [if_neg (by omega), if_neg (by omega)]
    exact ⟨rfl, rfl⟩
  · rintro k t ⟨j, hj, rfl, rfl, hm, hz, hf⟩
    obtain ⟨i0, hi0, hne⟩ := pmN_ex (pr := pairs) (n := cn) (by omega)
    have hij : j ≤ i0 := by
      rcases Nat.lt_or_ge i0 j with g | g
      · exact absurd (hz i0 g) hne
      · exact g
    have hr := hp1 j (by omega)
    have stp : firstF (fun m => decide (pairs m = 0)) (9 - j) j = if decide (pairs j = 0) = true then firstF (fun m => decide (pairs m = 0)) (9 - (j + 1)) (j + 1) else j := by
      rw [show 9 - j = (9 - (j + 1)) + 1 by omega]
      rfl
    simp only [Int.toNat_natCast]
    refine ⟨by omega, by omega, fun h => ?_, fun h => ?_⟩
    · rw [if_neg (by rw [decide_eq_false h]; decide)] at stp
      rw [if_pos hm, if_pos hm, ← hf, stp]
      exact ⟨rfl, rfl⟩
    · rw [if_pos (decide_eq_true h)] at stp
      have hj8 : j < 8 := by
        rcases Nat.lt_or_ge j 8 with g | g
        · exact g
        · exact absurd (show pairs i0 = 0 by rw [show i0 = j by omega]; exact h) hne
      refine ⟨⟨j + 1, by omega, rfl, trivial, hm, fun i hi => ?_, by rw [← stp]; exact hf⟩, g_ltI (by omega)⟩
      by_cases g : i = j
      · rw [g]; exact h
      · exact hz i (by omega)

set_option maxRecDepth 100000 in
set_option maxHeartbeats 4000000 in
theorem w_X3_weighings (l : Launch) (hlt : l.stackTraces = false) (T : GT) (mo : Nat) (am : Nat) (ae : Nat) (ap : Nat) (ab : Nat) (aw : Nat) (ac : Nat) (an : Nat) (a0 : Nat) (a1 : Nat) (a2 : Nat) (th : Int) (many : Int) (coins : Int) (pairs : Nat → Int) (needs : Nat → Int) (cn : Nat)  (post : Int → Int → Prop) (v0_ : (coins = cn ∧ cn ≤ 9) ∧ ((prOK pairs) ∧ (post (needs (kinds pairs (2 ^ cn - 1) cn)) 0)))  : MW l T yX3_weighings cX3_weighings 1 (some .int) ({ frames := 3, cells := 0, slots := 0, locals := 64 }) [.ref mo] [(mo, .inr (2, [.int (iN th), .ref am, .ref ae, .int (iN many), .ref ap, .ref ab, .ref aw, .int (iN coins), .ref ac, .ref an, .ref a0, .ref a1, .ref a2])), (ac, .inl (T.2.1 0, 9, .inl (zA pairs))), (an, .inl (T.2.1 0, 1000, .inl (zA needs)))] (fun v_ wn_ => ∃ (r : Int), ∃ (th2 : Int), v_ = some (.int (iN r)) ∧ wn_ = [(mo, .inr (2, [.int (iN th2), .ref am, .ref ae, .int (iN many), .ref ap, .ref ab, .ref aw, .int (iN coins), .ref ac, .ref an, .ref a0, .ref a1, .ref a2])), (ac, .inl (T.2.1 0, 9, .inl (zA pairs))), (an, .inl (T.2.1 0, 1000, .inl (zA needs)))] ∧ post r th2) 0 0 := by
  refine MW.start hlt (by decide) (lv0 := [some (.ref mo)]) rfl (Nat.le_of_ble_eq_true rfl) rfl ?_
  intro p e R s m args below meth c A cx hr hnm hST hrw
  have vc := v0_
  refine g_aload_n (q := 1) cx dX3_weighings_0 rfl rfl ?_
  refine g_iconst (q := 2) (v := iN 0) cx dX3_weighings_1 rfl rfl ?_
  refine g_put (q := 5) (ws2 := [(mo, .inr (2, [.int (iN 0), .ref am, .ref ae, .int (iN many), .ref ap, .ref ab, .ref aw, .int (iN coins), .ref ac, .ref an, .ref a0, .ref a1, .ref a2])), (ac, .inl (T.2.1 0, 9, .inl (zA pairs))), (an, .inl (T.2.1 0, 1000, .inl (zA needs)))]) cx hrw k_cX3 0 rfl 0 (by decide) q1070 (Or.inl rfl) rfl rfl rfl (Nat.le_of_ble_eq_true rfl) rfl dX3_weighings_2 rfl ?_
  refine g_aload_n (q := 6) cx dX3_weighings_5 rfl rfl ?_
  refine g_cVr (q := 9) (b := mo) (As := []) (wr := []) (st := []) cx hST (k_X3_need l hlt T mo am ae ap ab aw ac an a0 a1 a2 0 many coins pairs needs cn (vc.1) (vc.2.1)) q1239 s_X3_need rfl 0 rfl rfl g_perm1 (g_rmB rfl) (Nat.le_of_ble_eq_true rfl) dX3_weighings_6 rfl (fun v_ hv_ => ?_)
  have vc := vc.2
  have vc := vc.2
  obtain ⟨r_1, rfl, e_2⟩ := hv_
  subst e_2
  refine g_st (st2 := [.int (iN (needs (kinds pairs (2 ^ cn - 1) cn)))]) rfl ?_
  exact g_iretW cx hr rfl ⟨(needs (kinds pairs (2 ^ cn - 1) cn)), 0, rfl, rfl, vc⟩ (by first | exact Nat.le_of_ble_eq_true rfl | omega) (by first | exact Nat.le_of_ble_eq_true rfl | omega) dX3_weighings_9

theorem k_X3_weighings (l : Launch) (hlt : l.stackTraces = false) (T : GT) (mo : Nat) (am : Nat) (ae : Nat) (ap : Nat) (ab : Nat) (aw : Nat) (ac : Nat) (an : Nat) (a0 : Nat) (a1 : Nat) (a2 : Nat) (th : Int) (many : Int) (coins : Int) (pairs : Nat → Int) (needs : Nat → Int) (cn : Nat) (hp0 : coins = cn ∧ cn ≤ 9) (hp1 : prOK pairs) : MW l T yX3_weighings cX3_weighings 1 (some .int) ({ frames := 3, cells := 0, slots := 0, locals := 64 }) [.ref mo] [(mo, .inr (2, [.int (iN th), .ref am, .ref ae, .int (iN many), .ref ap, .ref ab, .ref aw, .int (iN coins), .ref ac, .ref an, .ref a0, .ref a1, .ref a2])), (ac, .inl (T.2.1 0, 9, .inl (zA pairs))), (an, .inl (T.2.1 0, 1000, .inl (zA needs)))] (fun v_ wn_ => ∃ (r : Int), ∃ (th2 : Int), v_ = some (.int (iN r)) ∧ wn_ = [(mo, .inr (2, [.int (iN th2), .ref am, .ref ae, .int (iN many), .ref ap, .ref ab, .ref aw, .int (iN coins), .ref ac, .ref an, .ref a0, .ref a1, .ref a2])), (ac, .inl (T.2.1 0, 9, .inl (zA pairs))), (an, .inl (T.2.1 0, 1000, .inl (zA needs)))] ∧ r = (needs (kinds pairs (2 ^ cn - 1) cn)) ∧ th2 = 0) 0 0 := by
  exact w_X3_weighings l hlt T mo am ae ap ab aw ac an a0 a1 a2 th many coins pairs needs cn _ ⟨hp0, hp1, rfl, rfl⟩

set_option maxRecDepth 100000 in
set_option maxHeartbeats 4000000 in
theorem w_X3_does (l : Launch) (hlt : l.stackTraces = false) (T : GT) (mo : Nat) (am : Nat) (ae : Nat) (ap : Nat) (ab : Nat) (aw : Nat) (ac : Nat) (an : Nat) (a0 : Nat) (a1 : Nat) (a2 : Nat) (th : Int) (many : Int) (coins : Int) (pairs : Nat → Int) (needs : Nat → Int) (both : Nat → Int) (heavy : Nat → Int) (light : Nat → Int) (left : Int) (right : Int) (cn : Nat)  (post : Bool → (Nat → Int) → (Nat → Int) → (Nat → Int) → Prop) (v0_ : (coins = cn ∧ cn ≤ 9) ∧ ((coins = cn ∧ cn ≤ 9) ∧ ((0 ≤ ((2 ^ cn - 1 : Nat) : Int) ∧ ((2 ^ cn - 1 : Nat) : Int) < 2147483648) ∧ ((prOK pairs) ∧ ((0 ≤ ((kinds pairs ((2 ^ cn - 1 : Nat) : Int).toNat cn : Nat) : Int) ∧ ((kinds pairs ((2 ^ cn - 1 : Nat) : Int).toNat cn : Nat) : Int) < 2147483648) ∧ ((0 ≤ ((kinds pairs ((2 ^ cn - 1 : Nat) : Int).toNat cn : Nat) : Int) ∧ ((kinds pairs ((2 ^ cn - 1 : Nat) : Int).toNat cn : Nat) : Int) < 2147483648) ∧ ((0 ≤ (((kinds pairs ((2 ^ cn - 1 : Nat) : Int).toNat cn : Nat) : Int) / 10) ∧ (((kinds pairs ((2 ^ cn - 1 : Nat) : Int).toNat cn : Nat) : Int) / 10) < 2147483648) ∧ ((0 ≤ ((kinds pairs ((2 ^ cn - 1 : Nat) : Int).toNat cn : Nat) : Int) ∧ ((kinds pairs ((2 ^ cn - 1 : Nat) : Int).toNat cn : Nat) : Int) < 2147483648) ∧ ((coins = cn ∧ cn ≤ 9) ∧ ((0 ≤ left ∧ left < 2147483648) ∧ ((prOK pairs) ∧ ((coins = cn ∧ cn ≤ 9) ∧ ((0 ≤ right ∧ right < 2147483648) ∧ ((prOK pairs) ∧ ((0 ≤ ((kinds pairs left.toNat cn : Nat) : Int) ∧ ((kinds pairs left.toNat cn : Nat) : Int) < 1000) ∧ ((0 ≤ ((kinds pairs right.toNat cn : Nat) : Int) ∧ ((kinds pairs right.toNat cn : Nat) : Int) < 1000) ∧ ((coins = cn ∧ cn ≤ 9) ∧ ((prOK pairs) ∧ ((-2147483648 ≤ (needs (kinds pairs (2 ^ cn - 1) cn)) ∧ (needs (kinds pairs (2 ^ cn - 1) cn)) < 2147483648) ∧ (((needs (kinds pairs (2 ^ cn - 1) cn)) ≤ 0 → (post false (spB (((kinds pairs ((2 ^ cn - 1 : Nat) : Int).toNat cn : Nat) : Int) / 100) ((kinds pairs left.toNat cn : Nat) : Int) ((kinds pairs right.toNat cn : Nat) : Int) both) (spH ((((kinds pairs ((2 ^ cn - 1 : Nat) : Int).toNat cn : Nat) : Int) / 10) % 10) ((kinds pairs left.toNat cn : Nat) : Int) ((kinds pairs right.toNat cn : Nat) : Int) heavy) (spL (((kinds pairs ((2 ^ cn - 1 : Nat) : Int).toNat cn : Nat) : Int) % 10) ((kinds pairs left.toNat cn : Nat) : Int) ((kinds pairs right.toNat cn : Nat) : Int) light))) ∧ (0 < (needs (kinds pairs (2 ^ cn - 1) cn)) → ((rngO (spB (((kinds pairs ((2 ^ cn - 1 : Nat) : Int).toNat cn : Nat) : Int) / 100) ((kinds pairs left.toNat cn : Nat) : Int) ((kinds pairs right.toNat cn : Nat) : Int) both) (spH ((((kinds pairs ((2 ^ cn - 1 : Nat) : Int).toNat cn : Nat) : Int) / 10) % 10) ((kinds pairs left.toNat cn : Nat) : Int) ((kinds pairs right.toNat cn : Nat) : Int) heavy) (spL (((kinds pairs ((2 ^ cn - 1 : Nat) : Int).toNat cn : Nat) : Int) % 10) ((kinds pairs left.toNat cn : Nat) : Int) ((kinds pairs right.toNat cn : Nat) : Int) light)) ∧ ((rngN needs) ∧ ((coins = cn ∧ cn ≤ 9) ∧ ((prOK pairs) ∧ ((-2147483648 ≤ (mx (mx (nofZ needs ((spB (((kinds pairs ((2 ^ cn - 1 : Nat) : Int).toNat cn : Nat) : Int) / 100) ((kinds pairs left.toNat cn : Nat) : Int) ((kinds pairs right.toNat cn : Nat) : Int) both) 0) ((spH ((((kinds pairs ((2 ^ cn - 1 : Nat) : Int).toNat cn : Nat) : Int) / 10) % 10) ((kinds pairs left.toNat cn : Nat) : Int) ((kinds pairs right.toNat cn : Nat) : Int) heavy) 0) ((spL (((kinds pairs ((2 ^ cn - 1 : Nat) : Int).toNat cn : Nat) : Int) % 10) ((kinds pairs left.toNat cn : Nat) : Int) ((kinds pairs right.toNat cn : Nat) : Int) light) 0)) (nofZ needs ((spB (((kinds pairs ((2 ^ cn - 1 : Nat) : Int).toNat cn : Nat) : Int) / 100) ((kinds pairs left.toNat cn : Nat) : Int) ((kinds pairs right.toNat cn : Nat) : Int) both) 1) ((spH ((((kinds pairs ((2 ^ cn - 1 : Nat) : Int).toNat cn : Nat) : Int) / 10) % 10) ((kinds pairs left.toNat cn : Nat) : Int) ((kinds pairs right.toNat cn : Nat) : Int) heavy) 1) ((spL (((kinds pairs ((2 ^ cn - 1 : Nat) : Int).toNat cn : Nat) : Int) % 10) ((kinds pairs left.toNat cn : Nat) : Int) ((kinds pairs right.toNat cn : Nat) : Int) light) 1))) (nofZ needs ((spB (((kinds pairs ((2 ^ cn - 1 : Nat) : Int).toNat cn : Nat) : Int) / 100) ((kinds pairs left.toNat cn : Nat) : Int) ((kinds pairs right.toNat cn : Nat) : Int) both) 2) ((spH ((((kinds pairs ((2 ^ cn - 1 : Nat) : Int).toNat cn : Nat) : Int) / 10) % 10) ((kinds pairs left.toNat cn : Nat) : Int) ((kinds pairs right.toNat cn : Nat) : Int) heavy) 2) ((spL (((kinds pairs ((2 ^ cn - 1 : Nat) : Int).toNat cn : Nat) : Int) % 10) ((kinds pairs left.toNat cn : Nat) : Int) ((kinds pairs right.toNat cn : Nat) : Int) light) 2))) ∧ (mx (mx (nofZ needs ((spB (((kinds pairs ((2 ^ cn - 1 : Nat) : Int).toNat cn : Nat) : Int) / 100) ((kinds pairs left.toNat cn : Nat) : Int) ((kinds pairs right.toNat cn : Nat) : Int) both) 0) ((spH ((((kinds pairs ((2 ^ cn - 1 : Nat) : Int).toNat cn : Nat) : Int) / 10) % 10) ((kinds pairs left.toNat cn : Nat) : Int) ((kinds pairs right.toNat cn : Nat) : Int) heavy) 0) ((spL (((kinds pairs ((2 ^ cn - 1 : Nat) : Int).toNat cn : Nat) : Int) % 10) ((kinds pairs left.toNat cn : Nat) : Int) ((kinds pairs right.toNat cn : Nat) : Int) light) 0)) (nofZ needs ((spB (((kinds pairs ((2 ^ cn - 1 : Nat) : Int).toNat cn : Nat) : Int) / 100) ((kinds pairs left.toNat cn : Nat) : Int) ((kinds pairs right.toNat cn : Nat) : Int) both) 1) ((spH ((((kinds pairs ((2 ^ cn - 1 : Nat) : Int).toNat cn : Nat) : Int) / 10) % 10) ((kinds pairs left.toNat cn : Nat) : Int) ((kinds pairs right.toNat cn : Nat) : Int) heavy) 1) ((spL (((kinds pairs ((2 ^ cn - 1 : Nat) : Int).toNat cn : Nat) : Int) % 10) ((kinds pairs left.toNat cn : Nat) : Int) ((kinds pairs right.toNat cn : Nat) : Int) light) 1))) (nofZ needs ((spB (((kinds pairs ((2 ^ cn - 1 : Nat) : Int).toNat cn : Nat) : Int) / 100) ((kinds pairs left.toNat cn : Nat) : Int) ((kinds pairs right.toNat cn : Nat) : Int) both) 2) ((spH ((((kinds pairs ((2 ^ cn - 1 : Nat) : Int).toNat cn : Nat) : Int) / 10) % 10) ((kinds pairs left.toNat cn : Nat) : Int) ((kinds pairs right.toNat cn : Nat) : Int) heavy) 2) ((spL (((kinds pairs ((2 ^ cn - 1 : Nat) : Int).toNat cn : Nat) : Int) % 10) ((kinds pairs left.toNat cn : Nat) : Int) ((kinds pairs right.toNat cn : Nat) : Int) light) 2))) < 2147483648) ∧ ((-2147483648 ≤ (needs (kinds pairs (2 ^ cn - 1) cn)) ∧ (needs (kinds pairs (2 ^ cn - 1) cn)) < 2147483648) ∧ (((needs (kinds pairs (2 ^ cn - 1) cn)) ≤ (mx (mx (nofZ needs ((spB (((kinds pairs ((2 ^ cn - 1 : Nat) : Int).toNat cn : Nat) : Int) / 100) ((kinds pairs left.toNat cn : Nat) : Int) ((kinds pairs right.toNat cn : Nat) : Int) both) 0) ((spH ((((kinds pairs ((2 ^ cn - 1 : Nat) : Int).toNat cn : Nat) : Int) / 10) % 10) ((kinds pairs left.toNat cn : Nat) : Int) ((kinds pairs right.toNat cn : Nat) : Int) heavy) 0) ((spL (((kinds pairs ((2 ^ cn - 1 : Nat) : Int).toNat cn : Nat) : Int) % 10) ((kinds pairs left.toNat cn : Nat) : Int) ((kinds pairs right.toNat cn : Nat) : Int) light) 0)) (nofZ needs ((spB (((kinds pairs ((2 ^ cn - 1 : Nat) : Int).toNat cn : Nat) : Int) / 100) ((kinds pairs left.toNat cn : Nat) : Int) ((kinds pairs right.toNat cn : Nat) : Int) both) 1) ((spH ((((kinds pairs ((2 ^ cn - 1 : Nat) : Int).toNat cn : Nat) : Int) / 10) % 10) ((kinds pairs left.toNat cn : Nat) : Int) ((kinds pairs right.toNat cn : Nat) : Int) heavy) 1) ((spL (((kinds pairs ((2 ^ cn - 1 : Nat) : Int).toNat cn : Nat) : Int) % 10) ((kinds pairs left.toNat cn : Nat) : Int) ((kinds pairs right.toNat cn : Nat) : Int) light) 1))) (nofZ needs ((spB (((kinds pairs ((2 ^ cn - 1 : Nat) : Int).toNat cn : Nat) : Int) / 100) ((kinds pairs left.toNat cn : Nat) : Int) ((kinds pairs right.toNat cn : Nat) : Int) both) 2) ((spH ((((kinds pairs ((2 ^ cn - 1 : Nat) : Int).toNat cn : Nat) : Int) / 10) % 10) ((kinds pairs left.toNat cn : Nat) : Int) ((kinds pairs right.toNat cn : Nat) : Int) heavy) 2) ((spL (((kinds pairs ((2 ^ cn - 1 : Nat) : Int).toNat cn : Nat) : Int) % 10) ((kinds pairs left.toNat cn : Nat) : Int) ((kinds pairs right.toNat cn : Nat) : Int) light) 2))) → (post false (spB (((kinds pairs ((2 ^ cn - 1 : Nat) : Int).toNat cn : Nat) : Int) / 100) ((kinds pairs left.toNat cn : Nat) : Int) ((kinds pairs right.toNat cn : Nat) : Int) both) (spH ((((kinds pairs ((2 ^ cn - 1 : Nat) : Int).toNat cn : Nat) : Int) / 10) % 10) ((kinds pairs left.toNat cn : Nat) : Int) ((kinds pairs right.toNat cn : Nat) : Int) heavy) (spL (((kinds pairs ((2 ^ cn - 1 : Nat) : Int).toNat cn : Nat) : Int) % 10) ((kinds pairs left.toNat cn : Nat) : Int) ((kinds pairs right.toNat cn : Nat) : Int) light))) ∧ ((mx (mx (nofZ needs ((spB (((kinds pairs ((2 ^ cn - 1 : Nat) : Int).toNat cn : Nat) : Int) / 100) ((kinds pairs left.toNat cn : Nat) : Int) ((kinds pairs right.toNat cn : Nat) : Int) both) 0) ((spH ((((kinds pairs ((2 ^ cn - 1 : Nat) : Int).toNat cn : Nat) : Int) / 10) % 10) ((kinds pairs left.toNat cn : Nat) : Int) ((kinds pairs right.toNat cn : Nat) : Int) heavy) 0) ((spL (((kinds pairs ((2 ^ cn - 1 : Nat) : Int).toNat cn : Nat) : Int) % 10) ((kinds pairs left.toNat cn : Nat) : Int) ((kinds pairs right.toNat cn : Nat) : Int) light) 0)) (nofZ needs ((spB (((kinds pairs ((2 ^ cn - 1 : Nat) : Int).toNat cn : Nat) : Int) / 100) ((kinds pairs left.toNat cn : Nat) : Int) ((kinds pairs right.toNat cn : Nat) : Int) both) 1) ((spH ((((kinds pairs ((2 ^ cn - 1 : Nat) : Int).toNat cn : Nat) : Int) / 10) % 10) ((kinds pairs left.toNat cn : Nat) : Int) ((kinds pairs right.toNat cn : Nat) : Int) heavy) 1) ((spL (((kinds pairs ((2 ^ cn - 1 : Nat) : Int).toNat cn : Nat) : Int) % 10) ((kinds pairs left.toNat cn : Nat) : Int) ((kinds pairs right.toNat cn : Nat) : Int) light) 1))) (nofZ needs ((spB (((kinds pairs ((2 ^ cn - 1 : Nat) : Int).toNat cn : Nat) : Int) / 100) ((kinds pairs left.toNat cn : Nat) : Int) ((kinds pairs right.toNat cn : Nat) : Int) both) 2) ((spH ((((kinds pairs ((2 ^ cn - 1 : Nat) : Int).toNat cn : Nat) : Int) / 10) % 10) ((kinds pairs left.toNat cn : Nat) : Int) ((kinds pairs right.toNat cn : Nat) : Int) heavy) 2) ((spL (((kinds pairs ((2 ^ cn - 1 : Nat) : Int).toNat cn : Nat) : Int) % 10) ((kinds pairs left.toNat cn : Nat) : Int) ((kinds pairs right.toNat cn : Nat) : Int) light) 2))) < (needs (kinds pairs (2 ^ cn - 1) cn)) → (post true (spB (((kinds pairs ((2 ^ cn - 1 : Nat) : Int).toNat cn : Nat) : Int) / 100) ((kinds pairs left.toNat cn : Nat) : Int) ((kinds pairs right.toNat cn : Nat) : Int) both) (spH ((((kinds pairs ((2 ^ cn - 1 : Nat) : Int).toNat cn : Nat) : Int) / 10) % 10) ((kinds pairs left.toNat cn : Nat) : Int) ((kinds pairs right.toNat cn : Nat) : Int) heavy) (spL (((kinds pairs ((2 ^ cn - 1 : Nat) : Int).toNat cn : Nat) : Int) % 10) ((kinds pairs left.toNat cn : Nat) : Int) ((kinds pairs right.toNat cn : Nat) : Int) light)))))))))))))))))))))))))))))))  : MW l T yX3_does cX3_does 4 (some .boolean) ({ frames := 3, cells := 0, slots := 0, locals := 64 }) [.ref mo, .int (iN left), .int (iN right)] [(mo, .inr (2, [.int (iN th), .ref am, .ref ae, .int (iN many), .ref ap, .ref ab, .ref aw, .int (iN coins), .ref ac, .ref an, .ref a0, .ref a1, .ref a2])), (ac, .inl (T.2.1 0, 9, .inl (zA pairs))), (an, .inl (T.2.1 0, 1000, .inl (zA needs))), (a0, .inl (T.2.1 0, 3, .inl (zA both))), (a1, .inl (T.2.1 0, 3, .inl (zA heavy))), (a2, .inl (T.2.1 0, 3, .inl (zA light)))] (fun v_ wn_ => ∃ (b2 : Bool), ∃ (both2 : Nat → Int), ∃ (heavy2 : Nat → Int), ∃ (light2 : Nat → Int), v_ = some (.int (bI b2)) ∧ wn_ = [(mo, .inr (2, [.int (iN th), .ref am, .ref ae, .int (iN many), .ref ap, .ref ab, .ref aw, .int (iN coins), .ref ac, .ref an, .ref a0, .ref a1, .ref a2])), (ac, .inl (T.2.1 0, 9, .inl (zA pairs))), (an, .inl (T.2.1 0, 1000, .inl (zA needs))), (a0, .inl (T.2.1 0, 3, .inl (zA both2))), (a1, .inl (T.2.1 0, 3, .inl (zA heavy2))), (a2, .inl (T.2.1 0, 3, .inl (zA light2)))] ∧ post b2 both2 heavy2 light2) 0 0 := by
  refine MW.start hlt (by decide) (lv0 := [some (.ref mo), some (.int (iN left)), some (.int (iN right)), none]) rfl (Nat.le_of_ble_eq_true rfl) rfl ?_
  intro p e R s m args below meth c A cx hr hnm hST hrw
  have vc := v0_
  refine g_aload_n (q := 1) cx dX3_does_0 rfl rfl ?_
  refine g_aload_n (q := 2) cx dX3_does_1 rfl rfl ?_
  refine g_cVr (q := 5) (b := mo) (As := []) (wr := [(ac, .inl (T.2.1 0, 9, .inl (zA pairs))), (an, .inl (T.2.1 0, 1000, .inl (zA needs))), (a0, .inl (T.2.1 0, 3, .inl (zA both))), (a1, .inl (T.2.1 0, 3, .inl (zA heavy))), (a2, .inl (T.2.1 0, 3, .inl (zA light)))]) (st := [.ref mo]) cx hST (k_X3_all l hlt T mo am ae ap ab aw ac an a0 a1 a2 th many coins cn (vc.1)) q1243 s_X3_all rfl 0 rfl rfl (g_perm [1, 2, 3, 4, 5, 0] rfl rfl) (g_rmB rfl) (Nat.le_of_ble_eq_true rfl) dX3_does_2 rfl (fun v_ hv_ => ?_)
  have vc := vc.2
  obtain ⟨r_1, rfl, e_2⟩ := hv_
  subst e_2
  refine g_st (st2 := [.int (iN ((2 ^ cn - 1 : Nat) : Int)), .ref mo]) rfl ?_
  refine g_cVr (q := 8) (b := mo) (As := [.int (iN ((2 ^ cn - 1 : Nat) : Int))]) (wr := [(an, .inl (T.2.1 0, 1000, .inl (zA needs))), (a0, .inl (T.2.1 0, 3, .inl (zA both))), (a1, .inl (T.2.1 0, 3, .inl (zA heavy))), (a2, .inl (T.2.1 0, 3, .inl (zA light)))]) (st := []) cx hST (k_X3_kindsOf l hlt T mo am ae ap ab aw ac an a0 a1 a2 th many coins pairs ((2 ^ cn - 1 : Nat) : Int) cn (vc.1) (vc.2.1) (vc.2.2.1)) q1247 s_X3_kindsOf rfl 0 rfl rfl (g_perm [2, 3, 4, 5, 0, 1] rfl rfl) (g_rmB rfl) (Nat.le_of_ble_eq_true rfl) dX3_does_5 rfl (fun v_ hv_ => ?_)
  have vc := vc.2
  have vc := vc.2
  have vc := vc.2
  obtain ⟨r_3, rfl, e_4⟩ := hv_
  subst e_4
  refine g_st (st2 := [.int (iN ((kinds pairs ((2 ^ cn - 1 : Nat) : Int).toNat cn : Nat) : Int))]) rfl ?_
  refine g_istore_n (q := 9) (lv2 := [some (.ref mo), some (.int (iN left)), some (.int (iN right)), some (.int (iN ((kinds pairs ((2 ^ cn - 1 : Nat) : Int).toNat cn : Nat) : Int)))]) cx dX3_does_8 rfl (by decide) rfl rfl ?_
  refine g_aload_n (q := 10) cx dX3_does_9 rfl rfl ?_
  refine g_iload_n (q := 11) cx dX3_does_10 rfl rfl ?_
  refine g_bipush (q := 13) (v := iN 100) cx dX3_does_11 (by decide) rfl ?_
  refine g_idivZ (q := 14) cx vc.1 (by decide) dX3_does_13 rfl ?_
  have vc := vc.2
  refine g_iload_n (q := 15) cx dX3_does_14 rfl rfl ?_
  refine g_bipush (q := 17) (v := iN 10) cx dX3_does_15 (by decide) rfl ?_
  refine g_idivZ (q := 18) cx vc.1 (by decide) dX3_does_17 rfl ?_
  have vc := vc.2
  refine g_bipush (q := 20) (v := iN 10) cx dX3_does_18 (by decide) rfl ?_
  refine g_iremZ (q := 21) cx vc.1 (by decide) dX3_does_20 rfl ?_
  have vc := vc.2
  refine g_iload_n (q := 22) cx dX3_does_21 rfl rfl ?_
  refine g_bipush (q := 24) (v := iN 10) cx dX3_does_22 (by decide) rfl ?_
  refine g_iremZ (q := 25) cx vc.1 (by decide) dX3_does_24 rfl ?_
  have vc := vc.2
  refine g_aload_n (q := 26) cx dX3_does_25 rfl rfl ?_
  refine g_iload_n (q := 27) cx dX3_does_26 rfl rfl ?_
  refine g_cVr (q := 30) (b := mo) (As := [.int (iN left)]) (wr := [(an, .inl (T.2.1 0, 1000, .inl (zA needs))), (a0, .inl (T.2.1 0, 3, .inl (zA both))), (a1, .inl (T.2.1 0, 3, .inl (zA heavy))), (a2, .inl (T.2.1 0, 3, .inl (zA light)))]) (st := [.int (iN (((kinds pairs ((2 ^ cn - 1 : Nat) : Int).toNat cn : Nat) : Int) % 10)), .int (iN ((((kinds pairs ((2 ^ cn - 1 : Nat) : Int).toNat cn : Nat) : Int) / 10) % 10)), .int (iN (((kinds pairs ((2 ^ cn - 1 : Nat) : Int).toNat cn : Nat) : Int) / 100)), .ref mo]) cx hST (k_X3_kindsOf l hlt T mo am ae ap ab aw ac an a0 a1 a2 th many coins pairs left cn (vc.1) (vc.2.1) (vc.2.2.1)) q1247 s_X3_kindsOf rfl 0 rfl rfl (g_perm [2, 3, 4, 5, 0, 1] rfl rfl) (g_rmB rfl) (Nat.le_of_ble_eq_true rfl) dX3_does_27 rfl (fun v_ hv_ => ?_)
  have vc := vc.2
  have vc := vc.2
  have vc := vc.2
  obtain ⟨r_5, rfl, e_6⟩ := hv_
  subst e_6
  refine g_st (st2 := [.int (iN ((kinds pairs left.toNat cn : Nat) : Int)), .int (iN (((kinds pairs ((2 ^ cn - 1 : Nat) : Int).toNat cn : Nat) : Int) % 10)), .int (iN ((((kinds pairs ((2 ^ cn - 1 : Nat) : Int).toNat cn : Nat) : Int) / 10) % 10)), .int (iN (((kinds pairs ((2 ^ cn - 1 : Nat) : Int).toNat cn : Nat) : Int) / 100)), .ref mo]) rfl ?_
  refine g_aload_n (q := 31) cx dX3_does_30 rfl rfl ?_
  refine g_iload_n (q := 32) cx dX3_does_31 rfl rfl ?_
  refine g_cVr (q := 35) (b := mo) (As := [.int (iN right)]) (wr := [(an, .inl (T.2.1 0, 1000, .inl (zA needs))), (a0, .inl (T.2.1 0, 3, .inl (zA both))), (a1, .inl (T.2.1 0, 3, .inl (zA heavy))), (a2, .inl (T.2.1 0, 3, .inl (zA light)))]) (st := [.int (iN ((kinds pairs left.toNat cn : Nat) : Int)), .int (iN (((kinds pairs ((2 ^ cn - 1 : Nat) : Int).toNat cn : Nat) : Int) % 10)), .int (iN ((((kinds pairs ((2 ^ cn - 1 : Nat) : Int).toNat cn : Nat) : Int) / 10) % 10)), .int (iN (((kinds pairs ((2 ^ cn - 1 : Nat) : Int).toNat cn : Nat) : Int) / 100)), .ref mo]) cx hST (k_X3_kindsOf l hlt T mo am ae ap ab aw ac an a0 a1 a2 th many coins pairs right cn (vc.1) (vc.2.1) (vc.2.2.1)) q1247 s_X3_kindsOf rfl 0 rfl rfl (g_perm [2, 3, 4, 5, 0, 1] rfl rfl) (g_rmB rfl) (Nat.le_of_ble_eq_true rfl) dX3_does_32 rfl (fun v_ hv_ => ?_)
  have vc := vc.2
  have vc := vc.2
  have vc := vc.2
  obtain ⟨r_7, rfl, e_8⟩ := hv_
  subst e_8
  refine g_st (st2 := [.int (iN ((kinds pairs right.toNat cn : Nat) : Int)), .int (iN ((kinds pairs left.toNat cn : Nat) : Int)), .int (iN (((kinds pairs ((2 ^ cn - 1 : Nat) : Int).toNat cn : Nat) : Int) % 10)), .int (iN ((((kinds pairs ((2 ^ cn - 1 : Nat) : Int).toNat cn : Nat) : Int) / 10) % 10)), .int (iN (((kinds pairs ((2 ^ cn - 1 : Nat) : Int).toNat cn : Nat) : Int) / 100)), .ref mo]) rfl ?_
  refine g_cVw (q := 38) (b := mo) (As := [.int (iN (((kinds pairs ((2 ^ cn - 1 : Nat) : Int).toNat cn : Nat) : Int) / 100)), .int (iN ((((kinds pairs ((2 ^ cn - 1 : Nat) : Int).toNat cn : Nat) : Int) / 10) % 10)), .int (iN (((kinds pairs ((2 ^ cn - 1 : Nat) : Int).toNat cn : Nat) : Int) % 10)), .int (iN ((kinds pairs left.toNat cn : Nat) : Int)), .int (iN ((kinds pairs right.toNat cn : Nat) : Int))]) (wr := [(ac, .inl (T.2.1 0, 9, .inl (zA pairs))), (an, .inl (T.2.1 0, 1000, .inl (zA needs)))]) (st := []) cx hST hrw (k_X3_split l hlt T mo am ae ap ab aw ac an a0 a1 a2 th many coins both heavy light (((kinds pairs ((2 ^ cn - 1 : Nat) : Int).toNat cn : Nat) : Int) / 100) ((((kinds pairs ((2 ^ cn - 1 : Nat) : Int).toNat cn : Nat) : Int) / 10) % 10) (((kinds pairs ((2 ^ cn - 1 : Nat) : Int).toNat cn : Nat) : Int) % 10) ((kinds pairs left.toNat cn : Nat) : Int) ((kinds pairs right.toNat cn : Nat) : Int) (vc.1) (vc.2.1)) q1054 s_X3_split rfl 0 rfl rfl (g_perm [1, 2, 0, 3, 4, 5] rfl rfl) (g_rmB rfl) (Nat.le_of_ble_eq_true rfl) dX3_does_35 rfl (fun v_ wn_ hv_ => ?_)
  have vc := vc.2
  have vc := vc.2
  obtain ⟨both2_9, heavy2_10, light2_11, rfl, rfl, e_12⟩ := hv_
  obtain ⟨rfl, rfl, rfl⟩ := e_12
  refine g_wp (ws2 := [(mo, .inr (2, [.int (iN th), .ref am, .ref ae, .int (iN many), .ref ap, .ref ab, .ref aw, .int (iN coins), .ref ac, .ref an, .ref a0, .ref a1, .ref a2])), (ac, .inl (T.2.1 0, 9, .inl (zA pairs))), (an, .inl (T.2.1 0, 1000, .inl (zA needs))), (a0, .inl (T.2.1 0, 3, .inl (zA (spB (((kinds pairs ((2 ^ cn - 1 : Nat) : Int).toNat cn : Nat) : Int) / 100) ((kinds pairs left.toNat cn : Nat) : Int) ((kinds pairs right.toNat cn : Nat) : Int) both)))), (a1, .inl (T.2.1 0, 3, .inl (zA (spH ((((kinds pairs ((2 ^ cn - 1 : Nat) : Int).toNat cn : Nat) : Int) / 10) % 10) ((kinds pairs left.toNat cn : Nat) : Int) ((kinds pairs right.toNat cn : Nat) : Int) heavy)))), (a2, .inl (T.2.1 0, 3, .inl (zA (spL (((kinds pairs ((2 ^ cn - 1 : Nat) : Int).toNat cn : Nat) : Int) % 10) ((kinds pairs left.toNat cn : Nat) : Int) ((kinds pairs right.toNat cn : Nat) : Int) light))))]) (g_perm [2, 0, 1, 3, 4, 5] rfl rfl) ?_
  refine g_cs (cells2 := 0) (slots2 := 0) (ws2 := [(mo, .inr (2, [.int (iN th), .ref am, .ref ae, .int (iN many), .ref ap, .ref ab, .ref aw, .int (iN coins), .ref ac, .ref an, .ref a0, .ref a1, .ref a2])), (ac, .inl (T.2.1 0, 9, .inl (zA pairs))), (an, .inl (T.2.1 0, 1000, .inl (zA needs))), (a0, .inl (T.2.1 0, 3, .inl (zA (spB (((kinds pairs ((2 ^ cn - 1 : Nat) : Int).toNat cn : Nat) : Int) / 100) ((kinds pairs left.toNat cn : Nat) : Int) ((kinds pairs right.toNat cn : Nat) : Int) both)))), (a1, .inl (T.2.1 0, 3, .inl (zA (spH ((((kinds pairs ((2 ^ cn - 1 : Nat) : Int).toNat cn : Nat) : Int) / 10) % 10) ((kinds pairs left.toNat cn : Nat) : Int) ((kinds pairs right.toNat cn : Nat) : Int) heavy)))), (a2, .inl (T.2.1 0, 3, .inl (zA (spL (((kinds pairs ((2 ^ cn - 1 : Nat) : Int).toNat cn : Nat) : Int) % 10) ((kinds pairs left.toNat cn : Nat) : Int) ((kinds pairs right.toNat cn : Nat) : Int) light))))]) rfl rfl rfl ?_
  refine g_st (st2 := []) rfl ?_
  refine g_aload_n (q := 39) cx dX3_does_38 rfl rfl ?_
  refine g_cVr (q := 42) (b := mo) (As := []) (wr := [(a0, .inl (T.2.1 0, 3, .inl (zA (spB (((kinds pairs ((2 ^ cn - 1 : Nat) : Int).toNat cn : Nat) : Int) / 100) ((kinds pairs left.toNat cn : Nat) : Int) ((kinds pairs right.toNat cn : Nat) : Int) both)))), (a1, .inl (T.2.1 0, 3, .inl (zA (spH ((((kinds pairs ((2 ^ cn - 1 : Nat) : Int).toNat cn : Nat) : Int) / 10) % 10) ((kinds pairs left.toNat cn : Nat) : Int) ((kinds pairs right.toNat cn : Nat) : Int) heavy)))), (a2, .inl (T.2.1 0, 3, .inl (zA (spL (((kinds pairs ((2 ^ cn - 1 : Nat) : Int).toNat cn : Nat) : Int) % 10) ((kinds pairs left.toNat cn : Nat) : Int) ((kinds pairs right.toNat cn : Nat) : Int) light))))]) (st := []) cx hST (k_X3_need l hlt T mo am ae ap ab aw ac an a0 a1 a2 th many coins pairs needs cn (vc.1) (vc.2.1)) q1239 s_X3_need rfl 0 rfl rfl (g_perm [3, 4, 5, 0, 1, 2] rfl rfl) (g_rmB rfl) (Nat.le_of_ble_eq_true rfl) dX3_does_39 rfl (fun v_ hv_ => ?_)
  have vc := vc.2
  have vc := vc.2
  obtain ⟨r_13, rfl, e_14⟩ := hv_
  subst e_14
  refine g_st (st2 := [.int (iN (needs (kinds pairs (2 ^ cn - 1) cn)))]) rfl ?_
  refine g_if_leZ (q := 45) (tg := 60) cx vc.1 dX3_does_42 (by decide) rfl (fun h_15 => ?_) (fun h_15 => ?_)
  · have vc := vc.2.1 h_15
    refine g_iconst (q := 61) (v := iN 0) cx dX3_does_60 rfl rfl ?_
    exact g_iretW cx hr (by decide) ⟨false, (spB (((kinds pairs ((2 ^ cn - 1 : Nat) : Int).toNat cn : Nat) : Int) / 100) ((kinds pairs left.toNat cn : Nat) : Int) ((kinds pairs right.toNat cn : Nat) : Int) both), (spH ((((kinds pairs ((2 ^ cn - 1 : Nat) : Int).toNat cn : Nat) : Int) / 10) % 10) ((kinds pairs left.toNat cn : Nat) : Int) ((kinds pairs right.toNat cn : Nat) : Int) heavy), (spL (((kinds pairs ((2 ^ cn - 1 : Nat) : Int).toNat cn : Nat) : Int) % 10) ((kinds pairs left.toNat cn : Nat) : Int) ((kinds pairs right.toNat cn : Nat) : Int) light), rfl, rfl, vc⟩ (by first | exact Nat.le_of_ble_eq_true rfl | omega) (by first | exact Nat.le_of_ble_eq_true rfl | omega) dX3_does_61
  · have vc := vc.2.2 h_15
    refine g_aload_n (q := 46) cx dX3_does_45 rfl rfl ?_
    refine g_cVr (q := 49) (b := mo) (As := []) (wr := [(ac, .inl (T.2.1 0, 9, .inl (zA pairs)))]) (st := []) cx hST (k_X3_worst l hlt T mo am ae ap ab aw ac an a0 a1 a2 th many coins needs (spB (((kinds pairs ((2 ^ cn - 1 : Nat) : Int).toNat cn : Nat) : Int) / 100) ((kinds pairs left.toNat cn : Nat) : Int) ((kinds pairs right.toNat cn : Nat) : Int) both) (spH ((((kinds pairs ((2 ^ cn - 1 : Nat) : Int).toNat cn : Nat) : Int) / 10) % 10) ((kinds pairs left.toNat cn : Nat) : Int) ((kinds pairs right.toNat cn : Nat) : Int) heavy) (spL (((kinds pairs ((2 ^ cn - 1 : Nat) : Int).toNat cn : Nat) : Int) % 10) ((kinds pairs left.toNat cn : Nat) : Int) ((kinds pairs right.toNat cn : Nat) : Int) light) (vc.1) (vc.2.1)) q1058 s_X3_worst rfl 0 rfl rfl (g_perm [1, 0, 2, 3, 4, 5] rfl rfl) (g_rmB rfl) (Nat.le_of_ble_eq_true rfl) dX3_does_46 rfl (fun v_ hv_ => ?_)
    have vc := vc.2
    have vc := vc.2
    obtain ⟨r_16, rfl, e_17⟩ := hv_
    subst e_17
    refine g_st (st2 := [.int (iN (mx (mx (nofZ needs ((spB (((kinds pairs ((2 ^ cn - 1 : Nat) : Int).toNat cn : Nat) : Int) / 100) ((kinds pairs left.toNat cn : Nat) : Int) ((kinds pairs right.toNat cn : Nat) : Int) both) 0) ((spH ((((kinds pairs ((2 ^ cn - 1 : Nat) : Int).toNat cn : Nat) : Int) / 10) % 10) ((kinds pairs left.toNat cn : Nat) : Int) ((kinds pairs right.toNat cn : Nat) : Int) heavy) 0) ((spL (((kinds pairs ((2 ^ cn - 1 : Nat) : Int).toNat cn : Nat) : Int) % 10) ((kinds pairs left.toNat cn : Nat) : Int) ((kinds pairs right.toNat cn : Nat) : Int) light) 0)) (nofZ needs ((spB (((kinds pairs ((2 ^ cn - 1 : Nat) : Int).toNat cn : Nat) : Int) / 100) ((kinds pairs left.toNat cn : Nat) : Int) ((kinds pairs right.toNat cn : Nat) : Int) both) 1) ((spH ((((kinds pairs ((2 ^ cn - 1 : Nat) : Int).toNat cn : Nat) : Int) / 10) % 10) ((kinds pairs left.toNat cn : Nat) : Int) ((kinds pairs right.toNat cn : Nat) : Int) heavy) 1) ((spL (((kinds pairs ((2 ^ cn - 1 : Nat) : Int).toNat cn : Nat) : Int) % 10) ((kinds pairs left.toNat cn : Nat) : Int) ((kinds pairs right.toNat cn : Nat) : Int) light) 1))) (nofZ needs ((spB (((kinds pairs ((2 ^ cn - 1 : Nat) : Int).toNat cn : Nat) : Int) / 100) ((kinds pairs left.toNat cn : Nat) : Int) ((kinds pairs right.toNat cn : Nat) : Int) both) 2) ((spH ((((kinds pairs ((2 ^ cn - 1 : Nat) : Int).toNat cn : Nat) : Int) / 10) % 10) ((kinds pairs left.toNat cn : Nat) : Int) ((kinds pairs right.toNat cn : Nat) : Int) heavy) 2) ((spL (((kinds pairs ((2 ^ cn - 1 : Nat) : Int).toNat cn : Nat) : Int) % 10) ((kinds pairs left.toNat cn : Nat) : Int) ((kinds pairs right.toNat cn : Nat) : Int) light) 2))))]) rfl ?_
    refine g_aload_n (q := 50) cx dX3_does_49 rfl rfl ?_
    refine g_cVr (q := 53) (b := mo) (As := []) (wr := [(a0, .inl (T.2.1 0, 3, .inl (zA (spB (((kinds pairs ((2 ^ cn - 1 : Nat) : Int).toNat cn : Nat) : Int) / 100) ((kinds pairs left.toNat cn : Nat) : Int) ((kinds pairs right.toNat cn : Nat) : Int) both)))), (a1, .inl (T.2.1 0, 3, .inl (zA (spH ((((kinds pairs ((2 ^ cn - 1 : Nat) : Int).toNat cn : Nat) : Int) / 10) % 10) ((kinds pairs left.toNat cn : Nat) : Int) ((kinds pairs right.toNat cn : Nat) : Int) heavy)))), (a2, .inl (T.2.1 0, 3, .inl (zA (spL (((kinds pairs ((2 ^ cn - 1 : Nat) : Int).toNat cn : Nat) : Int) % 10) ((kinds pairs left.toNat cn : Nat) : Int) ((kinds pairs right.toNat cn : Nat) : Int) light))))]) (st := [.int (iN (mx (mx (nofZ needs ((spB (((kinds pairs ((2 ^ cn - 1 : Nat) : Int).toNat cn : Nat) : Int) / 100) ((kinds pairs left.toNat cn : Nat) : Int) ((kinds pairs right.toNat cn : Nat) : Int) both) 0) ((spH ((((kinds pairs ((2 ^ cn - 1 : Nat) : Int).toNat cn : Nat) : Int) / 10) % 10) ((kinds pairs left.toNat cn : Nat) : Int) ((kinds pairs right.toNat cn : Nat) : Int) heavy) 0) ((spL (((kinds pairs ((2 ^ cn - 1 : Nat) : Int).toNat cn : Nat) : Int) % 10) ((kinds pairs left.toNat cn : Nat) : Int) ((kinds pairs right.toNat cn : Nat) : Int) light) 0)) (nofZ needs ((spB (((kinds pairs ((2 ^ cn - 1 : Nat) : Int).toNat cn : Nat) : Int) / 100) ((kinds pairs left.toNat cn : Nat) : Int) ((kinds pairs right.toNat cn : Nat) : Int) both) 1) ((spH ((((kinds pairs ((2 ^ cn - 1 : Nat) : Int).toNat cn : Nat) : Int) / 10) % 10) ((kinds pairs left.toNat cn : Nat) : Int) ((kinds pairs right.toNat cn : Nat) : Int) heavy) 1) ((spL (((kinds pairs ((2 ^ cn - 1 : Nat) : Int).toNat cn : Nat) : Int) % 10) ((kinds pairs left.toNat cn : Nat) : Int) ((kinds pairs right.toNat cn : Nat) : Int) light) 1))) (nofZ needs ((spB (((kinds pairs ((2 ^ cn - 1 : Nat) : Int).toNat cn : Nat) : Int) / 100) ((kinds pairs left.toNat cn : Nat) : Int) ((kinds pairs right.toNat cn : Nat) : Int) both) 2) ((spH ((((kinds pairs ((2 ^ cn - 1 : Nat) : Int).toNat cn : Nat) : Int) / 10) % 10) ((kinds pairs left.toNat cn : Nat) : Int) ((kinds pairs right.toNat cn : Nat) : Int) heavy) 2) ((spL (((kinds pairs ((2 ^ cn - 1 : Nat) : Int).toNat cn : Nat) : Int) % 10) ((kinds pairs left.toNat cn : Nat) : Int) ((kinds pairs right.toNat cn : Nat) : Int) light) 2))))]) cx hST (k_X3_need l hlt T mo am ae ap ab aw ac an a0 a1 a2 th many coins pairs needs cn (vc.1) (vc.2.1)) q1239 s_X3_need rfl 0 rfl rfl (g_perm [3, 4, 5, 0, 1, 2] rfl rfl) (g_rmB rfl) (Nat.le_of_ble_eq_true rfl) dX3_does_50 rfl (fun v_ hv_ => ?_)
    have vc := vc.2
    have vc := vc.2
    obtain ⟨r_18, rfl, e_19⟩ := hv_
    subst e_19
    refine g_st (st2 := [.int (iN (needs (kinds pairs (2 ^ cn - 1) cn))), .int (iN (mx (mx (nofZ needs ((spB (((kinds pairs ((2 ^ cn - 1 : Nat) : Int).toNat cn : Nat) : Int) / 100) ((kinds pairs left.toNat cn : Nat) : Int) ((kinds pairs right.toNat cn : Nat) : Int) both) 0) ((spH ((((kinds pairs ((2 ^ cn - 1 : Nat) : Int).toNat cn : Nat) : Int) / 10) % 10) ((kinds pairs left.toNat cn : Nat) : Int) ((kinds pairs right.toNat cn : Nat) : Int) heavy) 0) ((spL (((kinds pairs ((2 ^ cn - 1 : Nat) : Int).toNat cn : Nat) : Int) % 10) ((kinds pairs left.toNat cn : Nat) : Int) ((kinds pairs right.toNat cn : Nat) : Int) light) 0)) (nofZ needs ((spB (((kinds pairs ((2 ^ cn - 1 : Nat) : Int).toNat cn : Nat) : Int) / 100) ((kinds pairs left.toNat cn : Nat) : Int) ((kinds pairs right.toNat cn : Nat) : Int) both) 1) ((spH ((((kinds pairs ((2 ^ cn - 1 : Nat) : Int).toNat cn : Nat) : Int) / 10) % 10) ((kinds pairs left.toNat cn : Nat) : Int) ((kinds pairs right.toNat cn : Nat) : Int) heavy) 1) ((spL (((kinds pairs ((2 ^ cn - 1 : Nat) : Int).toNat cn : Nat) : Int) % 10) ((kinds pairs left.toNat cn : Nat) : Int) ((kinds pairs right.toNat cn : Nat) : Int) light) 1))) (nofZ needs ((spB (((kinds pairs ((2 ^ cn - 1 : Nat) : Int).toNat cn : Nat) : Int) / 100) ((kinds pairs left.toNat cn : Nat) : Int) ((kinds pairs right.toNat cn : Nat) : Int) both) 2) ((spH ((((kinds pairs ((2 ^ cn - 1 : Nat) : Int).toNat cn : Nat) : Int) / 10) % 10) ((kinds pairs left.toNat cn : Nat) : Int) ((kinds pairs right.toNat cn : Nat) : Int) heavy) 2) ((spL (((kinds pairs ((2 ^ cn - 1 : Nat) : Int).toNat cn : Nat) : Int) % 10) ((kinds pairs left.toNat cn : Nat) : Int) ((kinds pairs right.toNat cn : Nat) : Int) light) 2))))]) rfl ?_
    refine g_icmp_geZ (q := 56) (tg := 60) cx vc.1 vc.2.1 dX3_does_53 (by decide) rfl (fun h_20 => ?_) (fun h_20 => ?_)
    · have vc := vc.2.2.1 h_20
      refine g_iconst (q := 61) (v := iN 0) cx dX3_does_60 rfl rfl ?_
      exact g_iretW cx hr (by decide) ⟨false, (spB (((kinds pairs ((2 ^ cn - 1 : Nat) : Int).toNat cn : Nat) : Int) / 100) ((kinds pairs left.toNat cn : Nat) : Int) ((kinds pairs right.toNat cn : Nat) : Int) both), (spH ((((kinds pairs ((2 ^ cn - 1 : Nat) : Int).toNat cn : Nat) : Int) / 10) % 10) ((kinds pairs left.toNat cn : Nat) : Int) ((kinds pairs right.toNat cn : Nat) : Int) heavy), (spL (((kinds pairs ((2 ^ cn - 1 : Nat) : Int).toNat cn : Nat) : Int) % 10) ((kinds pairs left.toNat cn : Nat) : Int) ((kinds pairs right.toNat cn : Nat) : Int) light), rfl, rfl, vc⟩ (by first | exact Nat.le_of_ble_eq_true rfl | omega) (by first | exact Nat.le_of_ble_eq_true rfl | omega) dX3_does_61
    · have vc := vc.2.2.2 h_20
      refine g_iconst (q := 57) (v := iN 1) cx dX3_does_56 rfl rfl ?_
      refine g_goto (q := 61) cx dX3_does_57 (by decide) ?_
      exact g_iretW cx hr (by decide) ⟨true, (spB (((kinds pairs ((2 ^ cn - 1 : Nat) : Int).toNat cn : Nat) : Int) / 100) ((kinds pairs left.toNat cn : Nat) : Int) ((kinds pairs right.toNat cn : Nat) : Int) both), (spH ((((kinds pairs ((2 ^ cn - 1 : Nat) : Int).toNat cn : Nat) : Int) / 10) % 10) ((kinds pairs left.toNat cn : Nat) : Int) ((kinds pairs right.toNat cn : Nat) : Int) heavy), (spL (((kinds pairs ((2 ^ cn - 1 : Nat) : Int).toNat cn : Nat) : Int) % 10) ((kinds pairs left.toNat cn : Nat) : Int) ((kinds pairs right.toNat cn : Nat) : Int) light), rfl, rfl, vc⟩ (by first | exact Nat.le_of_ble_eq_true rfl | omega) (by first | exact Nat.le_of_ble_eq_true rfl | omega) dX3_does_61

theorem k_X3_does (l : Launch) (hlt : l.stackTraces = false) (T : GT) (mo : Nat) (am : Nat) (ae : Nat) (ap : Nat) (ab : Nat) (aw : Nat) (ac : Nat) (an : Nat) (a0 : Nat) (a1 : Nat) (a2 : Nat) (th : Int) (many : Int) (coins : Int) (pairs : Nat → Int) (needs : Nat → Int) (both : Nat → Int) (heavy : Nat → Int) (light : Nat → Int) (left : Int) (right : Int) (cn : Nat) (hp0 : coins = cn ∧ cn ≤ 9) (hp1 : prOK pairs) (hp2 : rngN needs) (hp3 : 0 ≤ left ∧ left < 2147483648) (hp4 : 0 ≤ right ∧ right < 2147483648) (hp5 : left.toNat &&& right.toNat = 0) : MW l T yX3_does cX3_does 4 (some .boolean) ({ frames := 3, cells := 0, slots := 0, locals := 64 }) [.ref mo, .int (iN left), .int (iN right)] [(mo, .inr (2, [.int (iN th), .ref am, .ref ae, .int (iN many), .ref ap, .ref ab, .ref aw, .int (iN coins), .ref ac, .ref an, .ref a0, .ref a1, .ref a2])), (ac, .inl (T.2.1 0, 9, .inl (zA pairs))), (an, .inl (T.2.1 0, 1000, .inl (zA needs))), (a0, .inl (T.2.1 0, 3, .inl (zA both))), (a1, .inl (T.2.1 0, 3, .inl (zA heavy))), (a2, .inl (T.2.1 0, 3, .inl (zA light)))] (fun v_ wn_ => ∃ (b2 : Bool), ∃ (both2 : Nat → Int), ∃ (heavy2 : Nat → Int), ∃ (light2 : Nat → Int), v_ = some (.int (bI b2)) ∧ wn_ = [(mo, .inr (2, [.int (iN th), .ref am, .ref ae, .int (iN many), .ref ap, .ref ab, .ref aw, .int (iN coins), .ref ac, .ref an, .ref a0, .ref a1, .ref a2])), (ac, .inl (T.2.1 0, 9, .inl (zA pairs))), (an, .inl (T.2.1 0, 1000, .inl (zA needs))), (a0, .inl (T.2.1 0, 3, .inl (zA both2))), (a1, .inl (T.2.1 0, 3, .inl (zA heavy2))), (a2, .inl (T.2.1 0, 3, .inl (zA light2)))] ∧ b2 = (doesF needs pairs cn left.toNat right.toNat)) 0 0 := by
  refine w_X3_does l hlt T mo am ae ap ab aw ac an a0 a1 a2 th many coins pairs needs both heavy light left right cn _ ?_
  have h9 := pow2_9 hp0.2
  have ka := kinds_dig pairs (2 ^ cn - 1) cn hp0.2
  have kx := kinds_dig pairs left.toNat cn hp0.2
  have ky := kinds_dig pairs right.toNat cn hp0.2
  have s3 := kvc_two pairs 3 cn hp5
  have s1 := kvc_two pairs 1 cn hp5
  have s2 := kvc_two pairs 2 cn hp5
  have sl := kvc_sum pairs (2 ^ cn - 1) cn
  have ea : ((2 ^ cn - 1 : Nat) : Int).toNat = 2 ^ cn - 1 := Int.toNat_natCast _
  have hnd := hp2 (kinds pairs (2 ^ cn - 1) cn) (by omega)
  rw [ea]
  unfold doesF
  generalize kinds pairs (2 ^ cn - 1) cn = a at *
  generalize kinds pairs left.toNat cn = x at *
  generalize kinds pairs right.toNat cn = y at *
  generalize kvc pairs (2 ^ cn - 1) 3 cn = b at *
  generalize kvc pairs (2 ^ cn - 1) 1 cn = h at *
  generalize kvc pairs (2 ^ cn - 1) 2 cn = k at *
  have e1 : (a : Int) / 100 = (b : Int) := by omega
  have e2 : (a : Int) / 10 % 10 = (h : Int) := by omega
  have e3 : (a : Int) % 10 = (k : Int) := by omega
  rw [e1, e2, e3]
  have sr := @sp_rng b h k x y both heavy light (by omega) (by omega) (by omega) (by omega)
  have sw := @sp_worst needs b h k x y both heavy light (by omega) (by omega) (by omega)
  rw [sw]
  have wr : -2147483648 ≤ worstLR needs b h k x y ∧ worstLR needs b h k x y < 2147483648 := by
    rw [← sw]
    have a0 := nofZ_in hp2 (sr 0 (by omega)).1 (sr 0 (by omega)).2.1 (sr 0 (by omega)).2.2
    have a1 := nofZ_in hp2 (sr 1 (by omega)).1 (sr 1 (by omega)).2.1 (sr 1 (by omega)).2.2
    have a2 := nofZ_in hp2 (sr 2 (by omega)).1 (sr 2 (by omega)).2.1 (sr 2 (by omega)).2.2
    unfold mx
    repeat' split
    all_goals omega
  refine ⟨hp0, hp0, by omega, hp1, by omega, by omega, by omega, by omega, hp0, hp3, hp1, hp0, hp4, hp1, by omega, by omega, hp0, hp1, by omega, fun h1 => ?_, fun h1 => ⟨sr, hp2, hp0, hp1, wr, by omega, fun h2 => ?_, fun h2 => ?_⟩⟩
  · rw [decide_eq_false (by omega : ¬ 0 < needs a)]; rfl
  · rw [decide_eq_false (by omega : ¬ worstLR needs b h k x y < needs a), Bool.and_false]
  · rw [decide_eq_true h1, decide_eq_true h2]; rfl

set_option maxRecDepth 100000 in
set_option maxHeartbeats 4000000 in
theorem w_X3_isGood (l : Launch) (hlt : l.stackTraces = false) (T : GT) (mo : Nat) (am : Nat) (ae : Nat) (ap : Nat) (ab : Nat) (aw : Nat) (ac : Nat) (an : Nat) (a0 : Nat) (a1 : Nat) (a2 : Nat) (th : Int) (many : Int) (coins : Int) (pairs : Nat → Int) (needs : Nat → Int) (both : Nat → Int) (heavy : Nat → Int) (light : Nat → Int) (left : Int) (right : Int) (cn : Nat)  (post : Bool → Int → (Nat → Int) → (Nat → Int) → (Nat → Int) → Prop) (v0_ : (coins = cn ∧ cn ≤ 9) ∧ ((-2147483648 ≤ left ∧ left < 2147483648) ∧ ((-2147483648 ≤ right ∧ right < 2147483648) ∧ (((isWF cn left right) = false → (post false 1 both heavy light)) ∧ ((isWF cn left right) = true → ((coins = cn ∧ cn ≤ 9) ∧ ((prOK pairs) ∧ ((rngN needs) ∧ ((0 ≤ left ∧ left < 2147483648) ∧ ((0 ≤ right ∧ right < 2147483648) ∧ ((left.toNat &&& right.toNat = 0) ∧ (∀ (both2_11 : Nat → Int) (heavy2_12 : Nat → Int) (light2_13 : Nat → Int), ((doesF needs pairs cn left.toNat right.toNat) = false → (post false 0 both2_11 heavy2_12 light2_13)) ∧ ((doesF needs pairs cn left.toNat right.toNat) = true → (post true 0 both2_11 heavy2_12 light2_13))))))))))))))  : MW l T yX3_isGood cX3_isGood 3 (some .boolean) ({ frames := 4, cells := 0, slots := 0, locals := 87 }) [.ref mo, .int (iN left), .int (iN right)] [(mo, .inr (2, [.int (iN th), .ref am, .ref ae, .int (iN many), .ref ap, .ref ab, .ref aw, .int (iN coins), .ref ac, .ref an, .ref a0, .ref a1, .ref a2])), (ac, .inl (T.2.1 0, 9, .inl (zA pairs))), (an, .inl (T.2.1 0, 1000, .inl (zA needs))), (a0, .inl (T.2.1 0, 3, .inl (zA both))), (a1, .inl (T.2.1 0, 3, .inl (zA heavy))), (a2, .inl (T.2.1 0, 3, .inl (zA light)))] (fun v_ wn_ => ∃ (b2 : Bool), ∃ (th2 : Int), ∃ (both2 : Nat → Int), ∃ (heavy2 : Nat → Int), ∃ (light2 : Nat → Int), v_ = some (.int (bI b2)) ∧ wn_ = [(mo, .inr (2, [.int (iN th2), .ref am, .ref ae, .int (iN many), .ref ap, .ref ab, .ref aw, .int (iN coins), .ref ac, .ref an, .ref a0, .ref a1, .ref a2])), (ac, .inl (T.2.1 0, 9, .inl (zA pairs))), (an, .inl (T.2.1 0, 1000, .inl (zA needs))), (a0, .inl (T.2.1 0, 3, .inl (zA both2))), (a1, .inl (T.2.1 0, 3, .inl (zA heavy2))), (a2, .inl (T.2.1 0, 3, .inl (zA light2)))] ∧ post b2 th2 both2 heavy2 light2) 0 0 := by
  refine MW.start hlt (by decide) (lv0 := [some (.ref mo), some (.int (iN left)), some (.int (iN right))]) rfl (Nat.le_of_ble_eq_true rfl) rfl ?_
  intro p e R s m args below meth c A cx hr hnm hST hrw
  have vc := v0_
  refine g_aload_n (q := 1) cx dX3_isGood_0 rfl rfl ?_
  refine g_aload_n (q := 2) cx dX3_isGood_1 rfl rfl ?_
  refine g_iload_n (q := 3) cx dX3_isGood_2 rfl rfl ?_
  refine g_iload_n (q := 4) cx dX3_isGood_3 rfl rfl ?_
  refine g_cVr (q := 7) (b := mo) (As := [.int (iN left), .int (iN right)]) (wr := [(ac, .inl (T.2.1 0, 9, .inl (zA pairs))), (an, .inl (T.2.1 0, 1000, .inl (zA needs))), (a0, .inl (T.2.1 0, 3, .inl (zA both))), (a1, .inl (T.2.1 0, 3, .inl (zA heavy))), (a2, .inl (T.2.1 0, 3, .inl (zA light)))]) (st := [.ref mo]) cx hST (k_X3_isWeighing l hlt T mo am ae ap ab aw ac an a0 a1 a2 th many coins cn left right (vc.1) (vc.2.1) (vc.2.2.1)) q1255 s_X3_isWeighing rfl 0 rfl rfl (g_perm [1, 2, 3, 4, 5, 0] rfl rfl) (g_rmB rfl) (Nat.le_of_ble_eq_true rfl) dX3_isGood_4 rfl (fun v_ hv_ => ?_)
  have vc := vc.2
  have vc := vc.2
  have vc := vc.2
  obtain ⟨b2_1, rfl, e_2⟩ := hv_
  subst e_2
  refine g_st (st2 := [.int (bI (isWF cn left right)), .ref mo]) rfl ?_
  refine g_if_eq (q := 10) (tg := 14) cx dX3_isGood_7 (by decide) rfl (fun h_3 => ?_) (fun h_3 => ?_)
  · have vc := vc.1 (bI_0.mp h_3)
    refine g_iconst (q := 15) (v := iN 1) cx dX3_isGood_14 rfl rfl ?_
    refine g_cVw (q := 18) (b := mo) (As := [.int (iN 1)]) (wr := [(ac, .inl (T.2.1 0, 9, .inl (zA pairs))), (an, .inl (T.2.1 0, 1000, .inl (zA needs))), (a0, .inl (T.2.1 0, 3, .inl (zA both))), (a1, .inl (T.2.1 0, 3, .inl (zA heavy))), (a2, .inl (T.2.1 0, 3, .inl (zA light)))]) (st := []) cx hST hrw (k_X3_goesWell l hlt T mo am ae ap ab aw ac an a0 a1 a2 th many coins 1 (by decide)) q1122 s_X3_goesWell rfl 0 rfl rfl (g_perm [1, 2, 3, 4, 5, 0] rfl rfl) (g_rmB rfl) (Nat.le_of_ble_eq_true rfl) dX3_isGood_15 rfl (fun v_ wn_ hv_ => ?_)
    obtain ⟨b_4, th2_5, rfl, rfl, e_6⟩ := hv_
    obtain ⟨rfl, rfl⟩ := e_6
    refine g_wp (ws2 := [(mo, .inr (2, [.int (iN 1), .ref am, .ref ae, .int (iN many), .ref ap, .ref ab, .ref aw, .int (iN coins), .ref ac, .ref an, .ref a0, .ref a1, .ref a2])), (ac, .inl (T.2.1 0, 9, .inl (zA pairs))), (an, .inl (T.2.1 0, 1000, .inl (zA needs))), (a0, .inl (T.2.1 0, 3, .inl (zA both))), (a1, .inl (T.2.1 0, 3, .inl (zA heavy))), (a2, .inl (T.2.1 0, 3, .inl (zA light)))]) (g_perm [5, 0, 1, 2, 3, 4] rfl rfl) ?_
    refine g_cs (cells2 := 0) (slots2 := 0) (ws2 := [(mo, .inr (2, [.int (iN 1), .ref am, .ref ae, .int (iN many), .ref ap, .ref ab, .ref aw, .int (iN coins), .ref ac, .ref an, .ref a0, .ref a1, .ref a2])), (ac, .inl (T.2.1 0, 9, .inl (zA pairs))), (an, .inl (T.2.1 0, 1000, .inl (zA needs))), (a0, .inl (T.2.1 0, 3, .inl (zA both))), (a1, .inl (T.2.1 0, 3, .inl (zA heavy))), (a2, .inl (T.2.1 0, 3, .inl (zA light)))]) rfl rfl rfl ?_
    refine g_st (st2 := [.int (bI false)]) rfl ?_
    refine g_if_eq (q := 21) (tg := 34) cx dX3_isGood_18 (by decide) rfl (fun _ => ?_) (fun h => absurd h (by decide))
    refine g_iconst (q := 35) (v := iN 0) cx dX3_isGood_34 rfl rfl ?_
    exact g_iretW cx hr (by decide) ⟨false, 1, both, heavy, light, rfl, rfl, vc⟩ (by first | exact Nat.le_of_ble_eq_true rfl | omega) (by first | exact Nat.le_of_ble_eq_true rfl | omega) dX3_isGood_35
  · have vc := vc.2 (bI_n0.mp h_3)
    refine g_iconst (q := 11) (v := iN 0) cx dX3_isGood_10 rfl rfl ?_
    refine g_goto (q := 15) cx dX3_isGood_11 (by decide) ?_
    refine g_cVw (q := 18) (b := mo) (As := [.int (iN 0)]) (wr := [(ac, .inl (T.2.1 0, 9, .inl (zA pairs))), (an, .inl (T.2.1 0, 1000, .inl (zA needs))), (a0, .inl (T.2.1 0, 3, .inl (zA both))), (a1, .inl (T.2.1 0, 3, .inl (zA heavy))), (a2, .inl (T.2.1 0, 3, .inl (zA light)))]) (st := []) cx hST hrw (k_X3_goesWell l hlt T mo am ae ap ab aw ac an a0 a1 a2 th many coins 0 (by decide)) q1122 s_X3_goesWell rfl 0 rfl rfl (g_perm [1, 2, 3, 4, 5, 0] rfl rfl) (g_rmB rfl) (Nat.le_of_ble_eq_true rfl) dX3_isGood_15 rfl (fun v_ wn_ hv_ => ?_)
    obtain ⟨b_7, th2_8, rfl, rfl, e_9⟩ := hv_
    obtain ⟨rfl, rfl⟩ := e_9
    refine g_wp (ws2 := [(mo, .inr (2, [.int (iN 0), .ref am, .ref ae, .int (iN many), .ref ap, .ref ab, .ref aw, .int (iN coins), .ref ac, .ref an, .ref a0, .ref a1, .ref a2])), (ac, .inl (T.2.1 0, 9, .inl (zA pairs))), (an, .inl (T.2.1 0, 1000, .inl (zA needs))), (a0, .inl (T.2.1 0, 3, .inl (zA both))), (a1, .inl (T.2.1 0, 3, .inl (zA heavy))), (a2, .inl (T.2.1 0, 3, .inl (zA light)))]) (g_perm [5, 0, 1, 2, 3, 4] rfl rfl) ?_
    refine g_cs (cells2 := 0) (slots2 := 0) (ws2 := [(mo, .inr (2, [.int (iN 0), .ref am, .ref ae, .int (iN many), .ref ap, .ref ab, .ref aw, .int (iN coins), .ref ac, .ref an, .ref a0, .ref a1, .ref a2])), (ac, .inl (T.2.1 0, 9, .inl (zA pairs))), (an, .inl (T.2.1 0, 1000, .inl (zA needs))), (a0, .inl (T.2.1 0, 3, .inl (zA both))), (a1, .inl (T.2.1 0, 3, .inl (zA heavy))), (a2, .inl (T.2.1 0, 3, .inl (zA light)))]) rfl rfl rfl ?_
    refine g_st (st2 := [.int (bI true)]) rfl ?_
    refine g_if_eq (q := 21) (tg := 34) cx dX3_isGood_18 (by decide) rfl (fun h => absurd h (by decide)) (fun _ => ?_)
    refine g_aload_n (q := 22) cx dX3_isGood_21 rfl rfl ?_
    refine g_iload_n (q := 23) cx dX3_isGood_22 rfl rfl ?_
    refine g_iload_n (q := 24) cx dX3_isGood_23 rfl rfl ?_
    refine g_cVw (q := 27) (b := mo) (As := [.int (iN left), .int (iN right)]) (wr := []) (st := []) cx hST hrw (k_X3_does l hlt T mo am ae ap ab aw ac an a0 a1 a2 0 many coins pairs needs both heavy light left right cn (vc.1) (vc.2.1) (vc.2.2.1) (vc.2.2.2.1) (vc.2.2.2.2.1) (vc.2.2.2.2.2.1)) q1291 s_X3_does rfl 0 rfl rfl g_perm1 (g_rmB rfl) (Nat.le_of_ble_eq_true rfl) dX3_isGood_24 rfl (fun v_ wn_ hv_ => ?_)
    have vc := vc.2
    have vc := vc.2
    have vc := vc.2
    have vc := vc.2
    have vc := vc.2
    have vc := vc.2
    obtain ⟨b2_10, both2_11, heavy2_12, light2_13, rfl, rfl, e_14⟩ := hv_
    subst e_14
    refine g_cs (cells2 := 0) (slots2 := 0) (ws2 := [(mo, .inr (2, [.int (iN 0), .ref am, .ref ae, .int (iN many), .ref ap, .ref ab, .ref aw, .int (iN coins), .ref ac, .ref an, .ref a0, .ref a1, .ref a2])), (ac, .inl (T.2.1 0, 9, .inl (zA pairs))), (an, .inl (T.2.1 0, 1000, .inl (zA needs))), (a0, .inl (T.2.1 0, 3, .inl (zA both2_11))), (a1, .inl (T.2.1 0, 3, .inl (zA heavy2_12))), (a2, .inl (T.2.1 0, 3, .inl (zA light2_13)))]) rfl rfl rfl ?_
    refine g_st (st2 := [.int (bI (doesF needs pairs cn left.toNat right.toNat))]) rfl ?_
    have vc := vc both2_11 heavy2_12 light2_13 
    refine g_if_eq (q := 30) (tg := 34) cx dX3_isGood_27 (by decide) rfl (fun h_15 => ?_) (fun h_15 => ?_)
    · have vc := vc.1 (bI_0.mp h_15)
      refine g_iconst (q := 35) (v := iN 0) cx dX3_isGood_34 rfl rfl ?_
      exact g_iretW cx hr (by decide) ⟨false, 0, both2_11, heavy2_12, light2_13, rfl, rfl, vc⟩ (by first | exact Nat.le_of_ble_eq_true rfl | omega) (by first | exact Nat.le_of_ble_eq_true rfl | omega) dX3_isGood_35
    · have vc := vc.2 (bI_n0.mp h_15)
      refine g_iconst (q := 31) (v := iN 1) cx dX3_isGood_30 rfl rfl ?_
      refine g_goto (q := 35) cx dX3_isGood_31 (by decide) ?_
      exact g_iretW cx hr (by decide) ⟨true, 0, both2_11, heavy2_12, light2_13, rfl, rfl, vc⟩ (by first | exact Nat.le_of_ble_eq_true rfl | omega) (by first | exact Nat.le_of_ble_eq_true rfl | omega) dX3_isGood_35

theorem k_X3_isGood (l : Launch) (hlt : l.stackTraces = false) (T : GT) (mo : Nat) (am : Nat) (ae : Nat) (ap : Nat) (ab : Nat) (aw : Nat) (ac : Nat) (an : Nat) (a0 : Nat) (a1 : Nat) (a2 : Nat) (th : Int) (many : Int) (coins : Int) (pairs : Nat → Int) (needs : Nat → Int) (both : Nat → Int) (heavy : Nat → Int) (light : Nat → Int) (left : Int) (right : Int) (cn : Nat) (hp0 : coins = cn ∧ cn ≤ 9) (hp1 : prOK pairs) (hp2 : rngN needs) (hp3 : -2147483648 ≤ left ∧ left < 2147483648) (hp4 : -2147483648 ≤ right ∧ right < 2147483648) : MW l T yX3_isGood cX3_isGood 3 (some .boolean) ({ frames := 4, cells := 0, slots := 0, locals := 87 }) [.ref mo, .int (iN left), .int (iN right)] [(mo, .inr (2, [.int (iN th), .ref am, .ref ae, .int (iN many), .ref ap, .ref ab, .ref aw, .int (iN coins), .ref ac, .ref an, .ref a0, .ref a1, .ref a2])), (ac, .inl (T.2.1 0, 9, .inl (zA pairs))), (an, .inl (T.2.1 0, 1000, .inl (zA needs))), (a0, .inl (T.2.1 0, 3, .inl (zA both))), (a1, .inl (T.2.1 0, 3, .inl (zA heavy))), (a2, .inl (T.2.1 0, 3, .inl (zA light)))] (fun v_ wn_ => ∃ (b2 : Bool), ∃ (th2 : Int), ∃ (both2 : Nat → Int), ∃ (heavy2 : Nat → Int), ∃ (light2 : Nat → Int), v_ = some (.int (bI b2)) ∧ wn_ = [(mo, .inr (2, [.int (iN th2), .ref am, .ref ae, .int (iN many), .ref ap, .ref ab, .ref aw, .int (iN coins), .ref ac, .ref an, .ref a0, .ref a1, .ref a2])), (ac, .inl (T.2.1 0, 9, .inl (zA pairs))), (an, .inl (T.2.1 0, 1000, .inl (zA needs))), (a0, .inl (T.2.1 0, 3, .inl (zA both2))), (a1, .inl (T.2.1 0, 3, .inl (zA heavy2))), (a2, .inl (T.2.1 0, 3, .inl (zA light2)))] ∧ b2 = (isWF cn left right && doesF needs pairs cn left.toNat right.toNat) ∧ th2 = (if isWF cn left right = true then 0 else 1)) 0 0 := by
  refine w_X3_isGood l hlt T mo am ae ap ab aw ac an a0 a1 a2 th many coins pairs needs both heavy light left right cn _ ?_
  refine ⟨hp0, hp3, hp4, fun h => ?_, fun h => ?_⟩
  · rw [h, if_neg (by decide)]
    exact ⟨rfl, rfl⟩
  · have g := of_decide_eq_true h
    refine ⟨hp0, hp1, hp2, by omega, by omega, g.2.2.2.1, fun bo he li => ⟨fun h1 => ?_, fun h1 => ?_⟩⟩
    · rw [h, h1, if_pos rfl]
      exact ⟨rfl, rfl⟩
    · rw [h, h1, if_pos rfl]
      exact ⟨rfl, rfl⟩

set_option maxRecDepth 100000 in
set_option maxHeartbeats 4000000 in
theorem w_X3_good (l : Launch) (hlt : l.stackTraces = false) (T : GT) (mo : Nat) (am : Nat) (ae : Nat) (ap : Nat) (ab : Nat) (aw : Nat) (ac : Nat) (an : Nat) (a0 : Nat) (a1 : Nat) (a2 : Nat) (th : Int) (many : Int) (coins : Int) (pairs : Nat → Int) (needs : Nat → Int) (both : Nat → Int) (heavy : Nat → Int) (light : Nat → Int) (cn : Nat) (I2 : Int → (Nat → Int) → (Nat → Int) → (Nat → Int) → Prop) (M2 : Int → (Nat → Int) → (Nat → Int) → (Nat → Int) → g_mu) (I14 : Int → Int → (Nat → Int) → (Nat → Int) → (Nat → Int) → Prop) (M14 : Int → Int → (Nat → Int) → (Nat → Int) → (Nat → Int) → g_mu) (I24 : Int → Int → Int → (Nat → Int) → (Nat → Int) → (Nat → Int) → Prop) (M24 : Int → Int → Int → (Nat → Int) → (Nat → Int) → (Nat → Int) → g_mu) (post : Int → (Nat → Int) → (Nat → Int) → (Nat → Int) → Prop) (v0_ : I2 1 both heavy light) (v2 : ∀ (size : Int) (bo : Nat → Int) (he : Nat → Int) (li : Nat → Int), I2 size bo he li → (-2147483648 ≤ (2 * size) ∧ (2 * size) < 2147483648) ∧ ((-2147483648 ≤ coins ∧ coins < 2147483648) ∧ ((coins < (2 * size) → (post 0 bo he li)) ∧ ((2 * size) ≤ coins → (I14 size 1 bo he li ∧ g_lt (M14 size 1 bo he li) (M2 size bo he li)))))) (v14 : ∀ (size : Int) (left : Int) (bo : Nat → Int) (he : Nat → Int) (li : Nat → Int), I14 size left bo he li → (coins = cn ∧ cn ≤ 9) ∧ ((-2147483648 ≤ left ∧ left < 2147483648) ∧ ((-2147483648 ≤ ((2 ^ cn - 1 : Nat) : Int) ∧ ((2 ^ cn - 1 : Nat) : Int) < 2147483648) ∧ ((((2 ^ cn - 1 : Nat) : Int) < left → (I2 (size + 1) bo he li ∧ g_lt (M2 (size + 1) bo he li) (M14 size left bo he li))) ∧ (left ≤ ((2 ^ cn - 1 : Nat) : Int) → (I24 size left 1 bo he li ∧ g_lt (M24 size left 1 bo he li) (M14 size left bo he li))))))) (v24 : ∀ (size : Int) (left : Int) (right : Int) (bo : Nat → Int) (he : Nat → Int) (li : Nat → Int), I24 size left right bo he li → (coins = cn ∧ cn ≤ 9) ∧ ((-2147483648 ≤ right ∧ right < 2147483648) ∧ ((-2147483648 ≤ ((2 ^ cn - 1 : Nat) : Int) ∧ ((2 ^ cn - 1 : Nat) : Int) < 2147483648) ∧ ((((2 ^ cn - 1 : Nat) : Int) < right → (I14 size (left + 1) bo he li ∧ g_lt (M14 size (left + 1) bo he li) (M24 size left right bo he li))) ∧ (right ≤ ((2 ^ cn - 1 : Nat) : Int) → ((0 ≤ left ∧ left < 2147483648) ∧ ((-2147483648 ≤ ((bits9 left.toNat : Nat) : Int) ∧ ((bits9 left.toNat : Nat) : Int) < 2147483648) ∧ ((-2147483648 ≤ size ∧ size < 2147483648) ∧ ((¬ ((bits9 left.toNat : Nat) : Int) = size → (I14 size (left + 1) bo he li ∧ g_lt (M14 size (left + 1) bo he li) (M24 size left right bo he li))) ∧ (((bits9 left.toNat : Nat) : Int) = size → ((coins = cn ∧ cn ≤ 9) ∧ ((-2147483648 ≤ left ∧ left < 2147483648) ∧ ((-2147483648 ≤ right ∧ right < 2147483648) ∧ (((isWF cn left right) = false → (I24 size left (right + 1) bo he li ∧ g_lt (M24 size left (right + 1) bo he li) (M24 size left right bo he li))) ∧ ((isWF cn left right) = true → ((coins = cn ∧ cn ≤ 9) ∧ ((prOK pairs) ∧ ((rngN needs) ∧ ((0 ≤ left ∧ left < 2147483648) ∧ ((0 ≤ right ∧ right < 2147483648) ∧ ((left.toNat &&& right.toNat = 0) ∧ (∀ (both2_15 : Nat → Int) (heavy2_16 : Nat → Int) (light2_17 : Nat → Int), ((doesF needs pairs cn left.toNat right.toNat) = false → (I24 size left (right + 1) both2_15 heavy2_16 light2_17 ∧ g_lt (M24 size left (right + 1) both2_15 heavy2_16 light2_17) (M24 size left right bo he li))) ∧ ((doesF needs pairs cn left.toNat right.toNat) = true → ((0 ≤ right ∧ right * 2 ^ 9 < 2147483648) ∧ ((0 ≤ (right * 2 ^ 9) ∧ (right * 2 ^ 9) < 2147483648) ∧ ((0 ≤ left ∧ left < 2147483648) ∧ (post (((right * 2 ^ 9).toNat ||| left.toNat : Nat) : Int) both2_15 heavy2_16 light2_17))))))))))))))))))))))))))) : MW l T yX3_good cX3_good 4 (some .int) ({ frames := 4, cells := 0, slots := 0, locals := 87 }) [.ref mo] [(mo, .inr (2, [.int (iN th), .ref am, .ref ae, .int (iN many), .ref ap, .ref ab, .ref aw, .int (iN coins), .ref ac, .ref an, .ref a0, .ref a1, .ref a2])), (ac, .inl (T.2.1 0, 9, .inl (zA pairs))), (an, .inl (T.2.1 0, 1000, .inl (zA needs))), (a0, .inl (T.2.1 0, 3, .inl (zA both))), (a1, .inl (T.2.1 0, 3, .inl (zA heavy))), (a2, .inl (T.2.1 0, 3, .inl (zA light)))] (fun v_ wn_ => ∃ (r : Int), ∃ (both2 : Nat → Int), ∃ (heavy2 : Nat → Int), ∃ (light2 : Nat → Int), v_ = some (.int (iN r)) ∧ wn_ = [(mo, .inr (2, [.int (iN th), .ref am, .ref ae, .int (iN many), .ref ap, .ref ab, .ref aw, .int (iN coins), .ref ac, .ref an, .ref a0, .ref a1, .ref a2])), (ac, .inl (T.2.1 0, 9, .inl (zA pairs))), (an, .inl (T.2.1 0, 1000, .inl (zA needs))), (a0, .inl (T.2.1 0, 3, .inl (zA both2))), (a1, .inl (T.2.1 0, 3, .inl (zA heavy2))), (a2, .inl (T.2.1 0, 3, .inl (zA light2)))] ∧ post r both2 heavy2 light2) 0 0 := by
  refine MW.start hlt (by decide) (lv0 := [some (.ref mo), none, none, none]) rfl (Nat.le_of_ble_eq_true rfl) rfl ?_
  intro p e R s m args below meth c A cx hr hnm hST hrw
  have key : ∀ μ : g_mu, (∀ (size : Int) (bo : Nat → Int) (he : Nat → Int) (li : Nat → Int), I2 size bo he li → M2 size bo he li = μ → G p l e R s m args below meth c 4 T A A (MQ below (g_Q T (fun v_ wn_ => ∃ (r : Int), ∃ (both2 : Nat → Int), ∃ (heavy2 : Nat → Int), ∃ (light2 : Nat → Int), v_ = some (.int (iN r)) ∧ wn_ = [(mo, .inr (2, [.int (iN th), .ref am, .ref ae, .int (iN many), .ref ap, .ref ab, .ref aw, .int (iN coins), .ref ac, .ref an, .ref a0, .ref a1, .ref a2])), (ac, .inl (T.2.1 0, 9, .inl (zA pairs))), (an, .inl (T.2.1 0, 1000, .inl (zA needs))), (a0, .inl (T.2.1 0, 3, .inl (zA both2))), (a1, .inl (T.2.1 0, 3, .inl (zA heavy2))), (a2, .inl (T.2.1 0, 3, .inl (zA light2)))] ∧ post r both2 heavy2 light2) A) args s 0 0 A) 0 0 [(mo, .inr (2, [.int (iN th), .ref am, .ref ae, .int (iN many), .ref ap, .ref ab, .ref aw, .int (iN coins), .ref ac, .ref an, .ref a0, .ref a1, .ref a2])), (ac, .inl (T.2.1 0, 9, .inl (zA pairs))), (an, .inl (T.2.1 0, 1000, .inl (zA needs))), (a0, .inl (T.2.1 0, 3, .inl (zA bo))), (a1, .inl (T.2.1 0, 3, .inl (zA he))), (a2, .inl (T.2.1 0, 3, .inl (zA li)))] [some (.ref mo), some (.int (iN size)), none, none] 2 []) ∧ (∀ (size : Int) (left : Int) (bo : Nat → Int) (he : Nat → Int) (li : Nat → Int), I14 size left bo he li → M14 size left bo he li = μ → G p l e R s m args below meth c 4 T A A (MQ below (g_Q T (fun v_ wn_ => ∃ (r : Int), ∃ (both2 : Nat → Int), ∃ (heavy2 : Nat → Int), ∃ (light2 : Nat → Int), v_ = some (.int (iN r)) ∧ wn_ = [(mo, .inr (2, [.int (iN th), .ref am, .ref ae, .int (iN many), .ref ap, .ref ab, .ref aw, .int (iN coins), .ref ac, .ref an, .ref a0, .ref a1, .ref a2])), (ac, .inl (T.2.1 0, 9, .inl (zA pairs))), (an, .inl (T.2.1 0, 1000, .inl (zA needs))), (a0, .inl (T.2.1 0, 3, .inl (zA both2))), (a1, .inl (T.2.1 0, 3, .inl (zA heavy2))), (a2, .inl (T.2.1 0, 3, .inl (zA light2)))] ∧ post r both2 heavy2 light2) A) args s 0 0 A) 0 0 [(mo, .inr (2, [.int (iN th), .ref am, .ref ae, .int (iN many), .ref ap, .ref ab, .ref aw, .int (iN coins), .ref ac, .ref an, .ref a0, .ref a1, .ref a2])), (ac, .inl (T.2.1 0, 9, .inl (zA pairs))), (an, .inl (T.2.1 0, 1000, .inl (zA needs))), (a0, .inl (T.2.1 0, 3, .inl (zA bo))), (a1, .inl (T.2.1 0, 3, .inl (zA he))), (a2, .inl (T.2.1 0, 3, .inl (zA li)))] [some (.ref mo), some (.int (iN size)), some (.int (iN left)), none] 14 []) ∧ (∀ (size : Int) (left : Int) (right : Int) (bo : Nat → Int) (he : Nat → Int) (li : Nat → Int), I24 size left right bo he li → M24 size left right bo he li = μ → G p l e R s m args below meth c 4 T A A (MQ below (g_Q T (fun v_ wn_ => ∃ (r : Int), ∃ (both2 : Nat → Int), ∃ (heavy2 : Nat → Int), ∃ (light2 : Nat → Int), v_ = some (.int (iN r)) ∧ wn_ = [(mo, .inr (2, [.int (iN th), .ref am, .ref ae, .int (iN many), .ref ap, .ref ab, .ref aw, .int (iN coins), .ref ac, .ref an, .ref a0, .ref a1, .ref a2])), (ac, .inl (T.2.1 0, 9, .inl (zA pairs))), (an, .inl (T.2.1 0, 1000, .inl (zA needs))), (a0, .inl (T.2.1 0, 3, .inl (zA both2))), (a1, .inl (T.2.1 0, 3, .inl (zA heavy2))), (a2, .inl (T.2.1 0, 3, .inl (zA light2)))] ∧ post r both2 heavy2 light2) A) args s 0 0 A) 0 0 [(mo, .inr (2, [.int (iN th), .ref am, .ref ae, .int (iN many), .ref ap, .ref ab, .ref aw, .int (iN coins), .ref ac, .ref an, .ref a0, .ref a1, .ref a2])), (ac, .inl (T.2.1 0, 9, .inl (zA pairs))), (an, .inl (T.2.1 0, 1000, .inl (zA needs))), (a0, .inl (T.2.1 0, 3, .inl (zA bo))), (a1, .inl (T.2.1 0, 3, .inl (zA he))), (a2, .inl (T.2.1 0, 3, .inl (zA li)))] [some (.ref mo), some (.int (iN size)), some (.int (iN left)), some (.int (iN right))] 24 []) := by
    refine g_ind (fun μ ih => ⟨?_, ?_, ?_⟩)
    · intro size bo he li hI hM
      subst hM
      have vc := v2 size bo he li hI
      refine g_iconst (q := 3) (v := iN 2) cx dX3_good_2 rfl rfl ?_
      refine g_iload_n (q := 4) cx dX3_good_3 rfl rfl ?_
      refine g_imulZ (q := 5) cx dX3_good_4 rfl ?_
      refine g_aload_n (q := 6) cx dX3_good_5 rfl rfl ?_
      refine g_get (q := 9) cx k_cX3 0 rfl 7 (by decide) q1077 (Or.inl rfl) rfl dX3_good_6 rfl ?_
      refine g_icmp_gtZ (q := 12) (tg := 83) cx vc.1 vc.2.1 dX3_good_9 (by decide) rfl (fun h_1 => ?_) (fun h_1 => ?_)
      · have vc := vc.2.2.1 h_1
        refine g_iconst (q := 84) (v := iN 0) cx dX3_good_83 rfl rfl ?_
        exact g_iretW cx hr rfl ⟨0, bo, he, li, rfl, rfl, vc⟩ (by first | exact Nat.le_of_ble_eq_true rfl | omega) (by first | exact Nat.le_of_ble_eq_true rfl | omega) dX3_good_84
      · have vc := vc.2.2.2 h_1
        refine g_iconst (q := 13) (v := iN 1) cx dX3_good_12 rfl rfl ?_
        refine g_istore_n (q := 14) (lv2 := [some (.ref mo), some (.int (iN size)), some (.int (iN 1)), none]) cx dX3_good_13 rfl (by decide) rfl rfl ?_
        exact ((ih _ vc.2).2.1) size 1 bo he li vc.1 rfl
    · intro size left bo he li hI hM
      subst hM
      have vc := v14 size left bo he li hI
      refine g_iload_n (q := 15) cx dX3_good_14 rfl rfl ?_
      refine g_aload_n (q := 16) cx dX3_good_15 rfl rfl ?_
      refine g_cVr (q := 19) (b := mo) (As := []) (wr := [(ac, .inl (T.2.1 0, 9, .inl (zA pairs))), (an, .inl (T.2.1 0, 1000, .inl (zA needs))), (a0, .inl (T.2.1 0, 3, .inl (zA bo))), (a1, .inl (T.2.1 0, 3, .inl (zA he))), (a2, .inl (T.2.1 0, 3, .inl (zA li)))]) (st := [.int (iN left)]) cx hST (k_X3_all l hlt T mo am ae ap ab aw ac an a0 a1 a2 th many coins cn (vc.1)) q1243 s_X3_all rfl 0 rfl rfl (g_perm [1, 2, 3, 4, 5, 0] rfl rfl) (g_rmB rfl) (Nat.le_of_ble_eq_true rfl) dX3_good_16 rfl (fun v_ hv_ => ?_)
      have vc := vc.2
      obtain ⟨r_2, rfl, e_3⟩ := hv_
      subst e_3
      refine g_st (st2 := [.int (iN ((2 ^ cn - 1 : Nat) : Int)), .int (iN left)]) rfl ?_
      refine g_icmp_gtZ (q := 22) (tg := 77) cx vc.1 vc.2.1 dX3_good_19 (by decide) rfl (fun h_4 => ?_) (fun h_4 => ?_)
      · have vc := vc.2.2.1 h_4
        refine g_iinc (q := 80) (v := iN (size + 1)) (lv2 := [some (.ref mo), some (.int (iN (size + 1))), some (.int (iN left)), none]) cx dX3_good_77 rfl (iN_add _ _) (by decide) rfl rfl ?_
        refine g_goto (q := 2) cx dX3_good_80 (by decide) ?_
        refine g_wk (lv2 := [some (.ref mo), some (.int (iN (size + 1))), none, none]) ⟨rfl, ⟨rfl, trivial⟩⟩ ?_
        exact ((ih _ vc.2).1) (size + 1) bo he li vc.1 rfl
      · have vc := vc.2.2.2 h_4
        refine g_iconst (q := 23) (v := iN 1) cx dX3_good_22 rfl rfl ?_
        refine g_istore_n (q := 24) (lv2 := [some (.ref mo), some (.int (iN size)), some (.int (iN left)), some (.int (iN 1))]) cx dX3_good_23 rfl (by decide) rfl rfl ?_
        exact ((ih _ vc.2).2.2) size left 1 bo he li vc.1 rfl
    · intro size left right bo he li hI hM
      subst hM
      have vc := v24 size left right bo he li hI
      refine g_iload_n (q := 25) cx dX3_good_24 rfl rfl ?_
      refine g_aload_n (q := 26) cx dX3_good_25 rfl rfl ?_
      refine g_cVr (q := 29) (b := mo) (As := []) (wr := [(ac, .inl (T.2.1 0, 9, .inl (zA pairs))), (an, .inl (T.2.1 0, 1000, .inl (zA needs))), (a0, .inl (T.2.1 0, 3, .inl (zA bo))), (a1, .inl (T.2.1 0, 3, .inl (zA he))), (a2, .inl (T.2.1 0, 3, .inl (zA li)))]) (st := [.int (iN right)]) cx hST (k_X3_all l hlt T mo am ae ap ab aw ac an a0 a1 a2 th many coins cn (vc.1)) q1243 s_X3_all rfl 0 rfl rfl (g_perm [1, 2, 3, 4, 5, 0] rfl rfl) (g_rmB rfl) (Nat.le_of_ble_eq_true rfl) dX3_good_26 rfl (fun v_ hv_ => ?_)
      have vc := vc.2
      obtain ⟨r_5, rfl, e_6⟩ := hv_
      subst e_6
      refine g_st (st2 := [.int (iN ((2 ^ cn - 1 : Nat) : Int)), .int (iN right)]) rfl ?_
      refine g_icmp_gtZ (q := 32) (tg := 71) cx vc.1 vc.2.1 dX3_good_29 (by decide) rfl (fun h_7 => ?_) (fun h_7 => ?_)
      · have vc := vc.2.2.1 h_7
        refine g_iinc (q := 74) (v := iN (left + 1)) (lv2 := [some (.ref mo), some (.int (iN size)), some (.int (iN (left + 1))), some (.int (iN right))]) cx dX3_good_71 rfl (iN_add _ _) (by decide) rfl rfl ?_
        refine g_goto (q := 14) cx dX3_good_74 (by decide) ?_
        refine g_wk (lv2 := [some (.ref mo), some (.int (iN size)), some (.int (iN (left + 1))), none]) ⟨rfl, ⟨rfl, ⟨rfl, trivial⟩⟩⟩ ?_
        exact ((ih _ vc.2).2.1) size (left + 1) bo he li vc.1 rfl
      · have vc := vc.2.2.2 h_7
        refine g_iload_n (q := 33) cx dX3_good_32 rfl rfl ?_
        refine g_cSr (q := 36) (As := [.int (iN left)]) (wr := [(mo, .inr (2, [.int (iN th), .ref am, .ref ae, .int (iN many), .ref ap, .ref ab, .ref aw, .int (iN coins), .ref ac, .ref an, .ref a0, .ref a1, .ref a2])), (ac, .inl (T.2.1 0, 9, .inl (zA pairs))), (an, .inl (T.2.1 0, 1000, .inl (zA needs))), (a0, .inl (T.2.1 0, 3, .inl (zA bo))), (a1, .inl (T.2.1 0, 3, .inl (zA he))), (a2, .inl (T.2.1 0, 3, .inl (zA li)))]) (st := []) cx hST (k_X3_bitsOf l hlt T left (vc.1)) q1228 s_X3_bitsOf rfl g_perm0 (g_rmB rfl) (Nat.le_of_ble_eq_true rfl) dX3_good_33 rfl (fun v_ hv_ => ?_)
        have vc := vc.2
        obtain ⟨r_8, rfl, e_9⟩ := hv_
        subst e_9
        refine g_st (st2 := [.int (iN ((bits9 left.toNat : Nat) : Int))]) rfl ?_
        refine g_iload_n (q := 37) cx dX3_good_36 rfl rfl ?_
        refine g_icmp_neZ (q := 40) (tg := 71) cx vc.1 vc.2.1 dX3_good_37 (by decide) rfl (fun h_10 => ?_) (fun h_10 => ?_)
        · have vc := vc.2.2.1 h_10
          refine g_iinc (q := 74) (v := iN (left + 1)) (lv2 := [some (.ref mo), some (.int (iN size)), some (.int (iN (left + 1))), some (.int (iN right))]) cx dX3_good_71 rfl (iN_add _ _) (by decide) rfl rfl ?_
          refine g_goto (q := 14) cx dX3_good_74 (by decide) ?_
          refine g_wk (lv2 := [some (.ref mo), some (.int (iN size)), some (.int (iN (left + 1))), none]) ⟨rfl, ⟨rfl, ⟨rfl, trivial⟩⟩⟩ ?_
          exact ((ih _ vc.2).2.1) size (left + 1) bo he li vc.1 rfl
        · have vc := vc.2.2.2 h_10
          refine g_aload_n (q := 41) cx dX3_good_40 rfl rfl ?_
          refine g_iload_n (q := 42) cx dX3_good_41 rfl rfl ?_
          refine g_iload_n (q := 43) cx dX3_good_42 rfl rfl ?_
          refine g_cVr (q := 46) (b := mo) (As := [.int (iN left), .int (iN right)]) (wr := [(ac, .inl (T.2.1 0, 9, .inl (zA pairs))), (an, .inl (T.2.1 0, 1000, .inl (zA needs))), (a0, .inl (T.2.1 0, 3, .inl (zA bo))), (a1, .inl (T.2.1 0, 3, .inl (zA he))), (a2, .inl (T.2.1 0, 3, .inl (zA li)))]) (st := []) cx hST (k_X3_isWeighing l hlt T mo am ae ap ab aw ac an a0 a1 a2 th many coins cn left right (vc.1) (vc.2.1) (vc.2.2.1)) q1255 s_X3_isWeighing rfl 0 rfl rfl (g_perm [1, 2, 3, 4, 5, 0] rfl rfl) (g_rmB rfl) (Nat.le_of_ble_eq_true rfl) dX3_good_43 rfl (fun v_ hv_ => ?_)
          have vc := vc.2
          have vc := vc.2
          have vc := vc.2
          obtain ⟨b2_11, rfl, e_12⟩ := hv_
          subst e_12
          refine g_st (st2 := [.int (bI (isWF cn left right))]) rfl ?_
          refine g_if_eq (q := 49) (tg := 65) cx dX3_good_46 (by decide) rfl (fun h_13 => ?_) (fun h_13 => ?_)
          · have vc := vc.1 (bI_0.mp h_13)
            refine g_iinc (q := 68) (v := iN (right + 1)) (lv2 := [some (.ref mo), some (.int (iN size)), some (.int (iN left)), some (.int (iN (right + 1)))]) cx dX3_good_65 rfl (iN_add _ _) (by decide) rfl rfl ?_
            refine g_goto (q := 24) cx dX3_good_68 (by decide) ?_
            exact ((ih _ vc.2).2.2) size left (right + 1) bo he li vc.1 rfl
          · have vc := vc.2 (bI_n0.mp h_13)
            refine g_aload_n (q := 50) cx dX3_good_49 rfl rfl ?_
            refine g_iload_n (q := 51) cx dX3_good_50 rfl rfl ?_
            refine g_iload_n (q := 52) cx dX3_good_51 rfl rfl ?_
            refine g_cVw (q := 55) (b := mo) (As := [.int (iN left), .int (iN right)]) (wr := []) (st := []) cx hST hrw (k_X3_does l hlt T mo am ae ap ab aw ac an a0 a1 a2 th many coins pairs needs bo he li left right cn (vc.1) (vc.2.1) (vc.2.2.1) (vc.2.2.2.1) (vc.2.2.2.2.1) (vc.2.2.2.2.2.1)) q1291 s_X3_does rfl 0 rfl rfl g_perm1 (g_rmB rfl) (Nat.le_of_ble_eq_true rfl) dX3_good_52 rfl (fun v_ wn_ hv_ => ?_)
            have vc := vc.2
            have vc := vc.2
            have vc := vc.2
            have vc := vc.2
            have vc := vc.2
            have vc := vc.2
            obtain ⟨b2_14, both2_15, heavy2_16, light2_17, rfl, rfl, e_18⟩ := hv_
            subst e_18
            refine g_cs (cells2 := 0) (slots2 := 0) (ws2 := [(mo, .inr (2, [.int (iN th), .ref am, .ref ae, .int (iN many), .ref ap, .ref ab, .ref aw, .int (iN coins), .ref ac, .ref an, .ref a0, .ref a1, .ref a2])), (ac, .inl (T.2.1 0, 9, .inl (zA pairs))), (an, .inl (T.2.1 0, 1000, .inl (zA needs))), (a0, .inl (T.2.1 0, 3, .inl (zA both2_15))), (a1, .inl (T.2.1 0, 3, .inl (zA heavy2_16))), (a2, .inl (T.2.1 0, 3, .inl (zA light2_17)))]) rfl rfl rfl ?_
            refine g_st (st2 := [.int (bI (doesF needs pairs cn left.toNat right.toNat))]) rfl ?_
            have vc := vc both2_15 heavy2_16 light2_17 
            refine g_if_eq (q := 58) (tg := 65) cx dX3_good_55 (by decide) rfl (fun h_19 => ?_) (fun h_19 => ?_)
            · have vc := vc.1 (bI_0.mp h_19)
              refine g_iinc (q := 68) (v := iN (right + 1)) (lv2 := [some (.ref mo), some (.int (iN size)), some (.int (iN left)), some (.int (iN (right + 1)))]) cx dX3_good_65 rfl (iN_add _ _) (by decide) rfl rfl ?_
              refine g_goto (q := 24) cx dX3_good_68 (by decide) ?_
              exact ((ih _ vc.2).2.2) size left (right + 1) both2_15 heavy2_16 light2_17 vc.1 rfl
            · have vc := vc.2 (bI_n0.mp h_19)
              refine g_iload_n (q := 59) cx dX3_good_58 rfl rfl ?_
              refine g_bipush (q := 61) (v := iN 9) cx dX3_good_59 (by decide) rfl ?_
              refine g_ishlZ (q := 62) cx vc.1 (by decide) dX3_good_61 rfl ?_
              have vc := vc.2
              refine g_iload_n (q := 63) cx dX3_good_62 rfl rfl ?_
              refine g_iorZ (q := 64) cx vc.1 vc.2.1 dX3_good_63 rfl ?_
              have vc := vc.2
              have vc := vc.2
              exact g_iretW cx hr rfl ⟨(((right * 2 ^ 9).toNat ||| left.toNat : Nat) : Int), both2_15, heavy2_16, light2_17, rfl, rfl, vc⟩ (by first | exact Nat.le_of_ble_eq_true rfl | omega) (by first | exact Nat.le_of_ble_eq_true rfl | omega) dX3_good_64
  have vc := v0_
  refine g_iconst (q := 1) (v := iN 1) cx dX3_good_0 rfl rfl ?_
  refine g_istore_n (q := 2) (lv2 := [some (.ref mo), some (.int (iN 1)), none, none]) cx dX3_good_1 rfl (by decide) rfl rfl ?_
  exact ((key _).1) 1 both heavy light vc rfl

theorem k_X3_good (l : Launch) (hlt : l.stackTraces = false) (T : GT) (mo : Nat) (am : Nat) (ae : Nat) (ap : Nat) (ab : Nat) (aw : Nat) (ac : Nat) (an : Nat) (a0 : Nat) (a1 : Nat) (a2 : Nat) (th : Int) (many : Int) (coins : Int) (pairs : Nat → Int) (needs : Nat → Int) (both : Nat → Int) (heavy : Nat → Int) (light : Nat → Int) (cn : Nat) (hp0 : coins = cn ∧ cn ≤ 9) (hp1 : prOK pairs) (hp2 : rngN needs) : MW l T yX3_good cX3_good 4 (some .int) ({ frames := 4, cells := 0, slots := 0, locals := 87 }) [.ref mo] [(mo, .inr (2, [.int (iN th), .ref am, .ref ae, .int (iN many), .ref ap, .ref ab, .ref aw, .int (iN coins), .ref ac, .ref an, .ref a0, .ref a1, .ref a2])), (ac, .inl (T.2.1 0, 9, .inl (zA pairs))), (an, .inl (T.2.1 0, 1000, .inl (zA needs))), (a0, .inl (T.2.1 0, 3, .inl (zA both))), (a1, .inl (T.2.1 0, 3, .inl (zA heavy))), (a2, .inl (T.2.1 0, 3, .inl (zA light)))] (fun v_ wn_ => ∃ (r : Int), ∃ (both2 : Nat → Int), ∃ (heavy2 : Nat → Int), ∃ (light2 : Nat → Int), v_ = some (.int (iN r)) ∧ wn_ = [(mo, .inr (2, [.int (iN th), .ref am, .ref ae, .int (iN many), .ref ap, .ref ab, .ref aw, .int (iN coins), .ref ac, .ref an, .ref a0, .ref a1, .ref a2])), (ac, .inl (T.2.1 0, 9, .inl (zA pairs))), (an, .inl (T.2.1 0, 1000, .inl (zA needs))), (a0, .inl (T.2.1 0, 3, .inl (zA both2))), (a1, .inl (T.2.1 0, 3, .inl (zA heavy2))), (a2, .inl (T.2.1 0, 3, .inl (zA light2)))] ∧ r = ((gdN (goodF (goodP needs pairs cn) cn) : Nat) : Int)) 0 0 := by
  refine w_X3_good l hlt T mo am ae ap ab aw ac an a0 a1 a2 th many coins pairs needs both heavy light cn (I2 := fun size _ _ _ => ∃ z : Nat, 1 ≤ z ∧ z ≤ 5 ∧ size = z ∧ firstO (gdS (goodP needs pairs cn) cn) z = none) (M2 := fun size _ _ _ => ((6 - size).toNat, 2, 0, 0))
    (I14 := fun size left _ _ _ => ∃ z x : Nat, 1 ≤ z ∧ 2 * z ≤ cn ∧ 1 ≤ x ∧ x ≤ 2 ^ cn ∧ size = z ∧ left = x ∧ firstO (gdS (goodP needs pairs cn) cn) z = none ∧ firstO (gdL (goodP needs pairs cn) cn z) x = none) (M14 := fun size left _ _ _ => ((6 - size).toNat, 1, (600 - left).toNat, 1000))
    (I24 := fun size left right _ _ _ => ∃ z x y : Nat, 1 ≤ z ∧ 2 * z ≤ cn ∧ 1 ≤ x ∧ x < 2 ^ cn ∧ 1 ≤ y ∧ y ≤ 2 ^ cn ∧ size = z ∧ left = x ∧ right = y ∧ firstO (gdS (goodP needs pairs cn) cn) z = none ∧ firstO (gdL (goodP needs pairs cn) cn z) x = none ∧ (bits9 x = z → firstO (gdR (goodP needs pairs cn) x) y = none)) (M24 := fun size left right _ _ _ => ((6 - size).toNat, 1, (600 - left).toNat, (600 - right).toNat)) _ ?_ ?_ ?_ ?_
  · exact ⟨1, by omega, by omega, rfl, rfl⟩
  · rintro size bo he li ⟨z, h1, h2, rfl, hs⟩
    have h9 := pow2_9 hp0.2
    refine ⟨by omega, by omega, fun h => ?_, fun h => ⟨⟨z, 1, h1, by omega, by omega, by omega, rfl, rfl, hs, ?_⟩, g_ltI (by omega)⟩⟩
    · have e : goodF (goodP needs pairs cn) cn = none := firstO_le hs (by omega)
      rw [e]
      rfl
    · exact firstO_next rfl (if_neg (fun hh => hh.1 rfl))
  · rintro size left bo he li ⟨z, x, h1, h2, h3, h4, rfl, rfl, hs, hx⟩
    have h9 := pow2_9 hp0.2
    refine ⟨hp0, by omega, by omega, fun h => ⟨⟨z + 1, by omega, by omega, rfl, ?_⟩, g_ltI (by omega)⟩, fun h => ⟨⟨z, x, 1, h1, h2, h3, by omega, by omega, by omega, rfl, rfl, rfl, hs, hx, fun _ => ?_⟩, g_ltI (by omega)⟩⟩
    · refine firstO_next hs ?_
      unfold gdS
      rw [if_pos (by omega), show 2 ^ cn = x by omega]
      exact hx
    · exact firstO_next rfl (if_neg (fun hh => hh.1 rfl))
  · rintro size left right bo he li ⟨z, x, y, h1, h2, h3, h4, h5, h6, rfl, rfl, rfl, hs, hx, hy⟩
    have h9 := pow2_9 hp0.2
    have hb9 : bits9 x ≤ 9 := cntB_le _ _
    have nextL : (bits9 x = z → firstO (gdR (goodP needs pairs cn) x) (2 ^ cn) = none) → (∃ z_1 x_1 : Nat, 1 ≤ z_1 ∧ 2 * z_1 ≤ cn ∧ 1 ≤ x_1 ∧ x_1 ≤ 2 ^ cn ∧ (z : Int) = z_1 ∧ (x : Int) + 1 = x_1 ∧ firstO (gdS (goodP needs pairs cn) cn) z_1 = none ∧ firstO (gdL (goodP needs pairs cn) cn z_1) x_1 = none) := by
      intro hh
      refine ⟨z, x + 1, h1, h2, by omega, by omega, rfl, rfl, hs, firstO_next hx ?_⟩
      unfold gdL
      by_cases g : bits9 x = z
      · rw [if_pos ⟨by omega, g⟩]
        exact hh g
      · rw [if_neg (fun hh => g hh.2)]
    have mL : g_lt ((6 - (z : Int)).toNat, 1, (600 - ((x : Int) + 1)).toNat, 1000) ((6 - (z : Int)).toNat, 1, (600 - (x : Int)).toNat, (600 - (y : Int)).toNat) := g_ltI (by omega)
    have nextR : goodP needs pairs cn x y = false → y < 2 ^ cn → (∃ z_1 x_1 y_1 : Nat, 1 ≤ z_1 ∧ 2 * z_1 ≤ cn ∧ 1 ≤ x_1 ∧ x_1 < 2 ^ cn ∧ 1 ≤ y_1 ∧ y_1 ≤ 2 ^ cn ∧ (z : Int) = z_1 ∧ (x : Int) = x_1 ∧ (y : Int) + 1 = y_1 ∧ firstO (gdS (goodP needs pairs cn) cn) z_1 = none ∧ firstO (gdL (goodP needs pairs cn) cn z_1) x_1 = none ∧ (bits9 x_1 = z_1 → firstO (gdR (goodP needs pairs cn) x_1) y_1 = none)) := by
      intro hh hlt
      refine ⟨z, x, y + 1, h1, h2, h3, h4, by omega, by omega, rfl, rfl, rfl, hs, hx, fun g => firstO_next (hy g) ?_⟩
      unfold gdR
      rw [if_neg (fun h' => by rw [hh] at h'; exact absurd h'.2 (by decide))]
    have mR : g_lt ((6 - (z : Int)).toNat, 1, (600 - (x : Int)).toNat, (600 - ((y : Int) + 1)).toNat) ((6 - (z : Int)).toNat, 1, (600 - (x : Int)).toNat, (600 - (y : Int)).toNat) := g_ltI (by omega)
    simp only [Int.toNat_natCast]
    have gp : goodP needs pairs cn x y = (isWF cn x y && doesF needs pairs cn x y) := rfl
    refine ⟨hp0, by omega, by omega, fun h => ⟨nextL (fun g => by rw [show 2 ^ cn = y by omega]; exact hy g), mL⟩, fun h => ⟨by omega, by omega, by omega, fun hb => ⟨nextL (fun g => absurd (by omega) hb), mL⟩, fun hb => ⟨hp0, by omega, by omega, fun hw => ⟨nextR (by rw [gp, hw]; rfl) (by omega), mR⟩, fun hw => ?_⟩⟩⟩
    have hw2 := of_decide_eq_true hw
    simp only [Int.toNat_natCast] at hw2
    refine ⟨hp0, hp1, hp2, by omega, by omega, hw2.2.2.2.1, fun bo2 he2 li2 => ⟨fun hd => ⟨nextR (by rw [gp, hd, Bool.and_false]) (by omega), mR⟩, fun hd => ⟨by omega, by omega, by omega, ?_⟩⟩⟩
    have e1 : gdR (goodP needs pairs cn) x y = some (x, y) := if_pos ⟨by omega, by rw [gp, hw, hd]; rfl⟩
    have e2 : gdL (goodP needs pairs cn) cn z x = some (x, y) := by
      unfold gdL
      rw [if_pos ⟨by omega, by omega⟩]
      exact firstO_some (hy (by omega)) e1 _ (by omega)
    have e3 : gdS (goodP needs pairs cn) cn z = some (x, y) := by
      unfold gdS
      rw [if_pos (by omega)]
      exact firstO_some hx e2 _ (by omega)
    have e4 : goodF (goodP needs pairs cn) cn = some (x, y) := firstO_some hs e3 _ (by omega)
    rw [e4]
    show _ = (((y * 2 ^ 9) ||| x : Nat) : Int)
    have e5 : ((y : Int) * 2 ^ 9).toNat = y * 2 ^ 9 := by omega
    rw [e5]

set_option maxRecDepth 100000 in
set_option maxHeartbeats 4000000 in
theorem w_X3_goodLeft (l : Launch) (hlt : l.stackTraces = false) (T : GT) (mo : Nat) (am : Nat) (ae : Nat) (ap : Nat) (ab : Nat) (aw : Nat) (ac : Nat) (an : Nat) (a0 : Nat) (a1 : Nat) (a2 : Nat) (th : Int) (many : Int) (coins : Int) (pairs : Nat → Int) (needs : Nat → Int) (both : Nat → Int) (heavy : Nat → Int) (light : Nat → Int) (cn : Nat)  (post : Int → Int → (Nat → Int) → (Nat → Int) → (Nat → Int) → Prop) (v0_ : (coins = cn ∧ cn ≤ 9) ∧ ((prOK pairs) ∧ ((-2147483648 ≤ ((pmN pairs cn : Nat) : Int) ∧ ((pmN pairs cn : Nat) : Int) < 2147483648) ∧ ((¬ ((pmN pairs cn : Nat) : Int) = 1 → ((coins = cn ∧ cn ≤ 9) ∧ ((prOK pairs) ∧ ((rngN needs) ∧ (∀ (both2_8 : Nat → Int) (heavy2_9 : Nat → Int) (light2_10 : Nat → Int), (0 ≤ ((gdN (goodF (goodP needs pairs cn) cn) : Nat) : Int) ∧ ((gdN (goodF (goodP needs pairs cn) cn) : Nat) : Int) < 2147483648) ∧ (post ((((gdN (goodF (goodP needs pairs cn) cn) : Nat) : Int).toNat &&& 511 : Nat) : Int) 0 both2_8 heavy2_9 light2_10)))))) ∧ (((pmN pairs cn : Nat) : Int) = 1 → (post 0 1 both heavy light))))))  : MW l T yX3_goodLeft cX3_goodLeft 1 (some .int) ({ frames := 5, cells := 0, slots := 0, locals := 110 }) [.ref mo] [(mo, .inr (2, [.int (iN th), .ref am, .ref ae, .int (iN many), .ref ap, .ref ab, .ref aw, .int (iN coins), .ref ac, .ref an, .ref a0, .ref a1, .ref a2])), (ac, .inl (T.2.1 0, 9, .inl (zA pairs))), (an, .inl (T.2.1 0, 1000, .inl (zA needs))), (a0, .inl (T.2.1 0, 3, .inl (zA both))), (a1, .inl (T.2.1 0, 3, .inl (zA heavy))), (a2, .inl (T.2.1 0, 3, .inl (zA light)))] (fun v_ wn_ => ∃ (r : Int), ∃ (th2 : Int), ∃ (both2 : Nat → Int), ∃ (heavy2 : Nat → Int), ∃ (light2 : Nat → Int), v_ = some (.int (iN r)) ∧ wn_ = [(mo, .inr (2, [.int (iN th2), .ref am, .ref ae, .int (iN many), .ref ap, .ref ab, .ref aw, .int (iN coins), .ref ac, .ref an, .ref a0, .ref a1, .ref a2])), (ac, .inl (T.2.1 0, 9, .inl (zA pairs))), (an, .inl (T.2.1 0, 1000, .inl (zA needs))), (a0, .inl (T.2.1 0, 3, .inl (zA both2))), (a1, .inl (T.2.1 0, 3, .inl (zA heavy2))), (a2, .inl (T.2.1 0, 3, .inl (zA light2)))] ∧ post r th2 both2 heavy2 light2) 0 0 := by
  refine MW.start hlt (by decide) (lv0 := [some (.ref mo)]) rfl (Nat.le_of_ble_eq_true rfl) rfl ?_
  intro p e R s m args below meth c A cx hr hnm hST hrw
  have vc := v0_
  refine g_aload_n (q := 1) cx dX3_goodLeft_0 rfl rfl ?_
  refine g_aload_n (q := 2) cx dX3_goodLeft_1 rfl rfl ?_
  refine g_cVr (q := 5) (b := mo) (As := []) (wr := [(an, .inl (T.2.1 0, 1000, .inl (zA needs))), (a0, .inl (T.2.1 0, 3, .inl (zA both))), (a1, .inl (T.2.1 0, 3, .inl (zA heavy))), (a2, .inl (T.2.1 0, 3, .inl (zA light)))]) (st := [.ref mo]) cx hST (k_X3_possibleMany l hlt T mo am ae ap ab aw ac an a0 a1 a2 th many coins pairs cn (vc.1) (vc.2.1)) q1263 s_X3_possibleMany rfl 0 rfl rfl (g_perm [2, 3, 4, 5, 0, 1] rfl rfl) (g_rmB rfl) (Nat.le_of_ble_eq_true rfl) dX3_goodLeft_2 rfl (fun v_ hv_ => ?_)
  have vc := vc.2
  have vc := vc.2
  obtain ⟨r_1, rfl, e_2⟩ := hv_
  subst e_2
  refine g_st (st2 := [.int (iN ((pmN pairs cn : Nat) : Int)), .ref mo]) rfl ?_
  refine g_iconst (q := 6) (v := iN 1) cx dX3_goodLeft_5 rfl rfl ?_
  refine g_icmp_neZ (q := 9) (tg := 13) cx vc.1 (by decide) dX3_goodLeft_6 (by decide) rfl (fun h_3 => ?_) (fun h_3 => ?_)
  · have vc := vc.2.1 h_3
    refine g_iconst (q := 14) (v := iN 0) cx dX3_goodLeft_13 rfl rfl ?_
    refine g_cVw (q := 17) (b := mo) (As := [.int (iN 0)]) (wr := [(ac, .inl (T.2.1 0, 9, .inl (zA pairs))), (an, .inl (T.2.1 0, 1000, .inl (zA needs))), (a0, .inl (T.2.1 0, 3, .inl (zA both))), (a1, .inl (T.2.1 0, 3, .inl (zA heavy))), (a2, .inl (T.2.1 0, 3, .inl (zA light)))]) (st := []) cx hST hrw (k_X3_goesWell l hlt T mo am ae ap ab aw ac an a0 a1 a2 th many coins 0 (by decide)) q1122 s_X3_goesWell rfl 0 rfl rfl (g_perm [1, 2, 3, 4, 5, 0] rfl rfl) (g_rmB rfl) (Nat.le_of_ble_eq_true rfl) dX3_goodLeft_14 rfl (fun v_ wn_ hv_ => ?_)
    obtain ⟨b_4, th2_5, rfl, rfl, e_6⟩ := hv_
    obtain ⟨rfl, rfl⟩ := e_6
    refine g_wp (ws2 := [(mo, .inr (2, [.int (iN 0), .ref am, .ref ae, .int (iN many), .ref ap, .ref ab, .ref aw, .int (iN coins), .ref ac, .ref an, .ref a0, .ref a1, .ref a2])), (ac, .inl (T.2.1 0, 9, .inl (zA pairs))), (an, .inl (T.2.1 0, 1000, .inl (zA needs))), (a0, .inl (T.2.1 0, 3, .inl (zA both))), (a1, .inl (T.2.1 0, 3, .inl (zA heavy))), (a2, .inl (T.2.1 0, 3, .inl (zA light)))]) (g_perm [5, 0, 1, 2, 3, 4] rfl rfl) ?_
    refine g_cs (cells2 := 0) (slots2 := 0) (ws2 := [(mo, .inr (2, [.int (iN 0), .ref am, .ref ae, .int (iN many), .ref ap, .ref ab, .ref aw, .int (iN coins), .ref ac, .ref an, .ref a0, .ref a1, .ref a2])), (ac, .inl (T.2.1 0, 9, .inl (zA pairs))), (an, .inl (T.2.1 0, 1000, .inl (zA needs))), (a0, .inl (T.2.1 0, 3, .inl (zA both))), (a1, .inl (T.2.1 0, 3, .inl (zA heavy))), (a2, .inl (T.2.1 0, 3, .inl (zA light)))]) rfl rfl rfl ?_
    refine g_st (st2 := [.int (bI true)]) rfl ?_
    refine g_if_eq (q := 20) (tg := 31) cx dX3_goodLeft_17 (by decide) rfl (fun h => absurd h (by decide)) (fun _ => ?_)
    refine g_aload_n (q := 21) cx dX3_goodLeft_20 rfl rfl ?_
    refine g_cVw (q := 24) (b := mo) (As := []) (wr := []) (st := []) cx hST hrw (k_X3_good l hlt T mo am ae ap ab aw ac an a0 a1 a2 0 many coins pairs needs both heavy light cn (vc.1) (vc.2.1) (vc.2.2.1)) q1299 s_X3_good rfl 0 rfl rfl g_perm1 (g_rmB rfl) (Nat.le_of_ble_eq_true rfl) dX3_goodLeft_21 rfl (fun v_ wn_ hv_ => ?_)
    have vc := vc.2
    have vc := vc.2
    have vc := vc.2
    obtain ⟨r_7, both2_8, heavy2_9, light2_10, rfl, rfl, e_11⟩ := hv_
    subst e_11
    refine g_cs (cells2 := 0) (slots2 := 0) (ws2 := [(mo, .inr (2, [.int (iN 0), .ref am, .ref ae, .int (iN many), .ref ap, .ref ab, .ref aw, .int (iN coins), .ref ac, .ref an, .ref a0, .ref a1, .ref a2])), (ac, .inl (T.2.1 0, 9, .inl (zA pairs))), (an, .inl (T.2.1 0, 1000, .inl (zA needs))), (a0, .inl (T.2.1 0, 3, .inl (zA both2_8))), (a1, .inl (T.2.1 0, 3, .inl (zA heavy2_9))), (a2, .inl (T.2.1 0, 3, .inl (zA light2_10)))]) rfl rfl rfl ?_
    refine g_st (st2 := [.int (iN ((gdN (goodF (goodP needs pairs cn) cn) : Nat) : Int))]) rfl ?_
    have vc := vc both2_8 heavy2_9 light2_10 
    refine g_sipush (q := 27) (v := iN 511) cx dX3_goodLeft_24 (by decide) rfl ?_
    refine g_iandZ (q := 28) cx vc.1 (by decide) dX3_goodLeft_27 rfl ?_
    have vc := vc.2
    refine g_goto (q := 32) cx dX3_goodLeft_28 (by decide) ?_
    exact g_iretW cx hr rfl ⟨((((gdN (goodF (goodP needs pairs cn) cn) : Nat) : Int).toNat &&& 511 : Nat) : Int), 0, both2_8, heavy2_9, light2_10, rfl, rfl, vc⟩ (by first | exact Nat.le_of_ble_eq_true rfl | omega) (by first | exact Nat.le_of_ble_eq_true rfl | omega) dX3_goodLeft_32
  · have vc := vc.2.2 h_3
    refine g_iconst (q := 10) (v := iN 1) cx dX3_goodLeft_9 rfl rfl ?_
    refine g_goto (q := 14) cx dX3_goodLeft_10 (by decide) ?_
    refine g_cVw (q := 17) (b := mo) (As := [.int (iN 1)]) (wr := [(ac, .inl (T.2.1 0, 9, .inl (zA pairs))), (an, .inl (T.2.1 0, 1000, .inl (zA needs))), (a0, .inl (T.2.1 0, 3, .inl (zA both))), (a1, .inl (T.2.1 0, 3, .inl (zA heavy))), (a2, .inl (T.2.1 0, 3, .inl (zA light)))]) (st := []) cx hST hrw (k_X3_goesWell l hlt T mo am ae ap ab aw ac an a0 a1 a2 th many coins 1 (by decide)) q1122 s_X3_goesWell rfl 0 rfl rfl (g_perm [1, 2, 3, 4, 5, 0] rfl rfl) (g_rmB rfl) (Nat.le_of_ble_eq_true rfl) dX3_goodLeft_14 rfl (fun v_ wn_ hv_ => ?_)
    obtain ⟨b_12, th2_13, rfl, rfl, e_14⟩ := hv_
    obtain ⟨rfl, rfl⟩ := e_14
    refine g_wp (ws2 := [(mo, .inr (2, [.int (iN 1), .ref am, .ref ae, .int (iN many), .ref ap, .ref ab, .ref aw, .int (iN coins), .ref ac, .ref an, .ref a0, .ref a1, .ref a2])), (ac, .inl (T.2.1 0, 9, .inl (zA pairs))), (an, .inl (T.2.1 0, 1000, .inl (zA needs))), (a0, .inl (T.2.1 0, 3, .inl (zA both))), (a1, .inl (T.2.1 0, 3, .inl (zA heavy))), (a2, .inl (T.2.1 0, 3, .inl (zA light)))]) (g_perm [5, 0, 1, 2, 3, 4] rfl rfl) ?_
    refine g_cs (cells2 := 0) (slots2 := 0) (ws2 := [(mo, .inr (2, [.int (iN 1), .ref am, .ref ae, .int (iN many), .ref ap, .ref ab, .ref aw, .int (iN coins), .ref ac, .ref an, .ref a0, .ref a1, .ref a2])), (ac, .inl (T.2.1 0, 9, .inl (zA pairs))), (an, .inl (T.2.1 0, 1000, .inl (zA needs))), (a0, .inl (T.2.1 0, 3, .inl (zA both))), (a1, .inl (T.2.1 0, 3, .inl (zA heavy))), (a2, .inl (T.2.1 0, 3, .inl (zA light)))]) rfl rfl rfl ?_
    refine g_st (st2 := [.int (bI false)]) rfl ?_
    refine g_if_eq (q := 20) (tg := 31) cx dX3_goodLeft_17 (by decide) rfl (fun _ => ?_) (fun h => absurd h (by decide))
    refine g_iconst (q := 32) (v := iN 0) cx dX3_goodLeft_31 rfl rfl ?_
    exact g_iretW cx hr rfl ⟨0, 1, both, heavy, light, rfl, rfl, vc⟩ (by first | exact Nat.le_of_ble_eq_true rfl | omega) (by first | exact Nat.le_of_ble_eq_true rfl | omega) dX3_goodLeft_32

theorem k_X3_goodLeft (l : Launch) (hlt : l.stackTraces = false) (T : GT) (mo : Nat) (am : Nat) (ae : Nat) (ap : Nat) (ab : Nat) (aw : Nat) (ac : Nat) (an : Nat) (a0 : Nat) (a1 : Nat) (a2 : Nat) (th : Int) (many : Int) (coins : Int) (pairs : Nat → Int) (needs : Nat → Int) (both : Nat → Int) (heavy : Nat → Int) (light : Nat → Int) (cn : Nat) (hp0 : coins = cn ∧ cn ≤ 9) (hp1 : prOK pairs) (hp2 : rngN needs) : MW l T yX3_goodLeft cX3_goodLeft 1 (some .int) ({ frames := 5, cells := 0, slots := 0, locals := 110 }) [.ref mo] [(mo, .inr (2, [.int (iN th), .ref am, .ref ae, .int (iN many), .ref ap, .ref ab, .ref aw, .int (iN coins), .ref ac, .ref an, .ref a0, .ref a1, .ref a2])), (ac, .inl (T.2.1 0, 9, .inl (zA pairs))), (an, .inl (T.2.1 0, 1000, .inl (zA needs))), (a0, .inl (T.2.1 0, 3, .inl (zA both))), (a1, .inl (T.2.1 0, 3, .inl (zA heavy))), (a2, .inl (T.2.1 0, 3, .inl (zA light)))] (fun v_ wn_ => ∃ (r : Int), ∃ (th2 : Int), ∃ (both2 : Nat → Int), ∃ (heavy2 : Nat → Int), ∃ (light2 : Nat → Int), v_ = some (.int (iN r)) ∧ wn_ = [(mo, .inr (2, [.int (iN th2), .ref am, .ref ae, .int (iN many), .ref ap, .ref ab, .ref aw, .int (iN coins), .ref ac, .ref an, .ref a0, .ref a1, .ref a2])), (ac, .inl (T.2.1 0, 9, .inl (zA pairs))), (an, .inl (T.2.1 0, 1000, .inl (zA needs))), (a0, .inl (T.2.1 0, 3, .inl (zA both2))), (a1, .inl (T.2.1 0, 3, .inl (zA heavy2))), (a2, .inl (T.2.1 0, 3, .inl (zA light2)))] ∧ r = (if pmN pairs cn = 1 then 0 else ((gdx (goodF (goodP needs pairs cn) cn) : Nat) : Int)) ∧ th2 = (if pmN pairs cn = 1 then 1 else 0)) 0 0 := by
  refine w_X3_goodLeft l hlt T mo am ae ap ab aw ac an a0 a1 a2 th many coins pairs needs both heavy light cn _ ?_
  have hpm := pmN_le hp1 cn hp0.2
  have h9 := pow2_9 hp0.2
  have hg := gdN_in (o := goodF (goodP needs pairs cn) cn) (fun x y h => by have := goodF_lt h; omega)
  refine ⟨hp0, hp1, by omega, fun h => ⟨hp0, hp1, hp2, fun bo he li => ⟨by omega, ?_⟩⟩, fun h => ?_⟩
  · rw [if_neg (by omega), if_neg (by omega), Int.toNat_natCast, hg.2.1]
    exact ⟨rfl, rfl⟩
  · rw [if_pos (by omega), if_pos (by omega)]
    exact ⟨rfl, rfl⟩

set_option maxRecDepth 100000 in
set_option maxHeartbeats 4000000 in
theorem w_X3_goodRight (l : Launch) (hlt : l.stackTraces = false) (T : GT) (mo : Nat) (am : Nat) (ae : Nat) (ap : Nat) (ab : Nat) (aw : Nat) (ac : Nat) (an : Nat) (a0 : Nat) (a1 : Nat) (a2 : Nat) (th : Int) (many : Int) (coins : Int) (pairs : Nat → Int) (needs : Nat → Int) (both : Nat → Int) (heavy : Nat → Int) (light : Nat → Int) (cn : Nat)  (post : Int → Int → (Nat → Int) → (Nat → Int) → (Nat → Int) → Prop) (v0_ : (coins = cn ∧ cn ≤ 9) ∧ ((prOK pairs) ∧ ((-2147483648 ≤ ((pmN pairs cn : Nat) : Int) ∧ ((pmN pairs cn : Nat) : Int) < 2147483648) ∧ ((¬ ((pmN pairs cn : Nat) : Int) = 1 → ((coins = cn ∧ cn ≤ 9) ∧ ((prOK pairs) ∧ ((rngN needs) ∧ (∀ (both2_8 : Nat → Int) (heavy2_9 : Nat → Int) (light2_10 : Nat → Int), (0 ≤ ((gdN (goodF (goodP needs pairs cn) cn) : Nat) : Int) ∧ ((gdN (goodF (goodP needs pairs cn) cn) : Nat) : Int) < 2147483648) ∧ (post ((((gdN (goodF (goodP needs pairs cn) cn) : Nat) : Int).toNat >>> 9 : Nat) : Int) 0 both2_8 heavy2_9 light2_10)))))) ∧ (((pmN pairs cn : Nat) : Int) = 1 → (post 0 1 both heavy light))))))  : MW l T yX3_goodRight cX3_goodRight 1 (some .int) ({ frames := 5, cells := 0, slots := 0, locals := 110 }) [.ref mo] [(mo, .inr (2, [.int (iN th), .ref am, .ref ae, .int (iN many), .ref ap, .ref ab, .ref aw, .int (iN coins), .ref ac, .ref an, .ref a0, .ref a1, .ref a2])), (ac, .inl (T.2.1 0, 9, .inl (zA pairs))), (an, .inl (T.2.1 0, 1000, .inl (zA needs))), (a0, .inl (T.2.1 0, 3, .inl (zA both))), (a1, .inl (T.2.1 0, 3, .inl (zA heavy))), (a2, .inl (T.2.1 0, 3, .inl (zA light)))] (fun v_ wn_ => ∃ (r : Int), ∃ (th2 : Int), ∃ (both2 : Nat → Int), ∃ (heavy2 : Nat → Int), ∃ (light2 : Nat → Int), v_ = some (.int (iN r)) ∧ wn_ = [(mo, .inr (2, [.int (iN th2), .ref am, .ref ae, .int (iN many), .ref ap, .ref ab, .ref aw, .int (iN coins), .ref ac, .ref an, .ref a0, .ref a1, .ref a2])), (ac, .inl (T.2.1 0, 9, .inl (zA pairs))), (an, .inl (T.2.1 0, 1000, .inl (zA needs))), (a0, .inl (T.2.1 0, 3, .inl (zA both2))), (a1, .inl (T.2.1 0, 3, .inl (zA heavy2))), (a2, .inl (T.2.1 0, 3, .inl (zA light2)))] ∧ post r th2 both2 heavy2 light2) 0 0 := by
  refine MW.start hlt (by decide) (lv0 := [some (.ref mo)]) rfl (Nat.le_of_ble_eq_true rfl) rfl ?_
  intro p e R s m args below meth c A cx hr hnm hST hrw
  have vc := v0_
  refine g_aload_n (q := 1) cx dX3_goodRight_0 rfl rfl ?_
  refine g_aload_n (q := 2) cx dX3_goodRight_1 rfl rfl ?_
  refine g_cVr (q := 5) (b := mo) (As := []) (wr := [(an, .inl (T.2.1 0, 1000, .inl (zA needs))), (a0, .inl (T.2.1 0, 3, .inl (zA both))), (a1, .inl (T.2.1 0, 3, .inl (zA heavy))), (a2, .inl (T.2.1 0, 3, .inl (zA light)))]) (st := [.ref mo]) cx hST (k_X3_possibleMany l hlt T mo am ae ap ab aw ac an a0 a1 a2 th many coins pairs cn (vc.1) (vc.2.1)) q1263 s_X3_possibleMany rfl 0 rfl rfl (g_perm [2, 3, 4, 5, 0, 1] rfl rfl) (g_rmB rfl) (Nat.le_of_ble_eq_true rfl) dX3_goodRight_2 rfl (fun v_ hv_ => ?_)
  have vc := vc.2
  have vc := vc.2
  obtain ⟨r_1, rfl, e_2⟩ := hv_
  subst e_2
  refine g_st (st2 := [.int (iN ((pmN pairs cn : Nat) : Int)), .ref mo]) rfl ?_
  refine g_iconst (q := 6) (v := iN 1) cx dX3_goodRight_5 rfl rfl ?_
  refine g_icmp_neZ (q := 9) (tg := 13) cx vc.1 (by decide) dX3_goodRight_6 (by decide) rfl (fun h_3 => ?_) (fun h_3 => ?_)
  · have vc := vc.2.1 h_3
    refine g_iconst (q := 14) (v := iN 0) cx dX3_goodRight_13 rfl rfl ?_
    refine g_cVw (q := 17) (b := mo) (As := [.int (iN 0)]) (wr := [(ac, .inl (T.2.1 0, 9, .inl (zA pairs))), (an, .inl (T.2.1 0, 1000, .inl (zA needs))), (a0, .inl (T.2.1 0, 3, .inl (zA both))), (a1, .inl (T.2.1 0, 3, .inl (zA heavy))), (a2, .inl (T.2.1 0, 3, .inl (zA light)))]) (st := []) cx hST hrw (k_X3_goesWell l hlt T mo am ae ap ab aw ac an a0 a1 a2 th many coins 0 (by decide)) q1122 s_X3_goesWell rfl 0 rfl rfl (g_perm [1, 2, 3, 4, 5, 0] rfl rfl) (g_rmB rfl) (Nat.le_of_ble_eq_true rfl) dX3_goodRight_14 rfl (fun v_ wn_ hv_ => ?_)
    obtain ⟨b_4, th2_5, rfl, rfl, e_6⟩ := hv_
    obtain ⟨rfl, rfl⟩ := e_6
    refine g_wp (ws2 := [(mo, .inr (2, [.int (iN 0), .ref am, .ref ae, .int (iN many), .ref ap, .ref ab, .ref aw, .int (iN coins), .ref ac, .ref an, .ref a0, .ref a1, .ref a2])), (ac, .inl (T.2.1 0, 9, .inl (zA pairs))), (an, .inl (T.2.1 0, 1000, .inl (zA needs))), (a0, .inl (T.2.1 0, 3, .inl (zA both))), (a1, .inl (T.2.1 0, 3, .inl (zA heavy))), (a2, .inl (T.2.1 0, 3, .inl (zA light)))]) (g_perm [5, 0, 1, 2, 3, 4] rfl rfl) ?_
    refine g_cs (cells2 := 0) (slots2 := 0) (ws2 := [(mo, .inr (2, [.int (iN 0), .ref am, .ref ae, .int (iN many), .ref ap, .ref ab, .ref aw, .int (iN coins), .ref ac, .ref an, .ref a0, .ref a1, .ref a2])), (ac, .inl (T.2.1 0, 9, .inl (zA pairs))), (an, .inl (T.2.1 0, 1000, .inl (zA needs))), (a0, .inl (T.2.1 0, 3, .inl (zA both))), (a1, .inl (T.2.1 0, 3, .inl (zA heavy))), (a2, .inl (T.2.1 0, 3, .inl (zA light)))]) rfl rfl rfl ?_
    refine g_st (st2 := [.int (bI true)]) rfl ?_
    refine g_if_eq (q := 20) (tg := 30) cx dX3_goodRight_17 (by decide) rfl (fun h => absurd h (by decide)) (fun _ => ?_)
    refine g_aload_n (q := 21) cx dX3_goodRight_20 rfl rfl ?_
    refine g_cVw (q := 24) (b := mo) (As := []) (wr := []) (st := []) cx hST hrw (k_X3_good l hlt T mo am ae ap ab aw ac an a0 a1 a2 0 many coins pairs needs both heavy light cn (vc.1) (vc.2.1) (vc.2.2.1)) q1299 s_X3_good rfl 0 rfl rfl g_perm1 (g_rmB rfl) (Nat.le_of_ble_eq_true rfl) dX3_goodRight_21 rfl (fun v_ wn_ hv_ => ?_)
    have vc := vc.2
    have vc := vc.2
    have vc := vc.2
    obtain ⟨r_7, both2_8, heavy2_9, light2_10, rfl, rfl, e_11⟩ := hv_
    subst e_11
    refine g_cs (cells2 := 0) (slots2 := 0) (ws2 := [(mo, .inr (2, [.int (iN 0), .ref am, .ref ae, .int (iN many), .ref ap, .ref ab, .ref aw, .int (iN coins), .ref ac, .ref an, .ref a0, .ref a1, .ref a2])), (ac, .inl (T.2.1 0, 9, .inl (zA pairs))), (an, .inl (T.2.1 0, 1000, .inl (zA needs))), (a0, .inl (T.2.1 0, 3, .inl (zA both2_8))), (a1, .inl (T.2.1 0, 3, .inl (zA heavy2_9))), (a2, .inl (T.2.1 0, 3, .inl (zA light2_10)))]) rfl rfl rfl ?_
    refine g_st (st2 := [.int (iN ((gdN (goodF (goodP needs pairs cn) cn) : Nat) : Int))]) rfl ?_
    have vc := vc both2_8 heavy2_9 light2_10 
    refine g_bipush (q := 26) (v := iN 9) cx dX3_goodRight_24 (by decide) rfl ?_
    refine g_ishrZ (q := 27) cx vc.1 (by decide) dX3_goodRight_26 rfl ?_
    have vc := vc.2
    refine g_goto (q := 31) cx dX3_goodRight_27 (by decide) ?_
    exact g_iretW cx hr rfl ⟨((((gdN (goodF (goodP needs pairs cn) cn) : Nat) : Int).toNat >>> 9 : Nat) : Int), 0, both2_8, heavy2_9, light2_10, rfl, rfl, vc⟩ (by first | exact Nat.le_of_ble_eq_true rfl | omega) (by first | exact Nat.le_of_ble_eq_true rfl | omega) dX3_goodRight_31
  · have vc := vc.2.2 h_3
    refine g_iconst (q := 10) (v := iN 1) cx dX3_goodRight_9 rfl rfl ?_
    refine g_goto (q := 14) cx dX3_goodRight_10 (by decide) ?_
    refine g_cVw (q := 17) (b := mo) (As := [.int (iN 1)]) (wr := [(ac, .inl (T.2.1 0, 9, .inl (zA pairs))), (an, .inl (T.2.1 0, 1000, .inl (zA needs))), (a0, .inl (T.2.1 0, 3, .inl (zA both))), (a1, .inl (T.2.1 0, 3, .inl (zA heavy))), (a2, .inl (T.2.1 0, 3, .inl (zA light)))]) (st := []) cx hST hrw (k_X3_goesWell l hlt T mo am ae ap ab aw ac an a0 a1 a2 th many coins 1 (by decide)) q1122 s_X3_goesWell rfl 0 rfl rfl (g_perm [1, 2, 3, 4, 5, 0] rfl rfl) (g_rmB rfl) (Nat.le_of_ble_eq_true rfl) dX3_goodRight_14 rfl (fun v_ wn_ hv_ => ?_)
    obtain ⟨b_12, th2_13, rfl, rfl, e_14⟩ := hv_
    obtain ⟨rfl, rfl⟩ := e_14
    refine g_wp (ws2 := [(mo, .inr (2, [.int (iN 1), .ref am, .ref ae, .int (iN many), .ref ap, .ref ab, .ref aw, .int (iN coins), .ref ac, .ref an, .ref a0, .ref a1, .ref a2])), (ac, .inl (T.2.1 0, 9, .inl (zA pairs))), (an, .inl (T.2.1 0, 1000, .inl (zA needs))), (a0, .inl (T.2.1 0, 3, .inl (zA both))), (a1, .inl (T.2.1 0, 3, .inl (zA heavy))), (a2, .inl (T.2.1 0, 3, .inl (zA light)))]) (g_perm [5, 0, 1, 2, 3, 4] rfl rfl) ?_
    refine g_cs (cells2 := 0) (slots2 := 0) (ws2 := [(mo, .inr (2, [.int (iN 1), .ref am, .ref ae, .int (iN many), .ref ap, .ref ab, .ref aw, .int (iN coins), .ref ac, .ref an, .ref a0, .ref a1, .ref a2])), (ac, .inl (T.2.1 0, 9, .inl (zA pairs))), (an, .inl (T.2.1 0, 1000, .inl (zA needs))), (a0, .inl (T.2.1 0, 3, .inl (zA both))), (a1, .inl (T.2.1 0, 3, .inl (zA heavy))), (a2, .inl (T.2.1 0, 3, .inl (zA light)))]) rfl rfl rfl ?_
    refine g_st (st2 := [.int (bI false)]) rfl ?_
    refine g_if_eq (q := 20) (tg := 30) cx dX3_goodRight_17 (by decide) rfl (fun _ => ?_) (fun h => absurd h (by decide))
    refine g_iconst (q := 31) (v := iN 0) cx dX3_goodRight_30 rfl rfl ?_
    exact g_iretW cx hr rfl ⟨0, 1, both, heavy, light, rfl, rfl, vc⟩ (by first | exact Nat.le_of_ble_eq_true rfl | omega) (by first | exact Nat.le_of_ble_eq_true rfl | omega) dX3_goodRight_31

theorem k_X3_goodRight (l : Launch) (hlt : l.stackTraces = false) (T : GT) (mo : Nat) (am : Nat) (ae : Nat) (ap : Nat) (ab : Nat) (aw : Nat) (ac : Nat) (an : Nat) (a0 : Nat) (a1 : Nat) (a2 : Nat) (th : Int) (many : Int) (coins : Int) (pairs : Nat → Int) (needs : Nat → Int) (both : Nat → Int) (heavy : Nat → Int) (light : Nat → Int) (cn : Nat) (hp0 : coins = cn ∧ cn ≤ 9) (hp1 : prOK pairs) (hp2 : rngN needs) : MW l T yX3_goodRight cX3_goodRight 1 (some .int) ({ frames := 5, cells := 0, slots := 0, locals := 110 }) [.ref mo] [(mo, .inr (2, [.int (iN th), .ref am, .ref ae, .int (iN many), .ref ap, .ref ab, .ref aw, .int (iN coins), .ref ac, .ref an, .ref a0, .ref a1, .ref a2])), (ac, .inl (T.2.1 0, 9, .inl (zA pairs))), (an, .inl (T.2.1 0, 1000, .inl (zA needs))), (a0, .inl (T.2.1 0, 3, .inl (zA both))), (a1, .inl (T.2.1 0, 3, .inl (zA heavy))), (a2, .inl (T.2.1 0, 3, .inl (zA light)))] (fun v_ wn_ => ∃ (r : Int), ∃ (th2 : Int), ∃ (both2 : Nat → Int), ∃ (heavy2 : Nat → Int), ∃ (light2 : Nat → Int), v_ = some (.int (iN r)) ∧ wn_ = [(mo, .inr (2, [.int (iN th2), .ref am, .ref ae, .int (iN many), .ref ap, .ref ab, .ref aw, .int (iN coins), .ref ac, .ref an, .ref a0, .ref a1, .ref a2])), (ac, .inl (T.2.1 0, 9, .inl (zA pairs))), (an, .inl (T.2.1 0, 1000, .inl (zA needs))), (a0, .inl (T.2.1 0, 3, .inl (zA both2))), (a1, .inl (T.2.1 0, 3, .inl (zA heavy2))), (a2, .inl (T.2.1 0, 3, .inl (zA light2)))] ∧ r = (if pmN pairs cn = 1 then 0 else ((gdy (goodF (goodP needs pairs cn) cn) : Nat) : Int)) ∧ th2 = (if pmN pairs cn = 1 then 1 else 0)) 0 0 := by
  refine w_X3_goodRight l hlt T mo am ae ap ab aw ac an a0 a1 a2 th many coins pairs needs both heavy light cn _ ?_
  have hpm := pmN_le hp1 cn hp0.2
  have h9 := pow2_9 hp0.2
  have hg := gdN_in (o := goodF (goodP needs pairs cn) cn) (fun x y h => by have := goodF_lt h; omega)
  refine ⟨hp0, hp1, by omega, fun h => ⟨hp0, hp1, hp2, fun bo he li => ⟨by omega, ?_⟩⟩, fun h => ?_⟩
  · rw [if_neg (by omega), if_neg (by omega), Int.toNat_natCast, hg.2.2]
    exact ⟨rfl, rfl⟩
  · rw [if_pos (by omega), if_pos (by omega)]
    exact ⟨rfl, rfl⟩

set_option maxRecDepth 100000 in
set_option maxHeartbeats 4000000 in
theorem w_X3_lay (l : Launch) (hlt : l.stackTraces = false) (T : GT) (mo : Nat) (am : Nat) (ae : Nat) (ap : Nat) (ab : Nat) (aw : Nat) (ac : Nat) (an : Nat) (a0 : Nat) (a1 : Nat) (a2 : Nat) (th : Int) (many : Int) (coins : Int) (pairs : Nat → Int) (needs : Nat → Int) (both : Nat → Int) (heavy : Nat → Int) (light : Nat → Int) (number : Int) (cn : Nat)  (post : Int → Int → Int → (Nat → Int) → (Nat → Int) → (Nat → Int) → (Nat → Int) → (Nat → Int) → Prop) (v0_ : (-2147483648 ≤ number ∧ number < 2147483648) ∧ (((decide ((3 : Int) ≤ number) && decide (number ≤ (9 : Int))) = false → (post 0 1 coins pairs needs both heavy light)) ∧ ((decide ((3 : Int) ≤ number) && decide (number ≤ (9 : Int))) = true → ((number = cn) ∧ ((3 ≤ cn ∧ cn ≤ 9) ∧ (∀ (pairs2_11 : Nat → Int) (needs2_12 : Nat → Int) (both2_13 : Nat → Int) (heavy2_14 : Nat → Int) (light2_15 : Nat → Int), ((∀ i, i < 9 → pairs2_11 i = if i < cn then 3 else 0) ∧ ∀ x, x < 1000 → needs2_12 x = ndT cn x) → (number = cn ∧ cn ≤ 9) ∧ ((prOK pairs2_11) ∧ (post (needs2_12 (kinds pairs2_11 (2 ^ cn - 1) cn)) 0 number pairs2_11 needs2_12 both2_13 heavy2_14 light2_15))))))))  : MW l T yX3_lay cX3_lay 2 (some .int) ({ frames := 6, cells := 0, slots := 0, locals := 143 }) [.ref mo, .int (iN number)] [(mo, .inr (2, [.int (iN th), .ref am, .ref ae, .int (iN many), .ref ap, .ref ab, .ref aw, .int (iN coins), .ref ac, .ref an, .ref a0, .ref a1, .ref a2])), (ac, .inl (T.2.1 0, 9, .inl (zA pairs))), (an, .inl (T.2.1 0, 1000, .inl (zA needs))), (a0, .inl (T.2.1 0, 3, .inl (zA both))), (a1, .inl (T.2.1 0, 3, .inl (zA heavy))), (a2, .inl (T.2.1 0, 3, .inl (zA light)))] (fun v_ wn_ => ∃ (r : Int), ∃ (th2 : Int), ∃ (coins2 : Int), ∃ (pairs2 : Nat → Int), ∃ (needs2 : Nat → Int), ∃ (both2 : Nat → Int), ∃ (heavy2 : Nat → Int), ∃ (light2 : Nat → Int), v_ = some (.int (iN r)) ∧ wn_ = [(mo, .inr (2, [.int (iN th2), .ref am, .ref ae, .int (iN many), .ref ap, .ref ab, .ref aw, .int (iN coins2), .ref ac, .ref an, .ref a0, .ref a1, .ref a2])), (ac, .inl (T.2.1 0, 9, .inl (zA pairs2))), (an, .inl (T.2.1 0, 1000, .inl (zA needs2))), (a0, .inl (T.2.1 0, 3, .inl (zA both2))), (a1, .inl (T.2.1 0, 3, .inl (zA heavy2))), (a2, .inl (T.2.1 0, 3, .inl (zA light2)))] ∧ post r th2 coins2 pairs2 needs2 both2 heavy2 light2) 0 0 := by
  refine MW.start hlt (by decide) (lv0 := [some (.ref mo), some (.int (iN number))]) rfl (Nat.le_of_ble_eq_true rfl) rfl ?_
  intro p e R s m args below meth c A cx hr hnm hST hrw
  have vc := v0_
  refine g_aload_n (q := 1) cx dX3_lay_0 rfl rfl ?_
  refine g_iload_n (q := 2) cx dX3_lay_1 rfl rfl ?_
  refine g_iconst (q := 3) (v := iN 3) cx dX3_lay_2 rfl rfl ?_
  refine g_bipush (q := 5) (v := iN 9) cx dX3_lay_3 (by decide) rfl ?_
  refine g_cSr (q := 8) (As := [.int (iN number), .int (iN 3), .int (iN 9)]) (wr := [(mo, .inr (2, [.int (iN th), .ref am, .ref ae, .int (iN many), .ref ap, .ref ab, .ref aw, .int (iN coins), .ref ac, .ref an, .ref a0, .ref a1, .ref a2])), (ac, .inl (T.2.1 0, 9, .inl (zA pairs))), (an, .inl (T.2.1 0, 1000, .inl (zA needs))), (a0, .inl (T.2.1 0, 3, .inl (zA both))), (a1, .inl (T.2.1 0, 3, .inl (zA heavy))), (a2, .inl (T.2.1 0, 3, .inl (zA light)))]) (st := [.ref mo]) cx hST (k_X3_in l hlt T number 3 9 (vc.1) (by decide) (by decide)) q1119 s_X3_in rfl g_perm0 (g_rmB rfl) (Nat.le_of_ble_eq_true rfl) dX3_lay_5 rfl (fun v_ hv_ => ?_)
  have vc := vc.2
  obtain ⟨b_1, rfl, e_2⟩ := hv_
  subst e_2
  refine g_st (st2 := [.int (bI (decide ((3 : Int) ≤ number) && decide (number ≤ (9 : Int)))), .ref mo]) rfl ?_
  refine g_if_eq (q := 11) (tg := 15) cx dX3_lay_8 (by decide) rfl (fun h_3 => ?_) (fun h_3 => ?_)
  · have vc := vc.1 (bI_0.mp h_3)
    refine g_iconst (q := 16) (v := iN 1) cx dX3_lay_15 rfl rfl ?_
    refine g_cVw (q := 19) (b := mo) (As := [.int (iN 1)]) (wr := [(ac, .inl (T.2.1 0, 9, .inl (zA pairs))), (an, .inl (T.2.1 0, 1000, .inl (zA needs))), (a0, .inl (T.2.1 0, 3, .inl (zA both))), (a1, .inl (T.2.1 0, 3, .inl (zA heavy))), (a2, .inl (T.2.1 0, 3, .inl (zA light)))]) (st := []) cx hST hrw (k_X3_goesWell l hlt T mo am ae ap ab aw ac an a0 a1 a2 th many coins 1 (by decide)) q1122 s_X3_goesWell rfl 0 rfl rfl (g_perm [1, 2, 3, 4, 5, 0] rfl rfl) (g_rmB rfl) (Nat.le_of_ble_eq_true rfl) dX3_lay_16 rfl (fun v_ wn_ hv_ => ?_)
    obtain ⟨b_4, th2_5, rfl, rfl, e_6⟩ := hv_
    obtain ⟨rfl, rfl⟩ := e_6
    refine g_wp (ws2 := [(mo, .inr (2, [.int (iN 1), .ref am, .ref ae, .int (iN many), .ref ap, .ref ab, .ref aw, .int (iN coins), .ref ac, .ref an, .ref a0, .ref a1, .ref a2])), (ac, .inl (T.2.1 0, 9, .inl (zA pairs))), (an, .inl (T.2.1 0, 1000, .inl (zA needs))), (a0, .inl (T.2.1 0, 3, .inl (zA both))), (a1, .inl (T.2.1 0, 3, .inl (zA heavy))), (a2, .inl (T.2.1 0, 3, .inl (zA light)))]) (g_perm [5, 0, 1, 2, 3, 4] rfl rfl) ?_
    refine g_cs (cells2 := 0) (slots2 := 0) (ws2 := [(mo, .inr (2, [.int (iN 1), .ref am, .ref ae, .int (iN many), .ref ap, .ref ab, .ref aw, .int (iN coins), .ref ac, .ref an, .ref a0, .ref a1, .ref a2])), (ac, .inl (T.2.1 0, 9, .inl (zA pairs))), (an, .inl (T.2.1 0, 1000, .inl (zA needs))), (a0, .inl (T.2.1 0, 3, .inl (zA both))), (a1, .inl (T.2.1 0, 3, .inl (zA heavy))), (a2, .inl (T.2.1 0, 3, .inl (zA light)))]) rfl rfl rfl ?_
    refine g_st (st2 := [.int (bI false)]) rfl ?_
    refine g_if_ne (q := 22) (tg := 24) cx dX3_lay_19 (by decide) rfl (fun h => absurd h (by decide)) (fun _ => ?_)
    refine g_iconst (q := 23) (v := iN 0) cx dX3_lay_22 rfl rfl ?_
    exact g_iretW cx hr rfl ⟨0, 1, coins, pairs, needs, both, heavy, light, rfl, rfl, vc⟩ (by first | exact Nat.le_of_ble_eq_true rfl | omega) (by first | exact Nat.le_of_ble_eq_true rfl | omega) dX3_lay_23
  · have vc := vc.2 (bI_n0.mp h_3)
    refine g_iconst (q := 12) (v := iN 0) cx dX3_lay_11 rfl rfl ?_
    refine g_goto (q := 16) cx dX3_lay_12 (by decide) ?_
    refine g_cVw (q := 19) (b := mo) (As := [.int (iN 0)]) (wr := [(ac, .inl (T.2.1 0, 9, .inl (zA pairs))), (an, .inl (T.2.1 0, 1000, .inl (zA needs))), (a0, .inl (T.2.1 0, 3, .inl (zA both))), (a1, .inl (T.2.1 0, 3, .inl (zA heavy))), (a2, .inl (T.2.1 0, 3, .inl (zA light)))]) (st := []) cx hST hrw (k_X3_goesWell l hlt T mo am ae ap ab aw ac an a0 a1 a2 th many coins 0 (by decide)) q1122 s_X3_goesWell rfl 0 rfl rfl (g_perm [1, 2, 3, 4, 5, 0] rfl rfl) (g_rmB rfl) (Nat.le_of_ble_eq_true rfl) dX3_lay_16 rfl (fun v_ wn_ hv_ => ?_)
    obtain ⟨b_7, th2_8, rfl, rfl, e_9⟩ := hv_
    obtain ⟨rfl, rfl⟩ := e_9
    refine g_wp (ws2 := [(mo, .inr (2, [.int (iN 0), .ref am, .ref ae, .int (iN many), .ref ap, .ref ab, .ref aw, .int (iN coins), .ref ac, .ref an, .ref a0, .ref a1, .ref a2])), (ac, .inl (T.2.1 0, 9, .inl (zA pairs))), (an, .inl (T.2.1 0, 1000, .inl (zA needs))), (a0, .inl (T.2.1 0, 3, .inl (zA both))), (a1, .inl (T.2.1 0, 3, .inl (zA heavy))), (a2, .inl (T.2.1 0, 3, .inl (zA light)))]) (g_perm [5, 0, 1, 2, 3, 4] rfl rfl) ?_
    refine g_cs (cells2 := 0) (slots2 := 0) (ws2 := [(mo, .inr (2, [.int (iN 0), .ref am, .ref ae, .int (iN many), .ref ap, .ref ab, .ref aw, .int (iN coins), .ref ac, .ref an, .ref a0, .ref a1, .ref a2])), (ac, .inl (T.2.1 0, 9, .inl (zA pairs))), (an, .inl (T.2.1 0, 1000, .inl (zA needs))), (a0, .inl (T.2.1 0, 3, .inl (zA both))), (a1, .inl (T.2.1 0, 3, .inl (zA heavy))), (a2, .inl (T.2.1 0, 3, .inl (zA light)))]) rfl rfl rfl ?_
    refine g_st (st2 := [.int (bI true)]) rfl ?_
    refine g_if_ne (q := 22) (tg := 24) cx dX3_lay_19 (by decide) rfl (fun _ => ?_) (fun h => absurd h (by decide))
    refine g_aload_n (q := 25) cx dX3_lay_24 rfl rfl ?_
    refine g_iload_n (q := 26) cx dX3_lay_25 rfl rfl ?_
    refine g_cVw (q := 29) (b := mo) (As := [.int (iN number)]) (wr := []) (st := []) cx hST hrw (k_X3_begin l hlt T mo am ae ap ab aw ac an a0 a1 a2 0 many coins pairs needs both heavy light number cn (vc.1) (vc.2.1)) q1033 s_X3_begin rfl 0 rfl rfl g_perm1 (g_rmB rfl) (Nat.le_of_ble_eq_true rfl) dX3_lay_26 rfl (fun v_ wn_ hv_ => ?_)
    have vc := vc.2
    have vc := vc.2
    obtain ⟨coins2_10, pairs2_11, needs2_12, both2_13, heavy2_14, light2_15, rfl, rfl, e_16⟩ := hv_
    obtain ⟨q_17, e_16⟩ := e_16
    replace q_17 := q_17.symm
    subst q_17
    refine g_cs (cells2 := 0) (slots2 := 0) (ws2 := [(mo, .inr (2, [.int (iN 0), .ref am, .ref ae, .int (iN many), .ref ap, .ref ab, .ref aw, .int (iN number), .ref ac, .ref an, .ref a0, .ref a1, .ref a2])), (ac, .inl (T.2.1 0, 9, .inl (zA pairs2_11))), (an, .inl (T.2.1 0, 1000, .inl (zA needs2_12))), (a0, .inl (T.2.1 0, 3, .inl (zA both2_13))), (a1, .inl (T.2.1 0, 3, .inl (zA heavy2_14))), (a2, .inl (T.2.1 0, 3, .inl (zA light2_15)))]) rfl rfl rfl ?_
    refine g_st (st2 := []) rfl ?_
    have vc := vc pairs2_11 needs2_12 both2_13 heavy2_14 light2_15 e_16
    refine g_aload_n (q := 30) cx dX3_lay_29 rfl rfl ?_
    refine g_cVr (q := 33) (b := mo) (As := []) (wr := [(a0, .inl (T.2.1 0, 3, .inl (zA both2_13))), (a1, .inl (T.2.1 0, 3, .inl (zA heavy2_14))), (a2, .inl (T.2.1 0, 3, .inl (zA light2_15)))]) (st := []) cx hST (k_X3_need l hlt T mo am ae ap ab aw ac an a0 a1 a2 0 many number pairs2_11 needs2_12 cn (vc.1) (vc.2.1)) q1239 s_X3_need rfl 0 rfl rfl (g_perm [3, 4, 5, 0, 1, 2] rfl rfl) (g_rmB rfl) (Nat.le_of_ble_eq_true rfl) dX3_lay_30 rfl (fun v_ hv_ => ?_)
    have vc := vc.2
    have vc := vc.2
    obtain ⟨r_18, rfl, e_19⟩ := hv_
    subst e_19
    refine g_st (st2 := [.int (iN (needs2_12 (kinds pairs2_11 (2 ^ cn - 1) cn)))]) rfl ?_
    exact g_iretW cx hr rfl ⟨(needs2_12 (kinds pairs2_11 (2 ^ cn - 1) cn)), 0, number, pairs2_11, needs2_12, both2_13, heavy2_14, light2_15, rfl, rfl, vc⟩ (by first | exact Nat.le_of_ble_eq_true rfl | omega) (by first | exact Nat.le_of_ble_eq_true rfl | omega) dX3_lay_33

theorem k_X3_lay (l : Launch) (hlt : l.stackTraces = false) (T : GT) (mo : Nat) (am : Nat) (ae : Nat) (ap : Nat) (ab : Nat) (aw : Nat) (ac : Nat) (an : Nat) (a0 : Nat) (a1 : Nat) (a2 : Nat) (th : Int) (many : Int) (coins : Int) (pairs : Nat → Int) (needs : Nat → Int) (both : Nat → Int) (heavy : Nat → Int) (light : Nat → Int) (number : Int) (cn : Nat) (hp0 : -2147483648 ≤ number ∧ number < 2147483648) (hp1 : number.toNat = cn) : MW l T yX3_lay cX3_lay 2 (some .int) ({ frames := 6, cells := 0, slots := 0, locals := 143 }) [.ref mo, .int (iN number)] [(mo, .inr (2, [.int (iN th), .ref am, .ref ae, .int (iN many), .ref ap, .ref ab, .ref aw, .int (iN coins), .ref ac, .ref an, .ref a0, .ref a1, .ref a2])), (ac, .inl (T.2.1 0, 9, .inl (zA pairs))), (an, .inl (T.2.1 0, 1000, .inl (zA needs))), (a0, .inl (T.2.1 0, 3, .inl (zA both))), (a1, .inl (T.2.1 0, 3, .inl (zA heavy))), (a2, .inl (T.2.1 0, 3, .inl (zA light)))] (fun v_ wn_ => ∃ (r : Int), ∃ (th2 : Int), ∃ (coins2 : Int), ∃ (pairs2 : Nat → Int), ∃ (needs2 : Nat → Int), ∃ (both2 : Nat → Int), ∃ (heavy2 : Nat → Int), ∃ (light2 : Nat → Int), v_ = some (.int (iN r)) ∧ wn_ = [(mo, .inr (2, [.int (iN th2), .ref am, .ref ae, .int (iN many), .ref ap, .ref ab, .ref aw, .int (iN coins2), .ref ac, .ref an, .ref a0, .ref a1, .ref a2])), (ac, .inl (T.2.1 0, 9, .inl (zA pairs2))), (an, .inl (T.2.1 0, 1000, .inl (zA needs2))), (a0, .inl (T.2.1 0, 3, .inl (zA both2))), (a1, .inl (T.2.1 0, 3, .inl (zA heavy2))), (a2, .inl (T.2.1 0, 3, .inl (zA light2)))] ∧ ((¬ (3 ≤ number ∧ number ≤ 9) → r = 0 ∧ th2 = 1 ∧ coins2 = coins ∧ pairs2 = pairs ∧ needs2 = needs) ∧ ((3 ≤ number ∧ number ≤ 9) → th2 = 0 ∧ coins2 = number ∧ (∀ i, i < 9 → pairs2 i = if i < number.toNat then 3 else 0) ∧ (∀ x, x < 1000 → needs2 x = ndT number.toNat x) ∧ r = needs2 (kinds pairs2 (2 ^ number.toNat - 1) number.toNat)))) 0 0 := by
  refine w_X3_lay l hlt T mo am ae ap ab aw ac an a0 a1 a2 th many coins pairs needs both heavy light number cn _ ?_
  rw [← Bool.decide_and]
  refine ⟨hp0, fun h => ?_, fun h => ?_⟩
  · have g := of_decide_eq_false h
    exact ⟨fun _ => ⟨rfl, rfl, rfl, rfl, rfl⟩, fun hh => absurd hh g⟩
  · have g := of_decide_eq_true h
    refine ⟨by omega, by omega, fun pr nd bo he li hh => ⟨by omega, fun i hi => ?_, fun hh => absurd g hh, fun _ => ?_⟩⟩
    · have := hh.1 i hi
      rw [this]
      split <;> omega
    · rw [hp1]
      exact ⟨rfl, rfl, hh.1, hh.2, rfl⟩
