set_option maxRecDepth 100000 in
set_option maxHeartbeats 4000000 in
theorem w_X3_thrown (l : Launch) (hlt : l.stackTraces = false) (T : GT) (mo : Nat) (am : Nat) (ae : Nat) (ap : Nat) (ab : Nat) (aw : Nat) (ac : Nat) (an : Nat) (a0 : Nat) (a1 : Nat) (a2 : Nat) (th : Int) (many : Int) (coins : Int)  (post : Int → Prop) (v0_ : post th)  : MR l T yX3_thrown cX3_thrown 1 (some .int) ({ frames := 0, cells := 0, slots := 0, locals := 0 }) [.ref mo] [(mo, .inr (2, [.int (iN th), .ref am, .ref ae, .int (iN many), .ref ap, .ref ab, .ref aw, .int (iN coins), .ref ac, .ref an, .ref a0, .ref a1, .ref a2]))] (fun v_ => ∃ (r : Int), v_ = some (.int (iN r)) ∧ post r) := by
  refine MR.start hlt (by decide) (lv0 := [some (.ref mo)]) rfl (Nat.le_of_ble_eq_true rfl) rfl ?_
  intro p e R s m args below meth c cx hr hST
  have vc := v0_
  refine g_aload_n (q := 1) cx dX3_thrown_0 rfl rfl ?_
  refine g_get (q := 4) cx k_cX3 0 rfl 0 (by decide) q1070 (Or.inl rfl) rfl dX3_thrown_1 rfl ?_
  exact g_iretR cx hr rfl ⟨th, rfl, vc⟩ dX3_thrown_4

theorem k_X3_thrown (l : Launch) (hlt : l.stackTraces = false) (T : GT) (mo : Nat) (am : Nat) (ae : Nat) (ap : Nat) (ab : Nat) (aw : Nat) (ac : Nat) (an : Nat) (a0 : Nat) (a1 : Nat) (a2 : Nat) (th : Int) (many : Int) (coins : Int)  : MR l T yX3_thrown cX3_thrown 1 (some .int) ({ frames := 0, cells := 0, slots := 0, locals := 0 }) [.ref mo] [(mo, .inr (2, [.int (iN th), .ref am, .ref ae, .int (iN many), .ref ap, .ref ab, .ref aw, .int (iN coins), .ref ac, .ref an, .ref a0, .ref a1, .ref a2]))] (fun v_ => ∃ (r : Int), v_ = some (.int (iN r)) ∧ r = th) := by
  exact w_X3_thrown l hlt T mo am ae ap ab aw ac an a0 a1 a2 th many coins _ rfl

set_option maxRecDepth 100000 in
set_option maxHeartbeats 4000000 in
theorem w_X3_weights (l : Launch) (hlt : l.stackTraces = false) (T : GT) (mo : Nat) (am : Nat) (ae : Nat) (ap : Nat) (ab : Nat) (aw : Nat) (ac : Nat) (an : Nat) (a0 : Nat) (a1 : Nat) (a2 : Nat) (th : Int) (many : Int) (coins : Int)  (post : Int → Int → Prop) (v0_ : post many 0)  : MW l T yX3_weights cX3_weights 1 (some .int) ({ frames := 0, cells := 0, slots := 0, locals := 0 }) [.ref mo] [(mo, .inr (2, [.int (iN th), .ref am, .ref ae, .int (iN many), .ref ap, .ref ab, .ref aw, .int (iN coins), .ref ac, .ref an, .ref a0, .ref a1, .ref a2]))] (fun v_ wn_ => ∃ (r : Int), ∃ (th2 : Int), v_ = some (.int (iN r)) ∧ wn_ = [(mo, .inr (2, [.int (iN th2), .ref am, .ref ae, .int (iN many), .ref ap, .ref ab, .ref aw, .int (iN coins), .ref ac, .ref an, .ref a0, .ref a1, .ref a2]))] ∧ post r th2) 0 0 := by
  refine MW.start hlt (by decide) (lv0 := [some (.ref mo)]) rfl (Nat.le_of_ble_eq_true rfl) rfl ?_
  intro p e R s m args below meth c A cx hr hnm hST hrw
  have vc := v0_
  refine g_aload_n (q := 1) cx dX3_weights_0 rfl rfl ?_
  refine g_iconst (q := 2) (v := iN 0) cx dX3_weights_1 rfl rfl ?_
  refine g_put (q := 5) (ws2 := [(mo, .inr (2, [.int (iN 0), .ref am, .ref ae, .int (iN many), .ref ap, .ref ab, .ref aw, .int (iN coins), .ref ac, .ref an, .ref a0, .ref a1, .ref a2]))]) cx hrw k_cX3 0 rfl 0 (by decide) q1070 (Or.inl rfl) rfl rfl rfl (Nat.le_of_ble_eq_true rfl) rfl dX3_weights_2 rfl ?_
  refine g_aload_n (q := 6) cx dX3_weights_5 rfl rfl ?_
  refine g_get (q := 9) cx k_cX3 0 rfl 3 (by decide) q1073 (Or.inl rfl) rfl dX3_weights_6 rfl ?_
  exact g_iretW cx hr rfl ⟨many, 0, rfl, rfl, vc⟩ (by first | exact Nat.le_of_ble_eq_true rfl | omega) (by first | exact Nat.le_of_ble_eq_true rfl | omega) dX3_weights_9

theorem k_X3_weights (l : Launch) (hlt : l.stackTraces = false) (T : GT) (mo : Nat) (am : Nat) (ae : Nat) (ap : Nat) (ab : Nat) (aw : Nat) (ac : Nat) (an : Nat) (a0 : Nat) (a1 : Nat) (a2 : Nat) (th : Int) (many : Int) (coins : Int)  : MW l T yX3_weights cX3_weights 1 (some .int) ({ frames := 0, cells := 0, slots := 0, locals := 0 }) [.ref mo] [(mo, .inr (2, [.int (iN th), .ref am, .ref ae, .int (iN many), .ref ap, .ref ab, .ref aw, .int (iN coins), .ref ac, .ref an, .ref a0, .ref a1, .ref a2]))] (fun v_ wn_ => ∃ (r : Int), ∃ (th2 : Int), v_ = some (.int (iN r)) ∧ wn_ = [(mo, .inr (2, [.int (iN th2), .ref am, .ref ae, .int (iN many), .ref ap, .ref ab, .ref aw, .int (iN coins), .ref ac, .ref an, .ref a0, .ref a1, .ref a2]))] ∧ r = many ∧ th2 = 0) 0 0 := by
  exact w_X3_weights l hlt T mo am ae ap ab aw ac an a0 a1 a2 th many coins _ ⟨rfl, rfl⟩

set_option maxRecDepth 100000 in
set_option maxHeartbeats 4000000 in
theorem w_X3_placings (l : Launch) (hlt : l.stackTraces = false) (T : GT) (mo : Nat) (am : Nat) (ae : Nat) (ap : Nat) (ab : Nat) (aw : Nat) (ac : Nat) (an : Nat) (a0 : Nat) (a1 : Nat) (a2 : Nat) (th : Int) (many : Int) (coins : Int) (n : Nat) (I4 : Int → Int → Prop) (M4 : Int → Int → g_mu) (post : Int → Prop) (v0_ : I4 1 0) (v4 : ∀ (al : Int) (k : Int), I4 al k → (-2147483648 ≤ k ∧ k < 2147483648) ∧ ((-2147483648 ≤ many ∧ many < 2147483648) ∧ ((many ≤ k → (post al)) ∧ (k < many → (I4 (al * 3) (k + 1) ∧ g_lt (M4 (al * 3) (k + 1)) (M4 al k)))))) : MR l T yX3_placings cX3_placings 3 (some .int) ({ frames := 0, cells := 0, slots := 0, locals := 0 }) [.ref mo] [(mo, .inr (2, [.int (iN th), .ref am, .ref ae, .int (iN many), .ref ap, .ref ab, .ref aw, .int (iN coins), .ref ac, .ref an, .ref a0, .ref a1, .ref a2]))] (fun v_ => ∃ (r : Int), v_ = some (.int (iN r)) ∧ post r) := by
  refine MR.start hlt (by decide) (lv0 := [some (.ref mo), none, none]) rfl (Nat.le_of_ble_eq_true rfl) rfl ?_
  intro p e R s m args below meth c cx hr hST
  have key : ∀ μ : g_mu, (∀ (al : Int) (k : Int), I4 al k → M4 al k = μ → G p l e R s m args below meth c 3 T (fun _ => False) (fun _ => True) (MQ below (g_Qr (fun v_ => ∃ (r : Int), v_ = some (.int (iN r)) ∧ post r)) args s 0 0 (fun _ => False)) 0 0 [(mo, .inr (2, [.int (iN th), .ref am, .ref ae, .int (iN many), .ref ap, .ref ab, .ref aw, .int (iN coins), .ref ac, .ref an, .ref a0, .ref a1, .ref a2]))] [some (.ref mo), some (.int (iN al)), some (.int (iN k))] 4 []) := by
    refine g_ind (fun μ ih => ?_)
    · intro al k hI hM
      subst hM
      have vc := v4 al k hI
      refine g_iload_n (q := 5) cx dX3_placings_4 rfl rfl ?_
      refine g_aload_n (q := 6) cx dX3_placings_5 rfl rfl ?_
      refine g_get (q := 9) cx k_cX3 0 rfl 3 (by decide) q1073 (Or.inl rfl) rfl dX3_placings_6 rfl ?_
      refine g_icmp_geZ (q := 12) (tg := 22) cx vc.1 vc.2.1 dX3_placings_9 (by decide) rfl (fun h_1 => ?_) (fun h_1 => ?_)
      · have vc := vc.2.2.1 h_1
        refine g_iload_n (q := 23) cx dX3_placings_22 rfl rfl ?_
        exact g_iretR cx hr rfl ⟨al, rfl, vc⟩ dX3_placings_23
      · have vc := vc.2.2.2 h_1
        refine g_iload_n (q := 13) cx dX3_placings_12 rfl rfl ?_
        refine g_iconst (q := 14) (v := iN 3) cx dX3_placings_13 rfl rfl ?_
        refine g_imulZ (q := 15) cx dX3_placings_14 rfl ?_
        refine g_istore_n (q := 16) (lv2 := [some (.ref mo), some (.int (iN (al * 3))), some (.int (iN k))]) cx dX3_placings_15 rfl (by decide) rfl rfl ?_
        refine g_iinc (q := 19) (v := iN (k + 1)) (lv2 := [some (.ref mo), some (.int (iN (al * 3))), some (.int (iN (k + 1)))]) cx dX3_placings_16 rfl (iN_add _ _) (by decide) rfl rfl ?_
        refine g_goto (q := 4) cx dX3_placings_19 (by decide) ?_
        exact (ih _ vc.2) (al * 3) (k + 1) vc.1 rfl
  have vc := v0_
  refine g_iconst (q := 1) (v := iN 1) cx dX3_placings_0 rfl rfl ?_
  refine g_istore_n (q := 2) (lv2 := [some (.ref mo), some (.int (iN 1)), none]) cx dX3_placings_1 rfl (by decide) rfl rfl ?_
  refine g_iconst (q := 3) (v := iN 0) cx dX3_placings_2 rfl rfl ?_
  refine g_istore_n (q := 4) (lv2 := [some (.ref mo), some (.int (iN 1)), some (.int (iN 0))]) cx dX3_placings_3 rfl (by decide) rfl rfl ?_
  exact (key _) 1 0 vc rfl

theorem k_X3_placings (l : Launch) (hlt : l.stackTraces = false) (T : GT) (mo : Nat) (am : Nat) (ae : Nat) (ap : Nat) (ab : Nat) (aw : Nat) (ac : Nat) (an : Nat) (a0 : Nat) (a1 : Nat) (a2 : Nat) (th : Int) (many : Int) (coins : Int) (n : Nat) (hp0 : many = n) (hp1 : n ≤ 7) : MR l T yX3_placings cX3_placings 3 (some .int) ({ frames := 0, cells := 0, slots := 0, locals := 0 }) [.ref mo] [(mo, .inr (2, [.int (iN th), .ref am, .ref ae, .int (iN many), .ref ap, .ref ab, .ref aw, .int (iN coins), .ref ac, .ref an, .ref a0, .ref a1, .ref a2]))] (fun v_ => ∃ (r : Int), v_ = some (.int (iN r)) ∧ r = ((3 ^ n : Nat) : Int)) := by
  refine w_X3_placings l hlt T mo am ae ap ab aw ac an a0 a1 a2 th many coins n (I4 := fun al k => ∃ j : Nat, j ≤ n ∧ k = j ∧ al = ((3 ^ j : Nat) : Int)) (M4 := fun _ k => (0, 0, 0, (7 - k).toNat)) _ ?_ ?_
  · exact ⟨0, by omega, rfl, rfl⟩
  · subst hp0
    rintro al k ⟨j, hj, rfl, rfl⟩
    have h3 := pow3_7 (n := j) (by omega)
    refine ⟨by omega, by omega, fun h => ?_, fun h => ?_⟩
    · rw [show n = j by omega]
    · exact ⟨⟨j + 1, by omega, rfl, by rw [Nat.pow_succ, Int.natCast_mul]; rfl⟩, g_ltI (by omega)⟩

set_option maxRecDepth 100000 in
set_option maxHeartbeats 4000000 in
theorem w_X3_place (l : Launch) (hlt : l.stackTraces = false) (T : GT) (mo : Nat) (am : Nat) (ae : Nat) (ap : Nat) (ab : Nat) (aw : Nat) (ac : Nat) (an : Nat) (a0 : Nat) (a1 : Nat) (a2 : Nat) (th : Int) (many : Int) (coins : Int) (masses : Nat → Int) (placing : Nat → Int) (number : Int) (n : Nat) (I12 : Int → Int → Int → (Nat → Int) → Prop) (M12 : Int → Int → Int → (Nat → Int) → g_mu) (post : Int → (Nat → Int) → Prop) (v0_ : I12 number 0 (many - 1) placing) (v12 : ∀ (rest : Int) (sum : Int) (k : Int) (pl : Nat → Int), I12 rest sum k pl → (-2147483648 ≤ k ∧ k < 2147483648) ∧ ((k < 0 → (post sum pl)) ∧ (0 ≤ k → ((0 ≤ rest ∧ rest < 2147483648) ∧ ((0 ≤ k ∧ k < 7) ∧ ((0 ≤ k ∧ k < 7) ∧ ((0 ≤ k ∧ k < 7) ∧ ((0 ≤ rest ∧ rest < 2147483648) ∧ (I12 (rest / 3) (sum + (((va_up pl k.toNat (1 - (rest % 3))) k.toNat) * (masses k.toNat))) (k + (-1)) (va_up pl k.toNat (1 - (rest % 3))) ∧ g_lt (M12 (rest / 3) (sum + (((va_up pl k.toNat (1 - (rest % 3))) k.toNat) * (masses k.toNat))) (k + (-1)) (va_up pl k.toNat (1 - (rest % 3)))) (M12 rest sum k pl)))))))))) : MW l T yX3_place cX3_place 5 (some .int) ({ frames := 0, cells := 0, slots := 0, locals := 0 }) [.ref mo, .int (iN number)] [(mo, .inr (2, [.int (iN th), .ref am, .ref ae, .int (iN many), .ref ap, .ref ab, .ref aw, .int (iN coins), .ref ac, .ref an, .ref a0, .ref a1, .ref a2])), (am, .inl (T.2.1 0, 7, .inl (zA masses))), (ap, .inl (T.2.1 0, 7, .inl (zA placing)))] (fun v_ wn_ => ∃ (r : Int), ∃ (placing2 : Nat → Int), v_ = some (.int (iN r)) ∧ wn_ = [(mo, .inr (2, [.int (iN th), .ref am, .ref ae, .int (iN many), .ref ap, .ref ab, .ref aw, .int (iN coins), .ref ac, .ref an, .ref a0, .ref a1, .ref a2])), (am, .inl (T.2.1 0, 7, .inl (zA masses))), (ap, .inl (T.2.1 0, 7, .inl (zA placing2)))] ∧ post r placing2) 0 0 := by
  refine MW.start hlt (by decide) (lv0 := [some (.ref mo), some (.int (iN number)), none, none, none]) rfl (Nat.le_of_ble_eq_true rfl) rfl ?_
  intro p e R s m args below meth c A cx hr hnm hST hrw
  have key : ∀ μ : g_mu, (∀ (rest : Int) (sum : Int) (k : Int) (pl : Nat → Int), I12 rest sum k pl → M12 rest sum k pl = μ → G p l e R s m args below meth c 5 T A A (MQ below (g_Q T (fun v_ wn_ => ∃ (r : Int), ∃ (placing2 : Nat → Int), v_ = some (.int (iN r)) ∧ wn_ = [(mo, .inr (2, [.int (iN th), .ref am, .ref ae, .int (iN many), .ref ap, .ref ab, .ref aw, .int (iN coins), .ref ac, .ref an, .ref a0, .ref a1, .ref a2])), (am, .inl (T.2.1 0, 7, .inl (zA masses))), (ap, .inl (T.2.1 0, 7, .inl (zA placing2)))] ∧ post r placing2) A) args s 0 0 A) 0 0 [(mo, .inr (2, [.int (iN th), .ref am, .ref ae, .int (iN many), .ref ap, .ref ab, .ref aw, .int (iN coins), .ref ac, .ref an, .ref a0, .ref a1, .ref a2])), (am, .inl (T.2.1 0, 7, .inl (zA masses))), (ap, .inl (T.2.1 0, 7, .inl (zA pl)))] [some (.ref mo), some (.int (iN number)), some (.int (iN rest)), some (.int (iN sum)), some (.int (iN k))] 12 []) := by
    refine g_ind (fun μ ih => ?_)
    · intro rest sum k pl hI hM
      subst hM
      have vc := v12 rest sum k pl hI
      refine g_iload (q := 14) cx dX3_place_12 rfl rfl ?_
      refine g_if_ltZ (q := 17) (tg := 57) cx vc.1 dX3_place_14 (by decide) rfl (fun h_1 => ?_) (fun h_1 => ?_)
      · have vc := vc.2.1 h_1
        refine g_iload_n (q := 58) cx dX3_place_57 rfl rfl ?_
        exact g_iretW cx hr rfl ⟨sum, pl, rfl, rfl, vc⟩ (by first | exact Nat.le_of_ble_eq_true rfl | omega) (by first | exact Nat.le_of_ble_eq_true rfl | omega) dX3_place_58
      · have vc := vc.2.2 h_1
        refine g_aload_n (q := 18) cx dX3_place_17 rfl rfl ?_
        refine g_get (q := 21) cx k_cX3 0 rfl 4 (by decide) q1074 (Or.inl rfl) rfl dX3_place_18 rfl ?_
        refine g_iload (q := 23) cx dX3_place_21 rfl rfl ?_
        refine g_iconst (q := 24) (v := iN 1) cx dX3_place_23 rfl rfl ?_
        refine g_iload_n (q := 25) cx dX3_place_24 rfl rfl ?_
        refine g_iconst (q := 26) (v := iN 3) cx dX3_place_25 rfl rfl ?_
        refine g_iremZ (q := 27) cx vc.1 (by decide) dX3_place_26 rfl ?_
        have vc := vc.2
        refine g_isubZ (q := 28) cx dX3_place_27 rfl ?_
        refine g_iastZ (q := 29) (ws2 := [(mo, .inr (2, [.int (iN th), .ref am, .ref ae, .int (iN many), .ref ap, .ref ab, .ref aw, .int (iN coins), .ref ac, .ref an, .ref a0, .ref a1, .ref a2])), (am, .inl (T.2.1 0, 7, .inl (zA masses))), (ap, .inl (T.2.1 0, 7, .inl (zA (va_up pl k.toNat (1 - (rest % 3))))))]) cx hrw 2 (by decide) rfl vc.1 rfl dX3_place_28 rfl ?_
        have vc := vc.2
        refine g_iload_n (q := 30) cx dX3_place_29 rfl rfl ?_
        refine g_aload_n (q := 31) cx dX3_place_30 rfl rfl ?_
        refine g_get (q := 34) cx k_cX3 0 rfl 4 (by decide) q1074 (Or.inl rfl) rfl dX3_place_31 rfl ?_
        refine g_iload (q := 36) cx dX3_place_34 rfl rfl ?_
        refine g_ialdZ (q := 37) cx 2 (by decide) rfl vc.1 dX3_place_36 rfl ?_
        have vc := vc.2
        refine g_aload_n (q := 38) cx dX3_place_37 rfl rfl ?_
        refine g_get (q := 41) cx k_cX3 0 rfl 1 (by decide) q1071 (Or.inl rfl) rfl dX3_place_38 rfl ?_
        refine g_iload (q := 43) cx dX3_place_41 rfl rfl ?_
        refine g_ialdZ (q := 44) cx 1 (by decide) rfl vc.1 dX3_place_43 rfl ?_
        have vc := vc.2
        refine g_imulZ (q := 45) cx dX3_place_44 rfl ?_
        refine g_iaddZ (q := 46) cx dX3_place_45 rfl ?_
        refine g_istore_n (q := 47) (lv2 := [some (.ref mo), some (.int (iN number)), some (.int (iN rest)), some (.int (iN (sum + (((va_up pl k.toNat (1 - (rest % 3))) k.toNat) * (masses k.toNat))))), some (.int (iN k))]) cx dX3_place_46 rfl (by decide) rfl rfl ?_
        refine g_iload_n (q := 48) cx dX3_place_47 rfl rfl ?_
        refine g_iconst (q := 49) (v := iN 3) cx dX3_place_48 rfl rfl ?_
        refine g_idivZ (q := 50) cx vc.1 (by decide) dX3_place_49 rfl ?_
        have vc := vc.2
        refine g_istore_n (q := 51) (lv2 := [some (.ref mo), some (.int (iN number)), some (.int (iN (rest / 3))), some (.int (iN (sum + (((va_up pl k.toNat (1 - (rest % 3))) k.toNat) * (masses k.toNat))))), some (.int (iN k))]) cx dX3_place_50 rfl (by decide) rfl rfl ?_
        refine g_iinc (q := 54) (v := iN (k + (-1))) (lv2 := [some (.ref mo), some (.int (iN number)), some (.int (iN (rest / 3))), some (.int (iN (sum + (((va_up pl k.toNat (1 - (rest % 3))) k.toNat) * (masses k.toNat))))), some (.int (iN (k + (-1))))]) cx dX3_place_51 rfl (iN_add _ _) (by decide) rfl rfl ?_
        refine g_goto (q := 12) cx dX3_place_54 (by decide) ?_
        exact (ih _ vc.2) (rest / 3) (sum + (((va_up pl k.toNat (1 - (rest % 3))) k.toNat) * (masses k.toNat))) (k + (-1)) (va_up pl k.toNat (1 - (rest % 3))) vc.1 rfl
  have vc := v0_
  refine g_iload_n (q := 1) cx dX3_place_0 rfl rfl ?_
  refine g_istore_n (q := 2) (lv2 := [some (.ref mo), some (.int (iN number)), some (.int (iN number)), none, none]) cx dX3_place_1 rfl (by decide) rfl rfl ?_
  refine g_iconst (q := 3) (v := iN 0) cx dX3_place_2 rfl rfl ?_
  refine g_istore_n (q := 4) (lv2 := [some (.ref mo), some (.int (iN number)), some (.int (iN number)), some (.int (iN 0)), none]) cx dX3_place_3 rfl (by decide) rfl rfl ?_
  refine g_aload_n (q := 5) cx dX3_place_4 rfl rfl ?_
  refine g_get (q := 8) cx k_cX3 0 rfl 3 (by decide) q1073 (Or.inl rfl) rfl dX3_place_5 rfl ?_
  refine g_iconst (q := 9) (v := iN 1) cx dX3_place_8 rfl rfl ?_
  refine g_isubZ (q := 10) cx dX3_place_9 rfl ?_
  refine g_istore (q := 12) (lv2 := [some (.ref mo), some (.int (iN number)), some (.int (iN number)), some (.int (iN 0)), some (.int (iN (many - 1)))]) cx dX3_place_10 (by decide) rfl rfl ?_
  exact (key _) number 0 (many - 1) placing vc rfl

theorem k_X3_place (l : Launch) (hlt : l.stackTraces = false) (T : GT) (mo : Nat) (am : Nat) (ae : Nat) (ap : Nat) (ab : Nat) (aw : Nat) (ac : Nat) (an : Nat) (a0 : Nat) (a1 : Nat) (a2 : Nat) (th : Int) (many : Int) (coins : Int) (masses : Nat → Int) (placing : Nat → Int) (number : Int) (n : Nat) (hp0 : many = n) (hp1 : n ≤ 7) (hp2 : msOK n masses) (hp3 : 0 ≤ number ∧ number < 2147483648) : MW l T yX3_place cX3_place 5 (some .int) ({ frames := 0, cells := 0, slots := 0, locals := 0 }) [.ref mo, .int (iN number)] [(mo, .inr (2, [.int (iN th), .ref am, .ref ae, .int (iN many), .ref ap, .ref ab, .ref aw, .int (iN coins), .ref ac, .ref an, .ref a0, .ref a1, .ref a2])), (am, .inl (T.2.1 0, 7, .inl (zA masses))), (ap, .inl (T.2.1 0, 7, .inl (zA placing)))] (fun v_ wn_ => ∃ (r : Int), ∃ (placing2 : Nat → Int), v_ = some (.int (iN r)) ∧ wn_ = [(mo, .inr (2, [.int (iN th), .ref am, .ref ae, .int (iN many), .ref ap, .ref ab, .ref aw, .int (iN coins), .ref ac, .ref an, .ref a0, .ref a1, .ref a2])), (am, .inl (T.2.1 0, 7, .inl (zA masses))), (ap, .inl (T.2.1 0, 7, .inl (zA placing2)))] ∧ r = (psum masses n number.toNat n) ∧ placing2 = (plac n number.toNat placing)) 0 0 := by
  refine w_X3_place l hlt T mo am ae ap ab aw ac an a0 a1 a2 th many coins masses placing number n (I12 := fun rest sum k pl => ∃ j : Nat, j ≤ n ∧ k = n - 1 - j ∧ rest = ((number.toNat / 3 ^ j : Nat) : Int) ∧ sum = psum masses n number.toNat j ∧ pl = fun i => if n - j ≤ i ∧ i < n then trit number.toNat (n - 1 - i) else placing i) (M12 := fun _ _ k _ => (0, 0, 0, (k + 1).toNat)) _ ?_ ?_
  · subst hp0
    refine ⟨0, by omega, by omega, by rw [Nat.pow_zero, Nat.div_one]; omega, rfl, ?_⟩
    funext i
    rw [if_neg (by omega)]
  · subst hp0
    rintro rest sum k pl ⟨j, hj, rfl, rfl, rfl, rfl⟩
    have hr : (number.toNat / 3 ^ j : Nat) ≤ number.toNat := Nat.div_le_self _ _
    generalize hd : number.toNat / 3 ^ j = d at hr ⊢
    refine ⟨by omega, fun h => ?_, fun h => ⟨by omega, by omega, by omega, ?_⟩⟩
    · have e : j = n := by omega
      subst e
      refine ⟨rfl, ?_⟩
      funext i
      unfold plac
      by_cases hi : i < j
      · rw [if_pos ⟨by omega, hi⟩, if_pos hi]
      · rw [if_neg (by omega), if_neg hi]
    · have ek : ((n : Int) - 1 - j).toNat = n - 1 - j := by omega
      simp only [ek, va_up_self]
      refine ⟨by omega, by omega, ?_, ?_⟩
      · refine ⟨j + 1, by omega, by omega, ?_, ?_, ?_⟩
        · rw [Nat.pow_succ, ← Nat.div_div_eq_div_mul, hd]
          omega
        · show _ = psum masses n number.toNat j + trit number.toNat j * masses (n - 1 - j)
          unfold trit
          rw [hd, Int.natCast_emod]
          rfl
        · funext i
          unfold va_up
          by_cases h1 : i = n - 1 - j
          · rw [if_pos h1, if_pos ⟨by omega, by omega⟩, h1, show n - 1 - (n - 1 - j) = j by omega]
            unfold trit
            rw [hd, Int.natCast_emod]
            rfl
          · rw [if_neg h1]
            dsimp only
            by_cases h2 : n - j ≤ i ∧ i < n
            · rw [if_pos h2, if_pos (by omega)]
            · rw [if_neg h2, if_neg (by omega)]
      · exact g_ltI (by omega)

set_option maxRecDepth 100000 in
set_option maxHeartbeats 4000000 in
theorem w_X3_leftOf (l : Launch) (hlt : l.stackTraces = false) (T : GT) (mo : Nat) (am : Nat) (ae : Nat) (ap : Nat) (ab : Nat) (aw : Nat) (ac : Nat) (an : Nat) (a0 : Nat) (a1 : Nat) (a2 : Nat) (th : Int) (many : Int) (coins : Int) (placing : Nat → Int) (n : Nat) (I4 : Int → Int → Prop) (M4 : Int → Int → g_mu) (post : Int → Prop) (v0_ : I4 0 0) (v4 : ∀ (size : Int) (k : Int), I4 size k → (-2147483648 ≤ k ∧ k < 2147483648) ∧ ((-2147483648 ≤ many ∧ many < 2147483648) ∧ ((many ≤ k → (post size)) ∧ (k < many → ((0 ≤ k ∧ k < 7) ∧ ((-2147483648 ≤ (placing k.toNat) ∧ (placing k.toNat) < 2147483648) ∧ ((¬ (placing k.toNat) = (-1) → (I4 (size + 0) (k + 1) ∧ g_lt (M4 (size + 0) (k + 1)) (M4 size k))) ∧ ((placing k.toNat) = (-1) → (I4 (size + 1) (k + 1) ∧ g_lt (M4 (size + 1) (k + 1)) (M4 size k)))))))))) : MR l T yX3_leftOf cX3_leftOf 3 (some .int) ({ frames := 0, cells := 0, slots := 0, locals := 0 }) [.ref mo] [(mo, .inr (2, [.int (iN th), .ref am, .ref ae, .int (iN many), .ref ap, .ref ab, .ref aw, .int (iN coins), .ref ac, .ref an, .ref a0, .ref a1, .ref a2])), (ap, .inl (T.2.1 0, 7, .inl (zA placing)))] (fun v_ => ∃ (r : Int), v_ = some (.int (iN r)) ∧ post r) := by
  refine MR.start hlt (by decide) (lv0 := [some (.ref mo), none, none]) rfl (Nat.le_of_ble_eq_true rfl) rfl ?_
  intro p e R s m args below meth c cx hr hST
  have key : ∀ μ : g_mu, (∀ (size : Int) (k : Int), I4 size k → M4 size k = μ → G p l e R s m args below meth c 3 T (fun _ => False) (fun _ => True) (MQ below (g_Qr (fun v_ => ∃ (r : Int), v_ = some (.int (iN r)) ∧ post r)) args s 0 0 (fun _ => False)) 0 0 [(mo, .inr (2, [.int (iN th), .ref am, .ref ae, .int (iN many), .ref ap, .ref ab, .ref aw, .int (iN coins), .ref ac, .ref an, .ref a0, .ref a1, .ref a2])), (ap, .inl (T.2.1 0, 7, .inl (zA placing)))] [some (.ref mo), some (.int (iN size)), some (.int (iN k))] 4 []) := by
    refine g_ind (fun μ ih => ?_)
    · intro size k hI hM
      subst hM
      have vc := v4 size k hI
      refine g_iload_n (q := 5) cx dX3_leftOf_4 rfl rfl ?_
      refine g_aload_n (q := 6) cx dX3_leftOf_5 rfl rfl ?_
      refine g_get (q := 9) cx k_cX3 0 rfl 3 (by decide) q1073 (Or.inl rfl) rfl dX3_leftOf_6 rfl ?_
      refine g_icmp_geZ (q := 12) (tg := 36) cx vc.1 vc.2.1 dX3_leftOf_9 (by decide) rfl (fun h_1 => ?_) (fun h_1 => ?_)
      · have vc := vc.2.2.1 h_1
        refine g_iload_n (q := 37) cx dX3_leftOf_36 rfl rfl ?_
        exact g_iretR cx hr rfl ⟨size, rfl, vc⟩ dX3_leftOf_37
      · have vc := vc.2.2.2 h_1
        refine g_iload_n (q := 13) cx dX3_leftOf_12 rfl rfl ?_
        refine g_aload_n (q := 14) cx dX3_leftOf_13 rfl rfl ?_
        refine g_get (q := 17) cx k_cX3 0 rfl 4 (by decide) q1074 (Or.inl rfl) rfl dX3_leftOf_14 rfl ?_
        refine g_iload_n (q := 18) cx dX3_leftOf_17 rfl rfl ?_
        refine g_ialdZ (q := 19) cx 1 (by decide) rfl vc.1 dX3_leftOf_18 rfl ?_
        have vc := vc.2
        refine g_iconst (q := 20) (v := iN (-1)) cx dX3_leftOf_19 rfl rfl ?_
        refine g_icmp_neZ (q := 23) (tg := 27) cx vc.1 (by decide) dX3_leftOf_20 (by decide) rfl (fun h_2 => ?_) (fun h_2 => ?_)
        · have vc := vc.2.1 h_2
          refine g_iconst (q := 28) (v := iN 0) cx dX3_leftOf_27 rfl rfl ?_
          refine g_iaddZ (q := 29) cx dX3_leftOf_28 rfl ?_
          refine g_istore_n (q := 30) (lv2 := [some (.ref mo), some (.int (iN (size + 0))), some (.int (iN k))]) cx dX3_leftOf_29 rfl (by decide) rfl rfl ?_
          refine g_iinc (q := 33) (v := iN (k + 1)) (lv2 := [some (.ref mo), some (.int (iN (size + 0))), some (.int (iN (k + 1)))]) cx dX3_leftOf_30 rfl (iN_add _ _) (by decide) rfl rfl ?_
          refine g_goto (q := 4) cx dX3_leftOf_33 (by decide) ?_
          exact (ih _ vc.2) (size + 0) (k + 1) vc.1 rfl
        · have vc := vc.2.2 h_2
          refine g_iconst (q := 24) (v := iN 1) cx dX3_leftOf_23 rfl rfl ?_
          refine g_goto (q := 28) cx dX3_leftOf_24 (by decide) ?_
          refine g_iaddZ (q := 29) cx dX3_leftOf_28 rfl ?_
          refine g_istore_n (q := 30) (lv2 := [some (.ref mo), some (.int (iN (size + 1))), some (.int (iN k))]) cx dX3_leftOf_29 rfl (by decide) rfl rfl ?_
          refine g_iinc (q := 33) (v := iN (k + 1)) (lv2 := [some (.ref mo), some (.int (iN (size + 1))), some (.int (iN (k + 1)))]) cx dX3_leftOf_30 rfl (iN_add _ _) (by decide) rfl rfl ?_
          refine g_goto (q := 4) cx dX3_leftOf_33 (by decide) ?_
          exact (ih _ vc.2) (size + 1) (k + 1) vc.1 rfl
  have vc := v0_
  refine g_iconst (q := 1) (v := iN 0) cx dX3_leftOf_0 rfl rfl ?_
  refine g_istore_n (q := 2) (lv2 := [some (.ref mo), some (.int (iN 0)), none]) cx dX3_leftOf_1 rfl (by decide) rfl rfl ?_
  refine g_iconst (q := 3) (v := iN 0) cx dX3_leftOf_2 rfl rfl ?_
  refine g_istore_n (q := 4) (lv2 := [some (.ref mo), some (.int (iN 0)), some (.int (iN 0))]) cx dX3_leftOf_3 rfl (by decide) rfl rfl ?_
  exact (key _) 0 0 vc rfl

theorem k_X3_leftOf (l : Launch) (hlt : l.stackTraces = false) (T : GT) (mo : Nat) (am : Nat) (ae : Nat) (ap : Nat) (ab : Nat) (aw : Nat) (ac : Nat) (an : Nat) (a0 : Nat) (a1 : Nat) (a2 : Nat) (th : Int) (many : Int) (coins : Int) (placing : Nat → Int) (n : Nat) (hp0 : many = n) (hp1 : n ≤ 7) (hp2 : ∀ k, k < n → -1 ≤ placing k ∧ placing k ≤ 1) : MR l T yX3_leftOf cX3_leftOf 3 (some .int) ({ frames := 0, cells := 0, slots := 0, locals := 0 }) [.ref mo] [(mo, .inr (2, [.int (iN th), .ref am, .ref ae, .int (iN many), .ref ap, .ref ab, .ref aw, .int (iN coins), .ref ac, .ref an, .ref a0, .ref a1, .ref a2])), (ap, .inl (T.2.1 0, 7, .inl (zA placing)))] (fun v_ => ∃ (r : Int), v_ = some (.int (iN r)) ∧ r = ((cntB (fun k => decide (placing k = -1)) n : Nat) : Int)) := by
  refine w_X3_leftOf l hlt T mo am ae ap ab aw ac an a0 a1 a2 th many coins placing n (I4 := fun size k => ∃ j : Nat, j ≤ n ∧ k = j ∧ size = (cntB (fun k => decide (placing k = -1)) j : Nat)) (M4 := fun _ k => (0, 0, 0, (7 - k).toNat)) _ ?_ ?_
  · exact ⟨0, by omega, rfl, rfl⟩
  · rintro size k ⟨j, hj, rfl, rfl⟩
    subst hp0
    refine ⟨by omega, by omega, fun h => ?_, fun h => ⟨by omega, ?_⟩⟩
    · rw [show n = j by omega]
    · have hb := hp2 j (by omega)
      refine ⟨by simp only [Int.toNat_natCast]; omega, fun h2 => ?_, fun h2 => ?_⟩
      · simp only [Int.toNat_natCast] at h2
        exact ⟨⟨j + 1, by omega, rfl, by simp [cntB, h2]⟩, g_ltI (by omega)⟩
      · simp only [Int.toNat_natCast] at h2
        exact ⟨⟨j + 1, by omega, rfl, by simp [cntB, h2]⟩, g_ltI (by omega)⟩

set_option maxRecDepth 100000 in
set_option maxHeartbeats 4000000 in
theorem w_X3_errorOf (l : Launch) (hlt : l.stackTraces = false) (T : GT) (mo : Nat) (am : Nat) (ae : Nat) (ap : Nat) (ab : Nat) (aw : Nat) (ac : Nat) (an : Nat) (a0 : Nat) (a1 : Nat) (a2 : Nat) (th : Int) (many : Int) (coins : Int) (errors : Nat → Int) (placing : Nat → Int) (n : Nat) (I4 : Int → Int → Prop) (M4 : Int → Int → g_mu) (post : Int → Prop) (v0_ : I4 0 0) (v4 : ∀ (sum : Int) (k : Int), I4 sum k → (-2147483648 ≤ k ∧ k < 2147483648) ∧ ((-2147483648 ≤ many ∧ many < 2147483648) ∧ ((many ≤ k → (post sum)) ∧ (k < many → ((0 ≤ k ∧ k < 7) ∧ ((-2147483648 ≤ (placing k.toNat) ∧ (placing k.toNat) < 2147483648) ∧ ((¬ (placing k.toNat) = 0 → ((0 ≤ k ∧ k < 7) ∧ (I4 (sum + (errors k.toNat)) (k + 1) ∧ g_lt (M4 (sum + (errors k.toNat)) (k + 1)) (M4 sum k)))) ∧ ((placing k.toNat) = 0 → (I4 (sum + 0) (k + 1) ∧ g_lt (M4 (sum + 0) (k + 1)) (M4 sum k)))))))))) : MR l T yX3_errorOf cX3_errorOf 3 (some .int) ({ frames := 0, cells := 0, slots := 0, locals := 0 }) [.ref mo] [(mo, .inr (2, [.int (iN th), .ref am, .ref ae, .int (iN many), .ref ap, .ref ab, .ref aw, .int (iN coins), .ref ac, .ref an, .ref a0, .ref a1, .ref a2])), (ae, .inl (T.2.1 0, 7, .inl (zA errors))), (ap, .inl (T.2.1 0, 7, .inl (zA placing)))] (fun v_ => ∃ (r : Int), v_ = some (.int (iN r)) ∧ post r) := by
  refine MR.start hlt (by decide) (lv0 := [some (.ref mo), none, none]) rfl (Nat.le_of_ble_eq_true rfl) rfl ?_
  intro p e R s m args below meth c cx hr hST
  have key : ∀ μ : g_mu, (∀ (sum : Int) (k : Int), I4 sum k → M4 sum k = μ → G p l e R s m args below meth c 3 T (fun _ => False) (fun _ => True) (MQ below (g_Qr (fun v_ => ∃ (r : Int), v_ = some (.int (iN r)) ∧ post r)) args s 0 0 (fun _ => False)) 0 0 [(mo, .inr (2, [.int (iN th), .ref am, .ref ae, .int (iN many), .ref ap, .ref ab, .ref aw, .int (iN coins), .ref ac, .ref an, .ref a0, .ref a1, .ref a2])), (ae, .inl (T.2.1 0, 7, .inl (zA errors))), (ap, .inl (T.2.1 0, 7, .inl (zA placing)))] [some (.ref mo), some (.int (iN sum)), some (.int (iN k))] 4 []) := by
    refine g_ind (fun μ ih => ?_)
    · intro sum k hI hM
      subst hM
      have vc := v4 sum k hI
      refine g_iload_n (q := 5) cx dX3_errorOf_4 rfl rfl ?_
      refine g_aload_n (q := 6) cx dX3_errorOf_5 rfl rfl ?_
      refine g_get (q := 9) cx k_cX3 0 rfl 3 (by decide) q1073 (Or.inl rfl) rfl dX3_errorOf_6 rfl ?_
      refine g_icmp_geZ (q := 12) (tg := 40) cx vc.1 vc.2.1 dX3_errorOf_9 (by decide) rfl (fun h_1 => ?_) (fun h_1 => ?_)
      · have vc := vc.2.2.1 h_1
        refine g_iload_n (q := 41) cx dX3_errorOf_40 rfl rfl ?_
        exact g_iretR cx hr rfl ⟨sum, rfl, vc⟩ dX3_errorOf_41
      · have vc := vc.2.2.2 h_1
        refine g_iload_n (q := 13) cx dX3_errorOf_12 rfl rfl ?_
        refine g_aload_n (q := 14) cx dX3_errorOf_13 rfl rfl ?_
        refine g_get (q := 17) cx k_cX3 0 rfl 4 (by decide) q1074 (Or.inl rfl) rfl dX3_errorOf_14 rfl ?_
        refine g_iload_n (q := 18) cx dX3_errorOf_17 rfl rfl ?_
        refine g_ialdZ (q := 19) cx 2 (by decide) rfl vc.1 dX3_errorOf_18 rfl ?_
        have vc := vc.2
        refine g_if_neZ (q := 22) (tg := 26) cx vc.1 dX3_errorOf_19 (by decide) rfl (fun h_2 => ?_) (fun h_2 => ?_)
        · have vc := vc.2.1 h_2
          refine g_aload_n (q := 27) cx dX3_errorOf_26 rfl rfl ?_
          refine g_get (q := 30) cx k_cX3 0 rfl 2 (by decide) q1072 (Or.inl rfl) rfl dX3_errorOf_27 rfl ?_
          refine g_iload_n (q := 31) cx dX3_errorOf_30 rfl rfl ?_
          refine g_ialdZ (q := 32) cx 1 (by decide) rfl vc.1 dX3_errorOf_31 rfl ?_
          have vc := vc.2
          refine g_iaddZ (q := 33) cx dX3_errorOf_32 rfl ?_
          refine g_istore_n (q := 34) (lv2 := [some (.ref mo), some (.int (iN (sum + (errors k.toNat)))), some (.int (iN k))]) cx dX3_errorOf_33 rfl (by decide) rfl rfl ?_
          refine g_iinc (q := 37) (v := iN (k + 1)) (lv2 := [some (.ref mo), some (.int (iN (sum + (errors k.toNat)))), some (.int (iN (k + 1)))]) cx dX3_errorOf_34 rfl (iN_add _ _) (by decide) rfl rfl ?_
          refine g_goto (q := 4) cx dX3_errorOf_37 (by decide) ?_
          exact (ih _ vc.2) (sum + (errors k.toNat)) (k + 1) vc.1 rfl
        · have vc := vc.2.2 h_2
          refine g_iconst (q := 23) (v := iN 0) cx dX3_errorOf_22 rfl rfl ?_
          refine g_goto (q := 32) cx dX3_errorOf_23 (by decide) ?_
          refine g_iaddZ (q := 33) cx dX3_errorOf_32 rfl ?_
          refine g_istore_n (q := 34) (lv2 := [some (.ref mo), some (.int (iN (sum + 0))), some (.int (iN k))]) cx dX3_errorOf_33 rfl (by decide) rfl rfl ?_
          refine g_iinc (q := 37) (v := iN (k + 1)) (lv2 := [some (.ref mo), some (.int (iN (sum + 0))), some (.int (iN (k + 1)))]) cx dX3_errorOf_34 rfl (iN_add _ _) (by decide) rfl rfl ?_
          refine g_goto (q := 4) cx dX3_errorOf_37 (by decide) ?_
          exact (ih _ vc.2) (sum + 0) (k + 1) vc.1 rfl
  have vc := v0_
  refine g_iconst (q := 1) (v := iN 0) cx dX3_errorOf_0 rfl rfl ?_
  refine g_istore_n (q := 2) (lv2 := [some (.ref mo), some (.int (iN 0)), none]) cx dX3_errorOf_1 rfl (by decide) rfl rfl ?_
  refine g_iconst (q := 3) (v := iN 0) cx dX3_errorOf_2 rfl rfl ?_
  refine g_istore_n (q := 4) (lv2 := [some (.ref mo), some (.int (iN 0)), some (.int (iN 0))]) cx dX3_errorOf_3 rfl (by decide) rfl rfl ?_
  exact (key _) 0 0 vc rfl

theorem k_X3_errorOf (l : Launch) (hlt : l.stackTraces = false) (T : GT) (mo : Nat) (am : Nat) (ae : Nat) (ap : Nat) (ab : Nat) (aw : Nat) (ac : Nat) (an : Nat) (a0 : Nat) (a1 : Nat) (a2 : Nat) (th : Int) (many : Int) (coins : Int) (errors : Nat → Int) (placing : Nat → Int) (n : Nat) (hp0 : many = n) (hp1 : n ≤ 7) (hp2 : ∀ k, k < n → -1 ≤ placing k ∧ placing k ≤ 1) : MR l T yX3_errorOf cX3_errorOf 3 (some .int) ({ frames := 0, cells := 0, slots := 0, locals := 0 }) [.ref mo] [(mo, .inr (2, [.int (iN th), .ref am, .ref ae, .int (iN many), .ref ap, .ref ab, .ref aw, .int (iN coins), .ref ac, .ref an, .ref a0, .ref a1, .ref a2])), (ae, .inl (T.2.1 0, 7, .inl (zA errors))), (ap, .inl (T.2.1 0, 7, .inl (zA placing)))] (fun v_ => ∃ (r : Int), v_ = some (.int (iN r)) ∧ r = (sumZ (fun k => if placing k = 0 then 0 else errors k) n)) := by
  refine w_X3_errorOf l hlt T mo am ae ap ab aw ac an a0 a1 a2 th many coins errors placing n (I4 := fun sum k => ∃ j : Nat, j ≤ n ∧ k = j ∧ sum = sumZ (fun k => if placing k = 0 then 0 else errors k) j) (M4 := fun _ k => (0, 0, 0, (7 - k).toNat)) _ ?_ ?_
  · exact ⟨0, by omega, rfl, rfl⟩
  · rintro sum k ⟨j, hj, rfl, rfl⟩
    subst hp0
    refine ⟨by omega, by omega, fun h => ?_, fun h => ⟨by omega, ?_⟩⟩
    · rw [show n = j by omega]
    · have hb := hp2 j (by omega)
      refine ⟨by simp only [Int.toNat_natCast]; omega, fun h2 => ?_, fun h2 => ?_⟩
      · simp only [Int.toNat_natCast] at h2 ⊢
        exact ⟨by omega, ⟨j + 1, by omega, rfl, by simp [sumZ, h2]⟩, g_ltI (by omega)⟩
      · simp only [Int.toNat_natCast] at h2 ⊢
        exact ⟨⟨j + 1, by omega, rfl, by simp [sumZ, h2]⟩, g_ltI (by omega)⟩

set_option maxRecDepth 100000 in
set_option maxHeartbeats 4000000 in
theorem w_X3_has (l : Launch) (hlt : l.stackTraces = false) (T : GT) (set : Int) (number : Int)  (post : Bool → Prop) (v0_ : (0 ≤ set ∧ set < 2147483648) ∧ ((0 ≤ number ∧ number < 32) ∧ ((0 ≤ ((set.toNat >>> number.toNat : Nat) : Int) ∧ ((set.toNat >>> number.toNat : Nat) : Int) < 2147483648) ∧ ((-2147483648 ≤ ((((set.toNat >>> number.toNat : Nat) : Int).toNat &&& 1 : Nat) : Int) ∧ ((((set.toNat >>> number.toNat : Nat) : Int).toNat &&& 1 : Nat) : Int) < 2147483648) ∧ ((¬ ((((set.toNat >>> number.toNat : Nat) : Int).toNat &&& 1 : Nat) : Int) = 1 → (post false)) ∧ (((((set.toNat >>> number.toNat : Nat) : Int).toNat &&& 1 : Nat) : Int) = 1 → (post true)))))))  : MR l T yX3_has cX3_has 2 (some .boolean) ({ frames := 0, cells := 0, slots := 0, locals := 0 }) [.int (iN set), .int (iN number)] [] (fun v_ => ∃ (b : Bool), v_ = some (.int (bI b)) ∧ post b) := by
  refine MR.start hlt (by decide) (lv0 := [some (.int (iN set)), some (.int (iN number))]) rfl (Nat.le_of_ble_eq_true rfl) rfl ?_
  intro p e R s m args below meth c cx hr hST
  have vc := v0_
  refine g_iload_n (q := 1) cx dX3_has_0 rfl rfl ?_
  refine g_iload_n (q := 2) cx dX3_has_1 rfl rfl ?_
  refine g_ishrZ (q := 3) cx vc.1 vc.2.1 dX3_has_2 rfl ?_
  have vc := vc.2
  have vc := vc.2
  refine g_iconst (q := 4) (v := iN 1) cx dX3_has_3 rfl rfl ?_
  refine g_iandZ (q := 5) cx vc.1 (by decide) dX3_has_4 rfl ?_
  have vc := vc.2
  refine g_iconst (q := 6) (v := iN 1) cx dX3_has_5 rfl rfl ?_
  refine g_icmp_neZ (q := 9) (tg := 13) cx vc.1 (by decide) dX3_has_6 (by decide) rfl (fun h_1 => ?_) (fun h_1 => ?_)
  · have vc := vc.2.1 h_1
    refine g_iconst (q := 14) (v := iN 0) cx dX3_has_13 rfl rfl ?_
    exact g_iretR cx hr (by decide) ⟨false, rfl, vc⟩ dX3_has_14
  · have vc := vc.2.2 h_1
    refine g_iconst (q := 10) (v := iN 1) cx dX3_has_9 rfl rfl ?_
    refine g_goto (q := 14) cx dX3_has_10 (by decide) ?_
    exact g_iretR cx hr (by decide) ⟨true, rfl, vc⟩ dX3_has_14

theorem k_X3_has (l : Launch) (hlt : l.stackTraces = false) (T : GT) (set : Int) (number : Int) (hp0 : 0 ≤ set ∧ set < 2147483648) (hp1 : 0 ≤ number ∧ number < 32) : MR l T yX3_has cX3_has 2 (some .boolean) ({ frames := 0, cells := 0, slots := 0, locals := 0 }) [.int (iN set), .int (iN number)] [] (fun v_ => ∃ (b : Bool), v_ = some (.int (bI b)) ∧ b = (set.toNat.testBit number.toNat)) := by
  refine w_X3_has l hlt T set number _ ?_
  have hd : set.toNat >>> number.toNat ≤ set.toNat := by rw [Nat.shiftRight_eq_div_pow]; exact Nat.div_le_self _ _
  have e : set.toNat.testBit number.toNat = decide ((set.toNat >>> number.toNat) % 2 = 1) := by
    rw [Nat.testBit, Nat.and_comm 1, Nat.and_one_is_mod]
    rcases Nat.mod_two_eq_zero_or_one (set.toNat >>> number.toNat) with g | g <;> rw [g] <;> rfl
  rw [e]
  generalize set.toNat >>> number.toNat = d at hd ⊢
  have hb : (d : Int).toNat &&& 1 = d % 2 := by rw [Int.toNat_natCast, Nat.and_one_is_mod]
  rw [hb]
  refine ⟨hp0, hp1, by omega, by omega, fun h => ?_, fun h => ?_⟩
  · rw [decide_eq_false (by omega)]
  · rw [decide_eq_true (by omega)]
