theorem bI_1 {a : Bool} : bI a = iN 1 ↔ a = true := by cases a <;> decide
theorem bI_z {a : Bool} : bI a = iN 0 ↔ a = false := by cases a <;> decide
theorem shr_1 (x : Nat) : x >>> 1 = x / 2 := by rw [Nat.shiftRight_eq_div_pow]

set_option maxRecDepth 100000 in
set_option maxHeartbeats 4000000 in
theorem w_X3_kindsOf (l : Launch) (hlt : l.stackTraces = false) (T : GT) (mo : Nat) (am : Nat) (ae : Nat) (ap : Nat) (ab : Nat) (aw : Nat) (ac : Nat) (an : Nat) (a0 : Nat) (a1 : Nat) (a2 : Nat) (th : Int) (many : Int) (coins : Int) (pairs : Nat → Int) (set : Int) (cn : Nat) (I4 : Int → Int → Prop) (M4 : Int → Int → g_mu) (post : Int → Prop) (v0_ : I4 0 0) (v4 : ∀ (k : Int) (j : Int), I4 k j → (-2147483648 ≤ j ∧ j < 2147483648) ∧ ((-2147483648 ≤ coins ∧ coins < 2147483648) ∧ ((coins ≤ j → (post k)) ∧ (j < coins → ((0 ≤ set ∧ set < 2147483648) ∧ ((0 ≤ j ∧ j < 32) ∧ (((set.toNat.testBit j.toNat) = false → (I4 k (j + 1) ∧ g_lt (M4 k (j + 1)) (M4 k j))) ∧ ((set.toNat.testBit j.toNat) = true → ((0 ≤ j ∧ j < 9) ∧ ((-2147483648 ≤ (pairs j.toNat) ∧ (pairs j.toNat) < 2147483648) ∧ ((¬ (pairs j.toNat) = 3 → ((0 ≤ j ∧ j < 9) ∧ ((-2147483648 ≤ (pairs j.toNat) ∧ (pairs j.toNat) < 2147483648) ∧ ((¬ (pairs j.toNat) = 1 → ((0 ≤ j ∧ j < 9) ∧ ((-2147483648 ≤ (pairs j.toNat) ∧ (pairs j.toNat) < 2147483648) ∧ ((¬ (pairs j.toNat) = 2 → (I4 (k + 0) (j + 1) ∧ g_lt (M4 (k + 0) (j + 1)) (M4 k j))) ∧ ((pairs j.toNat) = 2 → (I4 (k + 1) (j + 1) ∧ g_lt (M4 (k + 1) (j + 1)) (M4 k j))))))) ∧ ((pairs j.toNat) = 1 → (I4 (k + 10) (j + 1) ∧ g_lt (M4 (k + 10) (j + 1)) (M4 k j))))))) ∧ ((pairs j.toNat) = 3 → (I4 (k + 100) (j + 1) ∧ g_lt (M4 (k + 100) (j + 1)) (M4 k j)))))))))))))) : MR l T yX3_kindsOf cX3_kindsOf 4 (some .int) ({ frames := 1, cells := 0, slots := 0, locals := 21 }) [.ref mo, .int (iN set)] [(mo, .inr (2, [.int (iN th), .ref am, .ref ae, .int (iN many), .ref ap, .ref ab, .ref aw, .int (iN coins), .ref ac, .ref an, .ref a0, .ref a1, .ref a2])), (ac, .inl (T.2.1 0, 9, .inl (zA pairs)))] (fun v_ => ∃ (r : Int), v_ = some (.int (iN r)) ∧ post r) := by
  refine MR.start hlt (by decide) (lv0 := [some (.ref mo), some (.int (iN set)), none, none]) rfl (Nat.le_of_ble_eq_true rfl) rfl ?_
  intro p e R s m args below meth c cx hr hST
  have key : ∀ μ : g_mu, (∀ (k : Int) (j : Int), I4 k j → M4 k j = μ → G p l e R s m args below meth c 4 T (fun _ => False) (fun _ => True) (MQ below (g_Qr (fun v_ => ∃ (r : Int), v_ = some (.int (iN r)) ∧ post r)) args s 0 0 (fun _ => False)) 0 0 [(mo, .inr (2, [.int (iN th), .ref am, .ref ae, .int (iN many), .ref ap, .ref ab, .ref aw, .int (iN coins), .ref ac, .ref an, .ref a0, .ref a1, .ref a2])), (ac, .inl (T.2.1 0, 9, .inl (zA pairs)))] [some (.ref mo), some (.int (iN set)), some (.int (iN k)), some (.int (iN j))] 4 []) := by
    refine g_ind (fun μ ih => ?_)
    · intro k j hI hM
      subst hM
      have vc := v4 k j hI
      refine g_iload_n (q := 5) cx dX3_kindsOf_4 rfl rfl ?_
      refine g_aload_n (q := 6) cx dX3_kindsOf_5 rfl rfl ?_
      refine g_get (q := 9) cx k_cX3 0 rfl 7 (by decide) q1077 (Or.inl rfl) rfl dX3_kindsOf_6 rfl ?_
      refine g_icmp_geZ (q := 12) (tg := 74) cx vc.1 vc.2.1 dX3_kindsOf_9 (by decide) rfl (fun h_1 => ?_) (fun h_1 => ?_)
      · have vc := vc.2.2.1 h_1
        refine g_iload_n (q := 75) cx dX3_kindsOf_74 rfl rfl ?_
        exact g_iretR cx hr rfl ⟨k, rfl, vc⟩ dX3_kindsOf_75
      · have vc := vc.2.2.2 h_1
        refine g_iload_n (q := 13) cx dX3_kindsOf_12 rfl rfl ?_
        refine g_iload_n (q := 14) cx dX3_kindsOf_13 rfl rfl ?_
        refine g_cSr (q := 17) (As := [.int (iN set), .int (iN j)]) (wr := [(mo, .inr (2, [.int (iN th), .ref am, .ref ae, .int (iN many), .ref ap, .ref ab, .ref aw, .int (iN coins), .ref ac, .ref an, .ref a0, .ref a1, .ref a2])), (ac, .inl (T.2.1 0, 9, .inl (zA pairs)))]) (st := []) cx hST (k_X3_has l hlt T set j (vc.1) (vc.2.1)) q1209 s_X3_has rfl g_perm0 (g_rmB rfl) (Nat.le_of_ble_eq_true rfl) dX3_kindsOf_14 rfl (fun v_ hv_ => ?_)
        have vc := vc.2
        have vc := vc.2
        obtain ⟨b_2, rfl, e_3⟩ := hv_
        subst e_3
        refine g_st (st2 := [.int (bI (set.toNat.testBit j.toNat))]) rfl ?_
        refine g_if_eq (q := 20) (tg := 68) cx dX3_kindsOf_17 (by decide) rfl (fun h_4 => ?_) (fun h_4 => ?_)
        · have vc := vc.1 (bI_0.mp h_4)
          refine g_iinc (q := 71) (v := iN (j + 1)) (lv2 := [some (.ref mo), some (.int (iN set)), some (.int (iN k)), some (.int (iN (j + 1)))]) cx dX3_kindsOf_68 rfl (iN_add _ _) (by decide) rfl rfl ?_
          refine g_goto (q := 4) cx dX3_kindsOf_71 (by decide) ?_
          exact (ih _ vc.2) k (j + 1) vc.1 rfl
        · have vc := vc.2 (bI_n0.mp h_4)
          refine g_iload_n (q := 21) cx dX3_kindsOf_20 rfl rfl ?_
          refine g_aload_n (q := 22) cx dX3_kindsOf_21 rfl rfl ?_
          refine g_get (q := 25) cx k_cX3 0 rfl 8 (by decide) q1078 (Or.inl rfl) rfl dX3_kindsOf_22 rfl ?_
          refine g_iload_n (q := 26) cx dX3_kindsOf_25 rfl rfl ?_
          refine g_ialdZ (q := 27) cx 1 (by decide) rfl vc.1 dX3_kindsOf_26 rfl ?_
          have vc := vc.2
          refine g_iconst (q := 28) (v := iN 3) cx dX3_kindsOf_27 rfl rfl ?_
          refine g_icmp_neZ (q := 31) (tg := 36) cx vc.1 (by decide) dX3_kindsOf_28 (by decide) rfl (fun h_5 => ?_) (fun h_5 => ?_)
          · have vc := vc.2.1 h_5
            refine g_aload_n (q := 37) cx dX3_kindsOf_36 rfl rfl ?_
            refine g_get (q := 40) cx k_cX3 0 rfl 8 (by decide) q1078 (Or.inl rfl) rfl dX3_kindsOf_37 rfl ?_
            refine g_iload_n (q := 41) cx dX3_kindsOf_40 rfl rfl ?_
            refine g_ialdZ (q := 42) cx 1 (by decide) rfl vc.1 dX3_kindsOf_41 rfl ?_
            have vc := vc.2
            refine g_iconst (q := 43) (v := iN 1) cx dX3_kindsOf_42 rfl rfl ?_
            refine g_icmp_neZ (q := 46) (tg := 51) cx vc.1 (by decide) dX3_kindsOf_43 (by decide) rfl (fun h_6 => ?_) (fun h_6 => ?_)
            · have vc := vc.2.1 h_6
              refine g_aload_n (q := 52) cx dX3_kindsOf_51 rfl rfl ?_
              refine g_get (q := 55) cx k_cX3 0 rfl 8 (by decide) q1078 (Or.inl rfl) rfl dX3_kindsOf_52 rfl ?_
              refine g_iload_n (q := 56) cx dX3_kindsOf_55 rfl rfl ?_
              refine g_ialdZ (q := 57) cx 1 (by decide) rfl vc.1 dX3_kindsOf_56 rfl ?_
              have vc := vc.2
              refine g_iconst (q := 58) (v := iN 2) cx dX3_kindsOf_57 rfl rfl ?_
              refine g_icmp_neZ (q := 61) (tg := 65) cx vc.1 (by decide) dX3_kindsOf_58 (by decide) rfl (fun h_7 => ?_) (fun h_7 => ?_)
              · have vc := vc.2.1 h_7
                refine g_iconst (q := 66) (v := iN 0) cx dX3_kindsOf_65 rfl rfl ?_
                refine g_iaddZ (q := 67) cx dX3_kindsOf_66 rfl ?_
                refine g_istore_n (q := 68) (lv2 := [some (.ref mo), some (.int (iN set)), some (.int (iN (k + 0))), some (.int (iN j))]) cx dX3_kindsOf_67 rfl (by decide) rfl rfl ?_
                refine g_iinc (q := 71) (v := iN (j + 1)) (lv2 := [some (.ref mo), some (.int (iN set)), some (.int (iN (k + 0))), some (.int (iN (j + 1)))]) cx dX3_kindsOf_68 rfl (iN_add _ _) (by decide) rfl rfl ?_
                refine g_goto (q := 4) cx dX3_kindsOf_71 (by decide) ?_
                exact (ih _ vc.2) (k + 0) (j + 1) vc.1 rfl
              · have vc := vc.2.2 h_7
                refine g_iconst (q := 62) (v := iN 1) cx dX3_kindsOf_61 rfl rfl ?_
                refine g_goto (q := 66) cx dX3_kindsOf_62 (by decide) ?_
                refine g_iaddZ (q := 67) cx dX3_kindsOf_66 rfl ?_
                refine g_istore_n (q := 68) (lv2 := [some (.ref mo), some (.int (iN set)), some (.int (iN (k + 1))), some (.int (iN j))]) cx dX3_kindsOf_67 rfl (by decide) rfl rfl ?_
                refine g_iinc (q := 71) (v := iN (j + 1)) (lv2 := [some (.ref mo), some (.int (iN set)), some (.int (iN (k + 1))), some (.int (iN (j + 1)))]) cx dX3_kindsOf_68 rfl (iN_add _ _) (by decide) rfl rfl ?_
                refine g_goto (q := 4) cx dX3_kindsOf_71 (by decide) ?_
                exact (ih _ vc.2) (k + 1) (j + 1) vc.1 rfl
            · have vc := vc.2.2 h_6
              refine g_bipush (q := 48) (v := iN 10) cx dX3_kindsOf_46 (by decide) rfl ?_
              refine g_goto (q := 66) cx dX3_kindsOf_48 (by decide) ?_
              refine g_iaddZ (q := 67) cx dX3_kindsOf_66 rfl ?_
              refine g_istore_n (q := 68) (lv2 := [some (.ref mo), some (.int (iN set)), some (.int (iN (k + 10))), some (.int (iN j))]) cx dX3_kindsOf_67 rfl (by decide) rfl rfl ?_
              refine g_iinc (q := 71) (v := iN (j + 1)) (lv2 := [some (.ref mo), some (.int (iN set)), some (.int (iN (k + 10))), some (.int (iN (j + 1)))]) cx dX3_kindsOf_68 rfl (iN_add _ _) (by decide) rfl rfl ?_
              refine g_goto (q := 4) cx dX3_kindsOf_71 (by decide) ?_
              exact (ih _ vc.2) (k + 10) (j + 1) vc.1 rfl
          · have vc := vc.2.2 h_5
            refine g_bipush (q := 33) (v := iN 100) cx dX3_kindsOf_31 (by decide) rfl ?_
            refine g_goto (q := 66) cx dX3_kindsOf_33 (by decide) ?_
            refine g_iaddZ (q := 67) cx dX3_kindsOf_66 rfl ?_
            refine g_istore_n (q := 68) (lv2 := [some (.ref mo), some (.int (iN set)), some (.int (iN (k + 100))), some (.int (iN j))]) cx dX3_kindsOf_67 rfl (by decide) rfl rfl ?_
            refine g_iinc (q := 71) (v := iN (j + 1)) (lv2 := [some (.ref mo), some (.int (iN set)), some (.int (iN (k + 100))), some (.int (iN (j + 1)))]) cx dX3_kindsOf_68 rfl (iN_add _ _) (by decide) rfl rfl ?_
            refine g_goto (q := 4) cx dX3_kindsOf_71 (by decide) ?_
            exact (ih _ vc.2) (k + 100) (j + 1) vc.1 rfl
  have vc := v0_
  refine g_iconst (q := 1) (v := iN 0) cx dX3_kindsOf_0 rfl rfl ?_
  refine g_istore_n (q := 2) (lv2 := [some (.ref mo), some (.int (iN set)), some (.int (iN 0)), none]) cx dX3_kindsOf_1 rfl (by decide) rfl rfl ?_
  refine g_iconst (q := 3) (v := iN 0) cx dX3_kindsOf_2 rfl rfl ?_
  refine g_istore_n (q := 4) (lv2 := [some (.ref mo), some (.int (iN set)), some (.int (iN 0)), some (.int (iN 0))]) cx dX3_kindsOf_3 rfl (by decide) rfl rfl ?_
  exact (key _) 0 0 vc rfl

theorem k_X3_kindsOf (l : Launch) (hlt : l.stackTraces = false) (T : GT) (mo : Nat) (am : Nat) (ae : Nat) (ap : Nat) (ab : Nat) (aw : Nat) (ac : Nat) (an : Nat) (a0 : Nat) (a1 : Nat) (a2 : Nat) (th : Int) (many : Int) (coins : Int) (pairs : Nat → Int) (set : Int) (cn : Nat) (hp0 : coins = cn ∧ cn ≤ 9) (hp1 : 0 ≤ set ∧ set < 2147483648) (hp2 : prOK pairs) : MR l T yX3_kindsOf cX3_kindsOf 4 (some .int) ({ frames := 1, cells := 0, slots := 0, locals := 21 }) [.ref mo, .int (iN set)] [(mo, .inr (2, [.int (iN th), .ref am, .ref ae, .int (iN many), .ref ap, .ref ab, .ref aw, .int (iN coins), .ref ac, .ref an, .ref a0, .ref a1, .ref a2])), (ac, .inl (T.2.1 0, 9, .inl (zA pairs)))] (fun v_ => ∃ (r : Int), v_ = some (.int (iN r)) ∧ r = ((kinds pairs set.toNat cn : Nat) : Int)) := by
  refine w_X3_kindsOf l hlt T mo am ae ap ab aw ac an a0 a1 a2 th many coins pairs set cn (I4 := fun k j => ∃ i : Nat, i ≤ cn ∧ j = i ∧ k = ((kinds pairs set.toNat i : Nat) : Int)) (M4 := fun _ j => (0, 0, 0, (9 - j).toNat)) _ ?_ ?_
  · exact ⟨0, by omega, rfl, rfl⟩
  · rintro k j ⟨i, hi, rfl, rfl⟩
    rw [hp0.1]
    refine ⟨by omega, by omega, fun h => ?_, fun h => ⟨hp1, by omega, fun h1 => ?_, fun h1 => ?_⟩⟩
    · rw [show cn = i by omega]
    · rw [Int.toNat_natCast] at h1
      exact ⟨⟨i + 1, by omega, rfl, by rw [kinds_succ, h1]; rfl⟩, g_ltI (by omega)⟩
    · rw [Int.toNat_natCast] at h1 ⊢
      have hr := hp2 i (by omega)
      have st := kinds_succ pairs set.toNat i
      rw [h1, if_pos rfl] at st
      refine ⟨by omega, by omega, fun h2 => ⟨by omega, by omega, fun h3 => ⟨by omega, by omega, fun h4 => ⟨⟨i + 1, by omega, rfl, ?_⟩, g_ltI (by omega)⟩, fun h4 => ⟨⟨i + 1, by omega, rfl, ?_⟩, g_ltI (by omega)⟩⟩, fun h3 => ⟨⟨i + 1, by omega, rfl, ?_⟩, g_ltI (by omega)⟩⟩, fun h2 => ⟨⟨i + 1, by omega, rfl, ?_⟩, g_ltI (by omega)⟩⟩
      · rw [st, if_neg h2, if_neg h3, if_neg h4]; omega
      · rw [st, if_neg h2, if_neg h3, if_pos h4]; omega
      · rw [st, if_neg h2, if_pos h3]; omega
      · rw [st, if_pos h2]; omega

set_option maxRecDepth 100000 in
set_option maxHeartbeats 4000000 in
theorem w_X3_all (l : Launch) (hlt : l.stackTraces = false) (T : GT) (mo : Nat) (am : Nat) (ae : Nat) (ap : Nat) (ab : Nat) (aw : Nat) (ac : Nat) (an : Nat) (a0 : Nat) (a1 : Nat) (a2 : Nat) (th : Int) (many : Int) (coins : Int) (cn : Nat)  (post : Int → Prop) (v0_ : (0 ≤ (1 : Int) ∧ (1 : Int) * 2 ^ coins.toNat < 2147483648) ∧ ((0 ≤ coins ∧ coins < 32) ∧ (post (((1 : Int) * 2 ^ coins.toNat) - 1))))  : MR l T yX3_all cX3_all 1 (some .int) ({ frames := 0, cells := 0, slots := 0, locals := 0 }) [.ref mo] [(mo, .inr (2, [.int (iN th), .ref am, .ref ae, .int (iN many), .ref ap, .ref ab, .ref aw, .int (iN coins), .ref ac, .ref an, .ref a0, .ref a1, .ref a2]))] (fun v_ => ∃ (r : Int), v_ = some (.int (iN r)) ∧ post r) := by
  refine MR.start hlt (by decide) (lv0 := [some (.ref mo)]) rfl (Nat.le_of_ble_eq_true rfl) rfl ?_
  intro p e R s m args below meth c cx hr hST
  have vc := v0_
  refine g_iconst (q := 1) (v := iN 1) cx dX3_all_0 rfl rfl ?_
  refine g_aload_n (q := 2) cx dX3_all_1 rfl rfl ?_
  refine g_get (q := 5) cx k_cX3 0 rfl 7 (by decide) q1077 (Or.inl rfl) rfl dX3_all_2 rfl ?_
  refine g_ishlZ (q := 6) cx vc.1 vc.2.1 dX3_all_5 rfl ?_
  have vc := vc.2
  have vc := vc.2
  refine g_iconst (q := 7) (v := iN 1) cx dX3_all_6 rfl rfl ?_
  refine g_isubZ (q := 8) cx dX3_all_7 rfl ?_
  exact g_iretR cx hr rfl ⟨(((1 : Int) * 2 ^ coins.toNat) - 1), rfl, vc⟩ dX3_all_8

theorem k_X3_all (l : Launch) (hlt : l.stackTraces = false) (T : GT) (mo : Nat) (am : Nat) (ae : Nat) (ap : Nat) (ab : Nat) (aw : Nat) (ac : Nat) (an : Nat) (a0 : Nat) (a1 : Nat) (a2 : Nat) (th : Int) (many : Int) (coins : Int) (cn : Nat) (hp0 : coins = cn ∧ cn ≤ 9) : MR l T yX3_all cX3_all 1 (some .int) ({ frames := 0, cells := 0, slots := 0, locals := 0 }) [.ref mo] [(mo, .inr (2, [.int (iN th), .ref am, .ref ae, .int (iN many), .ref ap, .ref ab, .ref aw, .int (iN coins), .ref ac, .ref an, .ref a0, .ref a1, .ref a2]))] (fun v_ => ∃ (r : Int), v_ = some (.int (iN r)) ∧ r = ((2 ^ cn - 1 : Nat) : Int)) := by
  refine w_X3_all l hlt T mo am ae ap ab aw ac an a0 a1 a2 th many coins cn _ ?_
  have h := pow2_9 hp0.2
  rw [hp0.1, Int.toNat_natCast]
  rw [show (1 : Int) * 2 ^ cn = ((2 ^ cn : Nat) : Int) by rw [Int.one_mul, Int.natCast_pow]; rfl]
  exact ⟨by omega, by omega, by omega⟩

set_option maxRecDepth 100000 in
set_option maxHeartbeats 4000000 in
theorem w_X3_need (l : Launch) (hlt : l.stackTraces = false) (T : GT) (mo : Nat) (am : Nat) (ae : Nat) (ap : Nat) (ab : Nat) (aw : Nat) (ac : Nat) (an : Nat) (a0 : Nat) (a1 : Nat) (a2 : Nat) (th : Int) (many : Int) (coins : Int) (pairs : Nat → Int) (needs : Nat → Int) (cn : Nat)  (post : Int → Prop) (v0_ : (coins = cn ∧ cn ≤ 9) ∧ ((coins = cn ∧ cn ≤ 9) ∧ ((0 ≤ ((2 ^ cn - 1 : Nat) : Int) ∧ ((2 ^ cn - 1 : Nat) : Int) < 2147483648) ∧ ((prOK pairs) ∧ ((0 ≤ ((kinds pairs ((2 ^ cn - 1 : Nat) : Int).toNat cn : Nat) : Int) ∧ ((kinds pairs ((2 ^ cn - 1 : Nat) : Int).toNat cn : Nat) : Int) < 1000) ∧ (post (needs ((kinds pairs ((2 ^ cn - 1 : Nat) : Int).toNat cn : Nat) : Int).toNat)))))))  : MR l T yX3_need cX3_need 1 (some .int) ({ frames := 2, cells := 0, slots := 0, locals := 44 }) [.ref mo] [(mo, .inr (2, [.int (iN th), .ref am, .ref ae, .int (iN many), .ref ap, .ref ab, .ref aw, .int (iN coins), .ref ac, .ref an, .ref a0, .ref a1, .ref a2])), (ac, .inl (T.2.1 0, 9, .inl (zA pairs))), (an, .inl (T.2.1 0, 1000, .inl (zA needs)))] (fun v_ => ∃ (r : Int), v_ = some (.int (iN r)) ∧ post r) := by
  refine MR.start hlt (by decide) (lv0 := [some (.ref mo)]) rfl (Nat.le_of_ble_eq_true rfl) rfl ?_
  intro p e R s m args below meth c cx hr hST
  have vc := v0_
  refine g_aload_n (q := 1) cx dX3_need_0 rfl rfl ?_
  refine g_get (q := 4) cx k_cX3 0 rfl 9 (by decide) q1079 (Or.inl rfl) rfl dX3_need_1 rfl ?_
  refine g_aload_n (q := 5) cx dX3_need_4 rfl rfl ?_
  refine g_aload_n (q := 6) cx dX3_need_5 rfl rfl ?_
  refine g_cVr (q := 9) (b := mo) (As := []) (wr := [(ac, .inl (T.2.1 0, 9, .inl (zA pairs))), (an, .inl (T.2.1 0, 1000, .inl (zA needs)))]) (st := [.ref mo, .ref an]) cx hST (k_X3_all l hlt T mo am ae ap ab aw ac an a0 a1 a2 th many coins cn (vc.1)) q1243 s_X3_all rfl 0 rfl rfl (g_perm [1, 2, 0] rfl rfl) (g_rmB rfl) (Nat.le_of_ble_eq_true rfl) dX3_need_6 rfl (fun v_ hv_ => ?_)
  have vc := vc.2
  obtain ⟨r_1, rfl, e_2⟩ := hv_
  subst e_2
  refine g_st (st2 := [.int (iN ((2 ^ cn - 1 : Nat) : Int)), .ref mo, .ref an]) rfl ?_
  refine g_cVr (q := 12) (b := mo) (As := [.int (iN ((2 ^ cn - 1 : Nat) : Int))]) (wr := [(an, .inl (T.2.1 0, 1000, .inl (zA needs)))]) (st := [.ref an]) cx hST (k_X3_kindsOf l hlt T mo am ae ap ab aw ac an a0 a1 a2 th many coins pairs ((2 ^ cn - 1 : Nat) : Int) cn (vc.1) (vc.2.1) (vc.2.2.1)) q1247 s_X3_kindsOf rfl 0 rfl rfl (g_perm [2, 0, 1] rfl rfl) (g_rmB rfl) (Nat.le_of_ble_eq_true rfl) dX3_need_9 rfl (fun v_ hv_ => ?_)
  have vc := vc.2
  have vc := vc.2
  have vc := vc.2
  obtain ⟨r_3, rfl, e_4⟩ := hv_
  subst e_4
  refine g_st (st2 := [.int (iN ((kinds pairs ((2 ^ cn - 1 : Nat) : Int).toNat cn : Nat) : Int)), .ref an]) rfl ?_
  refine g_ialdZ (q := 13) cx 2 (by decide) rfl vc.1 dX3_need_12 rfl ?_
  have vc := vc.2
  exact g_iretR cx hr rfl ⟨(needs ((kinds pairs ((2 ^ cn - 1 : Nat) : Int).toNat cn : Nat) : Int).toNat), rfl, vc⟩ dX3_need_13

theorem k_X3_need (l : Launch) (hlt : l.stackTraces = false) (T : GT) (mo : Nat) (am : Nat) (ae : Nat) (ap : Nat) (ab : Nat) (aw : Nat) (ac : Nat) (an : Nat) (a0 : Nat) (a1 : Nat) (a2 : Nat) (th : Int) (many : Int) (coins : Int) (pairs : Nat → Int) (needs : Nat → Int) (cn : Nat) (hp0 : coins = cn ∧ cn ≤ 9) (hp1 : prOK pairs) : MR l T yX3_need cX3_need 1 (some .int) ({ frames := 2, cells := 0, slots := 0, locals := 44 }) [.ref mo] [(mo, .inr (2, [.int (iN th), .ref am, .ref ae, .int (iN many), .ref ap, .ref ab, .ref aw, .int (iN coins), .ref ac, .ref an, .ref a0, .ref a1, .ref a2])), (ac, .inl (T.2.1 0, 9, .inl (zA pairs))), (an, .inl (T.2.1 0, 1000, .inl (zA needs)))] (fun v_ => ∃ (r : Int), v_ = some (.int (iN r)) ∧ r = (needs (kinds pairs (2 ^ cn - 1) cn))) := by
  have h := pow2_9 hp0.2
  have h2 := (kinds_dig pairs (2 ^ cn - 1) cn hp0.2).1
  refine w_X3_need l hlt T mo am ae ap ab aw ac an a0 a1 a2 th many coins pairs needs cn _ ?_
  rw [Int.toNat_natCast, Int.toNat_natCast]
  exact ⟨hp0, hp0, by omega, hp1, by omega, rfl⟩

set_option maxRecDepth 100000 in
set_option maxHeartbeats 4000000 in
theorem w_X3_possibleMany (l : Launch) (hlt : l.stackTraces = false) (T : GT) (mo : Nat) (am : Nat) (ae : Nat) (ap : Nat) (ab : Nat) (aw : Nat) (ac : Nat) (an : Nat) (a0 : Nat) (a1 : Nat) (a2 : Nat) (th : Int) (many : Int) (coins : Int) (pairs : Nat → Int) (cn : Nat) (I4 : Int → Int → Prop) (M4 : Int → Int → g_mu) (post : Int → Prop) (v0_ : I4 0 0) (v4 : ∀ (k : Int) (j : Int), I4 k j → (-2147483648 ≤ j ∧ j < 2147483648) ∧ ((-2147483648 ≤ coins ∧ coins < 2147483648) ∧ ((coins ≤ j → (post k)) ∧ (j < coins → ((0 ≤ j ∧ j < 9) ∧ ((0 ≤ (pairs j.toNat) ∧ (pairs j.toNat) < 2147483648) ∧ ((0 ≤ j ∧ j < 9) ∧ ((0 ≤ (pairs j.toNat) ∧ (pairs j.toNat) < 2147483648) ∧ (I4 (k + ((((pairs j.toNat).toNat &&& 1 : Nat) : Int) + (((pairs j.toNat).toNat >>> 1 : Nat) : Int))) (j + 1) ∧ g_lt (M4 (k + ((((pairs j.toNat).toNat &&& 1 : Nat) : Int) + (((pairs j.toNat).toNat >>> 1 : Nat) : Int))) (j + 1)) (M4 k j)))))))))) : MR l T yX3_possibleMany cX3_possibleMany 3 (some .int) ({ frames := 0, cells := 0, slots := 0, locals := 0 }) [.ref mo] [(mo, .inr (2, [.int (iN th), .ref am, .ref ae, .int (iN many), .ref ap, .ref ab, .ref aw, .int (iN coins), .ref ac, .ref an, .ref a0, .ref a1, .ref a2])), (ac, .inl (T.2.1 0, 9, .inl (zA pairs)))] (fun v_ => ∃ (r : Int), v_ = some (.int (iN r)) ∧ post r) := by
  refine MR.start hlt (by decide) (lv0 := [some (.ref mo), none, none]) rfl (Nat.le_of_ble_eq_true rfl) rfl ?_
  intro p e R s m args below meth c cx hr hST
  have key : ∀ μ : g_mu, (∀ (k : Int) (j : Int), I4 k j → M4 k j = μ → G p l e R s m args below meth c 3 T (fun _ => False) (fun _ => True) (MQ below (g_Qr (fun v_ => ∃ (r : Int), v_ = some (.int (iN r)) ∧ post r)) args s 0 0 (fun _ => False)) 0 0 [(mo, .inr (2, [.int (iN th), .ref am, .ref ae, .int (iN many), .ref ap, .ref ab, .ref aw, .int (iN coins), .ref ac, .ref an, .ref a0, .ref a1, .ref a2])), (ac, .inl (T.2.1 0, 9, .inl (zA pairs)))] [some (.ref mo), some (.int (iN k)), some (.int (iN j))] 4 []) := by
    refine g_ind (fun μ ih => ?_)
    · intro k j hI hM
      subst hM
      have vc := v4 k j hI
      refine g_iload_n (q := 5) cx dX3_possibleMany_4 rfl rfl ?_
      refine g_aload_n (q := 6) cx dX3_possibleMany_5 rfl rfl ?_
      refine g_get (q := 9) cx k_cX3 0 rfl 7 (by decide) q1077 (Or.inl rfl) rfl dX3_possibleMany_6 rfl ?_
      refine g_icmp_geZ (q := 12) (tg := 38) cx vc.1 vc.2.1 dX3_possibleMany_9 (by decide) rfl (fun h_1 => ?_) (fun h_1 => ?_)
      · have vc := vc.2.2.1 h_1
        refine g_iload_n (q := 39) cx dX3_possibleMany_38 rfl rfl ?_
        exact g_iretR cx hr rfl ⟨k, rfl, vc⟩ dX3_possibleMany_39
      · have vc := vc.2.2.2 h_1
        refine g_iload_n (q := 13) cx dX3_possibleMany_12 rfl rfl ?_
        refine g_aload_n (q := 14) cx dX3_possibleMany_13 rfl rfl ?_
        refine g_get (q := 17) cx k_cX3 0 rfl 8 (by decide) q1078 (Or.inl rfl) rfl dX3_possibleMany_14 rfl ?_
        refine g_iload_n (q := 18) cx dX3_possibleMany_17 rfl rfl ?_
        refine g_ialdZ (q := 19) cx 1 (by decide) rfl vc.1 dX3_possibleMany_18 rfl ?_
        have vc := vc.2
        refine g_iconst (q := 20) (v := iN 1) cx dX3_possibleMany_19 rfl rfl ?_
        refine g_iandZ (q := 21) cx vc.1 (by decide) dX3_possibleMany_20 rfl ?_
        have vc := vc.2
        refine g_aload_n (q := 22) cx dX3_possibleMany_21 rfl rfl ?_
        refine g_get (q := 25) cx k_cX3 0 rfl 8 (by decide) q1078 (Or.inl rfl) rfl dX3_possibleMany_22 rfl ?_
        refine g_iload_n (q := 26) cx dX3_possibleMany_25 rfl rfl ?_
        refine g_ialdZ (q := 27) cx 1 (by decide) rfl vc.1 dX3_possibleMany_26 rfl ?_
        have vc := vc.2
        refine g_iconst (q := 28) (v := iN 1) cx dX3_possibleMany_27 rfl rfl ?_
        refine g_ishrZ (q := 29) cx vc.1 (by decide) dX3_possibleMany_28 rfl ?_
        have vc := vc.2
        refine g_iaddZ (q := 30) cx dX3_possibleMany_29 rfl ?_
        refine g_iaddZ (q := 31) cx dX3_possibleMany_30 rfl ?_
        refine g_istore_n (q := 32) (lv2 := [some (.ref mo), some (.int (iN (k + ((((pairs j.toNat).toNat &&& 1 : Nat) : Int) + (((pairs j.toNat).toNat >>> 1 : Nat) : Int))))), some (.int (iN j))]) cx dX3_possibleMany_31 rfl (by decide) rfl rfl ?_
        refine g_iinc (q := 35) (v := iN (j + 1)) (lv2 := [some (.ref mo), some (.int (iN (k + ((((pairs j.toNat).toNat &&& 1 : Nat) : Int) + (((pairs j.toNat).toNat >>> 1 : Nat) : Int))))), some (.int (iN (j + 1)))]) cx dX3_possibleMany_32 rfl (iN_add _ _) (by decide) rfl rfl ?_
        refine g_goto (q := 4) cx dX3_possibleMany_35 (by decide) ?_
        exact (ih _ vc.2) (k + ((((pairs j.toNat).toNat &&& 1 : Nat) : Int) + (((pairs j.toNat).toNat >>> 1 : Nat) : Int))) (j + 1) vc.1 rfl
  have vc := v0_
  refine g_iconst (q := 1) (v := iN 0) cx dX3_possibleMany_0 rfl rfl ?_
  refine g_istore_n (q := 2) (lv2 := [some (.ref mo), some (.int (iN 0)), none]) cx dX3_possibleMany_1 rfl (by decide) rfl rfl ?_
  refine g_iconst (q := 3) (v := iN 0) cx dX3_possibleMany_2 rfl rfl ?_
  refine g_istore_n (q := 4) (lv2 := [some (.ref mo), some (.int (iN 0)), some (.int (iN 0))]) cx dX3_possibleMany_3 rfl (by decide) rfl rfl ?_
  exact (key _) 0 0 vc rfl

theorem k_X3_possibleMany (l : Launch) (hlt : l.stackTraces = false) (T : GT) (mo : Nat) (am : Nat) (ae : Nat) (ap : Nat) (ab : Nat) (aw : Nat) (ac : Nat) (an : Nat) (a0 : Nat) (a1 : Nat) (a2 : Nat) (th : Int) (many : Int) (coins : Int) (pairs : Nat → Int) (cn : Nat) (hp0 : coins = cn ∧ cn ≤ 9) (hp1 : prOK pairs) : MR l T yX3_possibleMany cX3_possibleMany 3 (some .int) ({ frames := 0, cells := 0, slots := 0, locals := 0 }) [.ref mo] [(mo, .inr (2, [.int (iN th), .ref am, .ref ae, .int (iN many), .ref ap, .ref ab, .ref aw, .int (iN coins), .ref ac, .ref an, .ref a0, .ref a1, .ref a2])), (ac, .inl (T.2.1 0, 9, .inl (zA pairs)))] (fun v_ => ∃ (r : Int), v_ = some (.int (iN r)) ∧ r = ((pmN pairs cn : Nat) : Int)) := by
  refine w_X3_possibleMany l hlt T mo am ae ap ab aw ac an a0 a1 a2 th many coins pairs cn (I4 := fun k j => ∃ i : Nat, i ≤ cn ∧ j = i ∧ k = ((pmN pairs i : Nat) : Int)) (M4 := fun _ j => (0, 0, 0, (9 - j).toNat)) _ ?_ ?_
  · exact ⟨0, by omega, rfl, rfl⟩
  · rintro k j ⟨i, hi, rfl, rfl⟩
    rw [hp0.1]
    refine ⟨by omega, by omega, fun h => ?_, fun h => ?_⟩
    · rw [show cn = i by omega]
    · have hr := hp1 i (by omega)
      simp only [Int.toNat_natCast]
      refine ⟨by omega, by omega, by omega, by omega, ⟨i + 1, by omega, rfl, ?_⟩, g_ltI (by omega)⟩
      rw [Nat.and_one_is_mod, shr_1, show pmN pairs (i + 1) = pmN pairs i + pm1 (pairs i) from rfl, pm1]
      omega

set_option maxRecDepth 100000 in
set_option maxHeartbeats 4000000 in
theorem w_X3_isWeighing (l : Launch) (hlt : l.stackTraces = false) (T : GT) (mo : Nat) (am : Nat) (ae : Nat) (ap : Nat) (ab : Nat) (aw : Nat) (ac : Nat) (an : Nat) (a0 : Nat) (a1 : Nat) (a2 : Nat) (th : Int) (many : Int) (coins : Int) (cn : Nat) (left : Int) (right : Int)  (post : Bool → Prop) (v0_ : (-2147483648 ≤ left ∧ left < 2147483648) ∧ ((left ≤ 0 → (post false)) ∧ (0 < left → ((-2147483648 ≤ right ∧ right < 2147483648) ∧ ((right ≤ 0 → (post false)) ∧ (0 < right → ((0 ≤ left ∧ left < 2147483648) ∧ ((0 ≤ right ∧ right < 2147483648) ∧ ((coins = cn ∧ cn ≤ 9) ∧ ((-2147483648 ≤ ((left.toNat ||| right.toNat : Nat) : Int) ∧ ((left.toNat ||| right.toNat : Nat) : Int) < 2147483648) ∧ ((-2147483648 ≤ ((2 ^ cn - 1 : Nat) : Int) ∧ ((2 ^ cn - 1 : Nat) : Int) < 2147483648) ∧ ((((2 ^ cn - 1 : Nat) : Int) < ((left.toNat ||| right.toNat : Nat) : Int) → (post false)) ∧ (((left.toNat ||| right.toNat : Nat) : Int) ≤ ((2 ^ cn - 1 : Nat) : Int) → ((0 ≤ left ∧ left < 2147483648) ∧ ((0 ≤ right ∧ right < 2147483648) ∧ ((-2147483648 ≤ ((left.toNat &&& right.toNat : Nat) : Int) ∧ ((left.toNat &&& right.toNat : Nat) : Int) < 2147483648) ∧ ((¬ ((left.toNat &&& right.toNat : Nat) : Int) = 0 → (post false)) ∧ (((left.toNat &&& right.toNat : Nat) : Int) = 0 → ((0 ≤ left ∧ left < 2147483648) ∧ ((0 ≤ right ∧ right < 2147483648) ∧ ((-2147483648 ≤ ((bits9 left.toNat : Nat) : Int) ∧ ((bits9 left.toNat : Nat) : Int) < 2147483648) ∧ ((-2147483648 ≤ ((bits9 right.toNat : Nat) : Int) ∧ ((bits9 right.toNat : Nat) : Int) < 2147483648) ∧ ((¬ ((bits9 left.toNat : Nat) : Int) = ((bits9 right.toNat : Nat) : Int) → (post false)) ∧ (((bits9 left.toNat : Nat) : Int) = ((bits9 right.toNat : Nat) : Int) → (post true)))))))))))))))))))))))))  : MR l T yX3_isWeighing cX3_isWeighing 4 (some .boolean) ({ frames := 1, cells := 0, slots := 0, locals := 22 }) [.ref mo, .int (iN left), .int (iN right)] [(mo, .inr (2, [.int (iN th), .ref am, .ref ae, .int (iN many), .ref ap, .ref ab, .ref aw, .int (iN coins), .ref ac, .ref an, .ref a0, .ref a1, .ref a2]))] (fun v_ => ∃ (b2 : Bool), v_ = some (.int (bI b2)) ∧ post b2) := by
  refine MR.start hlt (by decide) (lv0 := [some (.ref mo), some (.int (iN left)), some (.int (iN right)), none]) rfl (Nat.le_of_ble_eq_true rfl) rfl ?_
  intro p e R s m args below meth c cx hr hST
  have vc := v0_
  refine g_iload_n (q := 1) cx dX3_isWeighing_0 rfl rfl ?_
  refine g_if_leZ (q := 4) (tg := 22) cx vc.1 dX3_isWeighing_1 (by decide) rfl (fun h_1 => ?_) (fun h_1 => ?_)
  · have vc := vc.2.1 h_1
    refine g_iconst (q := 23) (v := iN 0) cx dX3_isWeighing_22 rfl rfl ?_
    refine g_istore_n (q := 24) (lv2 := [some (.ref mo), some (.int (iN left)), some (.int (iN right)), some (.int (iN 0))]) cx dX3_isWeighing_23 rfl (by decide) rfl rfl ?_
    refine g_iload_n (q := 25) cx dX3_isWeighing_24 rfl rfl ?_
    refine g_if_eq (q := 28) (tg := 49) cx dX3_isWeighing_25 (by decide) rfl (fun _ => ?_) (fun h => absurd h (by decide))
    refine g_iconst (q := 50) (v := iN 0) cx dX3_isWeighing_49 rfl rfl ?_
    exact g_iretR cx hr (by decide) ⟨false, rfl, vc⟩ dX3_isWeighing_50
  · have vc := vc.2.2 h_1
    refine g_iload_n (q := 5) cx dX3_isWeighing_4 rfl rfl ?_
    refine g_if_leZ (q := 8) (tg := 22) cx vc.1 dX3_isWeighing_5 (by decide) rfl (fun h_2 => ?_) (fun h_2 => ?_)
    · have vc := vc.2.1 h_2
      refine g_iconst (q := 23) (v := iN 0) cx dX3_isWeighing_22 rfl rfl ?_
      refine g_istore_n (q := 24) (lv2 := [some (.ref mo), some (.int (iN left)), some (.int (iN right)), some (.int (iN 0))]) cx dX3_isWeighing_23 rfl (by decide) rfl rfl ?_
      refine g_iload_n (q := 25) cx dX3_isWeighing_24 rfl rfl ?_
      refine g_if_eq (q := 28) (tg := 49) cx dX3_isWeighing_25 (by decide) rfl (fun _ => ?_) (fun h => absurd h (by decide))
      refine g_iconst (q := 50) (v := iN 0) cx dX3_isWeighing_49 rfl rfl ?_
      exact g_iretR cx hr (by decide) ⟨false, rfl, vc⟩ dX3_isWeighing_50
    · have vc := vc.2.2 h_2
      refine g_iload_n (q := 9) cx dX3_isWeighing_8 rfl rfl ?_
      refine g_iload_n (q := 10) cx dX3_isWeighing_9 rfl rfl ?_
      refine g_iorZ (q := 11) cx vc.1 vc.2.1 dX3_isWeighing_10 rfl ?_
      have vc := vc.2
      have vc := vc.2
      refine g_aload_n (q := 12) cx dX3_isWeighing_11 rfl rfl ?_
      refine g_cVr (q := 15) (b := mo) (As := []) (wr := []) (st := [.int (iN ((left.toNat ||| right.toNat : Nat) : Int))]) cx hST (k_X3_all l hlt T mo am ae ap ab aw ac an a0 a1 a2 th many coins cn (vc.1)) q1243 s_X3_all rfl 0 rfl rfl g_perm1 (g_rmB rfl) (Nat.le_of_ble_eq_true rfl) dX3_isWeighing_12 rfl (fun v_ hv_ => ?_)
      have vc := vc.2
      obtain ⟨r_3, rfl, e_4⟩ := hv_
      subst e_4
      refine g_st (st2 := [.int (iN ((2 ^ cn - 1 : Nat) : Int)), .int (iN ((left.toNat ||| right.toNat : Nat) : Int))]) rfl ?_
      refine g_icmp_gtZ (q := 18) (tg := 22) cx vc.1 vc.2.1 dX3_isWeighing_15 (by decide) rfl (fun h_5 => ?_) (fun h_5 => ?_)
      · have vc := vc.2.2.1 h_5
        refine g_iconst (q := 23) (v := iN 0) cx dX3_isWeighing_22 rfl rfl ?_
        refine g_istore_n (q := 24) (lv2 := [some (.ref mo), some (.int (iN left)), some (.int (iN right)), some (.int (iN 0))]) cx dX3_isWeighing_23 rfl (by decide) rfl rfl ?_
        refine g_iload_n (q := 25) cx dX3_isWeighing_24 rfl rfl ?_
        refine g_if_eq (q := 28) (tg := 49) cx dX3_isWeighing_25 (by decide) rfl (fun _ => ?_) (fun h => absurd h (by decide))
        refine g_iconst (q := 50) (v := iN 0) cx dX3_isWeighing_49 rfl rfl ?_
        exact g_iretR cx hr (by decide) ⟨false, rfl, vc⟩ dX3_isWeighing_50
      · have vc := vc.2.2.2 h_5
        refine g_iconst (q := 19) (v := iN 1) cx dX3_isWeighing_18 rfl rfl ?_
        refine g_goto (q := 23) cx dX3_isWeighing_19 (by decide) ?_
        refine g_istore_n (q := 24) (lv2 := [some (.ref mo), some (.int (iN left)), some (.int (iN right)), some (.int (iN 1))]) cx dX3_isWeighing_23 rfl (by decide) rfl rfl ?_
        refine g_iload_n (q := 25) cx dX3_isWeighing_24 rfl rfl ?_
        refine g_if_eq (q := 28) (tg := 49) cx dX3_isWeighing_25 (by decide) rfl (fun h => absurd h (by decide)) (fun _ => ?_)
        refine g_iload_n (q := 29) cx dX3_isWeighing_28 rfl rfl ?_
        refine g_iload_n (q := 30) cx dX3_isWeighing_29 rfl rfl ?_
        refine g_iandZ (q := 31) cx vc.1 vc.2.1 dX3_isWeighing_30 rfl ?_
        have vc := vc.2
        have vc := vc.2
        refine g_if_neZ (q := 34) (tg := 49) cx vc.1 dX3_isWeighing_31 (by decide) rfl (fun h_6 => ?_) (fun h_6 => ?_)
        · have vc := vc.2.1 h_6
          refine g_iconst (q := 50) (v := iN 0) cx dX3_isWeighing_49 rfl rfl ?_
          exact g_iretR cx hr (by decide) ⟨false, rfl, vc⟩ dX3_isWeighing_50
        · have vc := vc.2.2 h_6
          refine g_iload_n (q := 35) cx dX3_isWeighing_34 rfl rfl ?_
          refine g_cSr (q := 38) (As := [.int (iN left)]) (wr := [(mo, .inr (2, [.int (iN th), .ref am, .ref ae, .int (iN many), .ref ap, .ref ab, .ref aw, .int (iN coins), .ref ac, .ref an, .ref a0, .ref a1, .ref a2]))]) (st := []) cx hST (k_X3_bitsOf l hlt T left (vc.1)) q1228 s_X3_bitsOf rfl g_perm0 (g_rmB rfl) (Nat.le_of_ble_eq_true rfl) dX3_isWeighing_35 rfl (fun v_ hv_ => ?_)
          have vc := vc.2
          obtain ⟨r_7, rfl, e_8⟩ := hv_
          subst e_8
          refine g_st (st2 := [.int (iN ((bits9 left.toNat : Nat) : Int))]) rfl ?_
          refine g_iload_n (q := 39) cx dX3_isWeighing_38 rfl rfl ?_
          refine g_cSr (q := 42) (As := [.int (iN right)]) (wr := [(mo, .inr (2, [.int (iN th), .ref am, .ref ae, .int (iN many), .ref ap, .ref ab, .ref aw, .int (iN coins), .ref ac, .ref an, .ref a0, .ref a1, .ref a2]))]) (st := [.int (iN ((bits9 left.toNat : Nat) : Int))]) cx hST (k_X3_bitsOf l hlt T right (vc.1)) q1228 s_X3_bitsOf rfl g_perm0 (g_rmB rfl) (Nat.le_of_ble_eq_true rfl) dX3_isWeighing_39 rfl (fun v_ hv_ => ?_)
          have vc := vc.2
          obtain ⟨r_9, rfl, e_10⟩ := hv_
          subst e_10
          refine g_st (st2 := [.int (iN ((bits9 right.toNat : Nat) : Int)), .int (iN ((bits9 left.toNat : Nat) : Int))]) rfl ?_
          refine g_icmp_neZ (q := 45) (tg := 49) cx vc.1 vc.2.1 dX3_isWeighing_42 (by decide) rfl (fun h_11 => ?_) (fun h_11 => ?_)
          · have vc := vc.2.2.1 h_11
            refine g_iconst (q := 50) (v := iN 0) cx dX3_isWeighing_49 rfl rfl ?_
            exact g_iretR cx hr (by decide) ⟨false, rfl, vc⟩ dX3_isWeighing_50
          · have vc := vc.2.2.2 h_11
            refine g_iconst (q := 46) (v := iN 1) cx dX3_isWeighing_45 rfl rfl ?_
            refine g_goto (q := 50) cx dX3_isWeighing_46 (by decide) ?_
            exact g_iretR cx hr (by decide) ⟨true, rfl, vc⟩ dX3_isWeighing_50

theorem k_X3_isWeighing (l : Launch) (hlt : l.stackTraces = false) (T : GT) (mo : Nat) (am : Nat) (ae : Nat) (ap : Nat) (ab : Nat) (aw : Nat) (ac : Nat) (an : Nat) (a0 : Nat) (a1 : Nat) (a2 : Nat) (th : Int) (many : Int) (coins : Int) (cn : Nat) (left : Int) (right : Int) (hp0 : coins = cn ∧ cn ≤ 9) (hp1 : -2147483648 ≤ left ∧ left < 2147483648) (hp2 : -2147483648 ≤ right ∧ right < 2147483648) : MR l T yX3_isWeighing cX3_isWeighing 4 (some .boolean) ({ frames := 1, cells := 0, slots := 0, locals := 22 }) [.ref mo, .int (iN left), .int (iN right)] [(mo, .inr (2, [.int (iN th), .ref am, .ref ae, .int (iN many), .ref ap, .ref ab, .ref aw, .int (iN coins), .ref ac, .ref an, .ref a0, .ref a1, .ref a2]))] (fun v_ => ∃ (b2 : Bool), v_ = some (.int (bI b2)) ∧ b2 = (isWF cn left right)) := by
  refine w_X3_isWeighing l hlt T mo am ae ap ab aw ac an a0 a1 a2 th many coins cn left right _ ?_
  have h9 := pow2_9 hp0.2
  have hf : ¬ (0 < left ∧ 0 < right ∧ (left.toNat ||| right.toNat) ≤ 2 ^ cn - 1 ∧ left.toNat &&& right.toNat = 0 ∧ bits9 left.toNat = bits9 right.toNat) → isWF cn left right = false := fun h => decide_eq_false h
  have ht : (0 < left ∧ 0 < right ∧ (left.toNat ||| right.toNat) ≤ 2 ^ cn - 1 ∧ left.toNat &&& right.toNat = 0 ∧ bits9 left.toNat = bits9 right.toNat) → isWF cn left right = true := fun h => decide_eq_true h
  have ho : (0 ≤ left → 0 ≤ right → left.toNat ||| right.toNat < 2147483648) := fun h1 h2 => Nat.or_lt_two_pow (n := 31) (by omega) (by omega)
  have b1 : bits9 left.toNat ≤ 9 := cntB_le _ _
  have b2 : bits9 right.toNat ≤ 9 := cntB_le _ _
  have ha : left.toNat &&& right.toNat ≤ left.toNat := Nat.and_le_left
  generalize hx : left.toNat ||| right.toNat = xo at *
  generalize hy : left.toNat &&& right.toNat = xa at *
  generalize bits9 left.toNat = p1 at *
  generalize bits9 right.toNat = p2 at *
  refine ⟨hp1, fun h1 => ?_, fun h1 => ⟨hp2, fun h2 => ?_, fun h2 => ⟨by omega, by omega, hp0, by omega, by omega, fun h3 => ?_, fun h3 => ⟨by omega, by omega, by omega, fun h4 => ?_, fun h4 => ⟨by omega, by omega, by omega, by omega, fun h5 => ?_, fun h5 => ?_⟩⟩⟩⟩⟩
  · exact (hf (by omega)).symm
  · exact (hf (by omega)).symm
  · exact (hf (by omega)).symm
  · exact (hf (by omega)).symm
  · exact (hf (by omega)).symm
  · exact (ht (by omega)).symm

set_option maxRecDepth 100000 in
set_option maxHeartbeats 4000000 in
theorem w_X3_behind (l : Launch) (hlt : l.stackTraces = false) (T : GT) (mo : Nat) (am : Nat) (ae : Nat) (ap : Nat) (ab : Nat) (aw : Nat) (ac : Nat) (an : Nat) (a0 : Nat) (a1 : Nat) (a2 : Nat) (th : Int) (many : Int) (coins : Int) (pairs : Nat → Int) (coin : Int) (left : Int) (right : Int) (o : Int)  (post : Int → Prop) (v0_ : (0 ≤ left ∧ left < 2147483648) ∧ ((0 ≤ coin ∧ coin < 32) ∧ ((0 ≤ right ∧ right < 2147483648) ∧ ((0 ≤ coin ∧ coin < 32) ∧ (((left.toNat.testBit coin.toNat) = true → ((-2147483648 ≤ o ∧ o < 2147483648) ∧ ((¬ o = 0 → ((-2147483648 ≤ o ∧ o < 2147483648) ∧ ((¬ o = 1 → ((¬ (bI (left.toNat.testBit coin.toNat)) = (iN 0) → ((0 ≤ coin ∧ coin < 9) ∧ ((0 ≤ (pairs coin.toNat) ∧ (pairs coin.toNat) < 2147483648) ∧ (post (((pairs coin.toNat).toNat &&& 2 : Nat) : Int))))) ∧ ((bI (left.toNat.testBit coin.toNat)) = (iN 0) → ((0 ≤ coin ∧ coin < 9) ∧ ((0 ≤ (pairs coin.toNat) ∧ (pairs coin.toNat) < 2147483648) ∧ (post (((pairs coin.toNat).toNat &&& 1 : Nat) : Int))))))) ∧ (o = 1 → ((¬ (bI (left.toNat.testBit coin.toNat)) = (iN 1) → ((0 ≤ coin ∧ coin < 9) ∧ ((0 ≤ (pairs coin.toNat) ∧ (pairs coin.toNat) < 2147483648) ∧ (post (((pairs coin.toNat).toNat &&& 2 : Nat) : Int))))) ∧ ((bI (left.toNat.testBit coin.toNat)) = (iN 1) → ((0 ≤ coin ∧ coin < 9) ∧ ((0 ≤ (pairs coin.toNat) ∧ (pairs coin.toNat) < 2147483648) ∧ (post (((pairs coin.toNat).toNat &&& 1 : Nat) : Int)))))))))) ∧ (o = 0 → (post 0))))) ∧ ((left.toNat.testBit coin.toNat) = false → (((right.toNat.testBit coin.toNat) = true → ((-2147483648 ≤ o ∧ o < 2147483648) ∧ ((¬ o = 0 → ((-2147483648 ≤ o ∧ o < 2147483648) ∧ ((¬ o = 1 → ((¬ (bI (left.toNat.testBit coin.toNat)) = (iN 0) → ((0 ≤ coin ∧ coin < 9) ∧ ((0 ≤ (pairs coin.toNat) ∧ (pairs coin.toNat) < 2147483648) ∧ (post (((pairs coin.toNat).toNat &&& 2 : Nat) : Int))))) ∧ ((bI (left.toNat.testBit coin.toNat)) = (iN 0) → ((0 ≤ coin ∧ coin < 9) ∧ ((0 ≤ (pairs coin.toNat) ∧ (pairs coin.toNat) < 2147483648) ∧ (post (((pairs coin.toNat).toNat &&& 1 : Nat) : Int))))))) ∧ (o = 1 → ((¬ (bI (left.toNat.testBit coin.toNat)) = (iN 1) → ((0 ≤ coin ∧ coin < 9) ∧ ((0 ≤ (pairs coin.toNat) ∧ (pairs coin.toNat) < 2147483648) ∧ (post (((pairs coin.toNat).toNat &&& 2 : Nat) : Int))))) ∧ ((bI (left.toNat.testBit coin.toNat)) = (iN 1) → ((0 ≤ coin ∧ coin < 9) ∧ ((0 ≤ (pairs coin.toNat) ∧ (pairs coin.toNat) < 2147483648) ∧ (post (((pairs coin.toNat).toNat &&& 1 : Nat) : Int)))))))))) ∧ (o = 0 → (post 0))))) ∧ ((right.toNat.testBit coin.toNat) = false → ((-2147483648 ≤ o ∧ o < 2147483648) ∧ ((¬ o = 0 → (post 0)) ∧ (o = 0 → ((0 ≤ coin ∧ coin < 9) ∧ (post (pairs coin.toNat))))))))))))))  : MR l T yX3_behind cX3_behind 7 (some .int) ({ frames := 1, cells := 0, slots := 0, locals := 21 }) [.ref mo, .int (iN coin), .int (iN left), .int (iN right), .int (iN o)] [(mo, .inr (2, [.int (iN th), .ref am, .ref ae, .int (iN many), .ref ap, .ref ab, .ref aw, .int (iN coins), .ref ac, .ref an, .ref a0, .ref a1, .ref a2])), (ac, .inl (T.2.1 0, 9, .inl (zA pairs)))] (fun v_ => ∃ (r : Int), v_ = some (.int (iN r)) ∧ post r) := by
  refine MR.start hlt (by decide) (lv0 := [some (.ref mo), some (.int (iN coin)), some (.int (iN left)), some (.int (iN right)), some (.int (iN o)), none, none]) rfl (Nat.le_of_ble_eq_true rfl) rfl ?_
  intro p e R s m args below meth c cx hr hST
  have vc := v0_
  refine g_iload_n (q := 1) cx dX3_behind_0 rfl rfl ?_
  refine g_iload_n (q := 2) cx dX3_behind_1 rfl rfl ?_
  refine g_cSr (q := 5) (As := [.int (iN left), .int (iN coin)]) (wr := [(mo, .inr (2, [.int (iN th), .ref am, .ref ae, .int (iN many), .ref ap, .ref ab, .ref aw, .int (iN coins), .ref ac, .ref an, .ref a0, .ref a1, .ref a2])), (ac, .inl (T.2.1 0, 9, .inl (zA pairs)))]) (st := []) cx hST (k_X3_has l hlt T left coin (vc.1) (vc.2.1)) q1209 s_X3_has rfl g_perm0 (g_rmB rfl) (Nat.le_of_ble_eq_true rfl) dX3_behind_2 rfl (fun v_ hv_ => ?_)
  have vc := vc.2
  have vc := vc.2
  obtain ⟨b_1, rfl, e_2⟩ := hv_
  subst e_2
  refine g_st (st2 := [.int (bI (left.toNat.testBit coin.toNat))]) rfl ?_
  refine g_istore (q := 7) (lv2 := [some (.ref mo), some (.int (iN coin)), some (.int (iN left)), some (.int (iN right)), some (.int (iN o)), some (.int (bI (left.toNat.testBit coin.toNat))), none]) cx dX3_behind_5 (by decide) rfl rfl ?_
  refine g_iload_n (q := 8) cx dX3_behind_7 rfl rfl ?_
  refine g_iload_n (q := 9) cx dX3_behind_8 rfl rfl ?_
  refine g_cSr (q := 12) (As := [.int (iN right), .int (iN coin)]) (wr := [(mo, .inr (2, [.int (iN th), .ref am, .ref ae, .int (iN many), .ref ap, .ref ab, .ref aw, .int (iN coins), .ref ac, .ref an, .ref a0, .ref a1, .ref a2])), (ac, .inl (T.2.1 0, 9, .inl (zA pairs)))]) (st := []) cx hST (k_X3_has l hlt T right coin (vc.1) (vc.2.1)) q1209 s_X3_has rfl g_perm0 (g_rmB rfl) (Nat.le_of_ble_eq_true rfl) dX3_behind_9 rfl (fun v_ hv_ => ?_)
  have vc := vc.2
  have vc := vc.2
  obtain ⟨b_3, rfl, e_4⟩ := hv_
  subst e_4
  refine g_st (st2 := [.int (bI (right.toNat.testBit coin.toNat))]) rfl ?_
  refine g_istore (q := 14) (lv2 := [some (.ref mo), some (.int (iN coin)), some (.int (iN left)), some (.int (iN right)), some (.int (iN o)), some (.int (bI (left.toNat.testBit coin.toNat))), some (.int (bI (right.toNat.testBit coin.toNat)))]) cx dX3_behind_12 (by decide) rfl rfl ?_
  refine g_iload (q := 16) cx dX3_behind_14 rfl rfl ?_
  refine g_if_ne (q := 19) (tg := 40) cx dX3_behind_16 (by decide) rfl (fun h_5 => ?_) (fun h_5 => ?_)
  · have vc := vc.1 (bI_n0.mp h_5)
    refine g_iload (q := 42) cx dX3_behind_40 rfl rfl ?_
    refine g_if_neZ (q := 45) (tg := 49) cx vc.1 dX3_behind_42 (by decide) rfl (fun h_6 => ?_) (fun h_6 => ?_)
    · have vc := vc.2.1 h_6
      refine g_iload (q := 51) cx dX3_behind_49 rfl rfl ?_
      refine g_iload (q := 53) cx dX3_behind_51 rfl rfl ?_
      refine g_iconst (q := 54) (v := iN 1) cx dX3_behind_53 rfl rfl ?_
      refine g_icmp_neZ (q := 57) (tg := 61) cx vc.1 (by decide) dX3_behind_54 (by decide) rfl (fun h_7 => ?_) (fun h_7 => ?_)
      · have vc := vc.2.1 h_7
        refine g_iconst (q := 62) (v := iN 0) cx dX3_behind_61 rfl rfl ?_
        refine g_icmp_ne (q := 65) (tg := 76) cx dX3_behind_62 (by decide) rfl (fun h_8 => ?_) (fun h_8 => ?_)
        · have vc := vc.1 h_8
          refine g_aload_n (q := 77) cx dX3_behind_76 rfl rfl ?_
          refine g_get (q := 80) cx k_cX3 0 rfl 8 (by decide) q1078 (Or.inl rfl) rfl dX3_behind_77 rfl ?_
          refine g_iload_n (q := 81) cx dX3_behind_80 rfl rfl ?_
          refine g_ialdZ (q := 82) cx 1 (by decide) rfl vc.1 dX3_behind_81 rfl ?_
          have vc := vc.2
          refine g_iconst (q := 83) (v := iN 2) cx dX3_behind_82 rfl rfl ?_
          refine g_iandZ (q := 84) cx vc.1 (by decide) dX3_behind_83 rfl ?_
          have vc := vc.2
          exact g_iretR cx hr rfl ⟨(((pairs coin.toNat).toNat &&& 2 : Nat) : Int), rfl, vc⟩ dX3_behind_84
        · have vc := vc.2 h_8
          refine g_aload_n (q := 66) cx dX3_behind_65 rfl rfl ?_
          refine g_get (q := 69) cx k_cX3 0 rfl 8 (by decide) q1078 (Or.inl rfl) rfl dX3_behind_66 rfl ?_
          refine g_iload_n (q := 70) cx dX3_behind_69 rfl rfl ?_
          refine g_ialdZ (q := 71) cx 1 (by decide) rfl vc.1 dX3_behind_70 rfl ?_
          have vc := vc.2
          refine g_iconst (q := 72) (v := iN 1) cx dX3_behind_71 rfl rfl ?_
          refine g_iandZ (q := 73) cx vc.1 (by decide) dX3_behind_72 rfl ?_
          have vc := vc.2
          refine g_goto (q := 84) cx dX3_behind_73 (by decide) ?_
          exact g_iretR cx hr rfl ⟨(((pairs coin.toNat).toNat &&& 1 : Nat) : Int), rfl, vc⟩ dX3_behind_84
      · have vc := vc.2.2 h_7
        refine g_iconst (q := 58) (v := iN 1) cx dX3_behind_57 rfl rfl ?_
        refine g_goto (q := 62) cx dX3_behind_58 (by decide) ?_
        refine g_icmp_ne (q := 65) (tg := 76) cx dX3_behind_62 (by decide) rfl (fun h_9 => ?_) (fun h_9 => ?_)
        · have vc := vc.1 h_9
          refine g_aload_n (q := 77) cx dX3_behind_76 rfl rfl ?_
          refine g_get (q := 80) cx k_cX3 0 rfl 8 (by decide) q1078 (Or.inl rfl) rfl dX3_behind_77 rfl ?_
          refine g_iload_n (q := 81) cx dX3_behind_80 rfl rfl ?_
          refine g_ialdZ (q := 82) cx 1 (by decide) rfl vc.1 dX3_behind_81 rfl ?_
          have vc := vc.2
          refine g_iconst (q := 83) (v := iN 2) cx dX3_behind_82 rfl rfl ?_
          refine g_iandZ (q := 84) cx vc.1 (by decide) dX3_behind_83 rfl ?_
          have vc := vc.2
          exact g_iretR cx hr rfl ⟨(((pairs coin.toNat).toNat &&& 2 : Nat) : Int), rfl, vc⟩ dX3_behind_84
        · have vc := vc.2 h_9
          refine g_aload_n (q := 66) cx dX3_behind_65 rfl rfl ?_
          refine g_get (q := 69) cx k_cX3 0 rfl 8 (by decide) q1078 (Or.inl rfl) rfl dX3_behind_66 rfl ?_
          refine g_iload_n (q := 70) cx dX3_behind_69 rfl rfl ?_
          refine g_ialdZ (q := 71) cx 1 (by decide) rfl vc.1 dX3_behind_70 rfl ?_
          have vc := vc.2
          refine g_iconst (q := 72) (v := iN 1) cx dX3_behind_71 rfl rfl ?_
          refine g_iandZ (q := 73) cx vc.1 (by decide) dX3_behind_72 rfl ?_
          have vc := vc.2
          refine g_goto (q := 84) cx dX3_behind_73 (by decide) ?_
          exact g_iretR cx hr rfl ⟨(((pairs coin.toNat).toNat &&& 1 : Nat) : Int), rfl, vc⟩ dX3_behind_84
    · have vc := vc.2.2 h_6
      refine g_iconst (q := 46) (v := iN 0) cx dX3_behind_45 rfl rfl ?_
      refine g_goto (q := 84) cx dX3_behind_46 (by decide) ?_
      exact g_iretR cx hr rfl ⟨0, rfl, vc⟩ dX3_behind_84
  · have vc := vc.2 (bI_0.mp h_5)
    refine g_iload (q := 21) cx dX3_behind_19 rfl rfl ?_
    refine g_if_ne (q := 24) (tg := 40) cx dX3_behind_21 (by decide) rfl (fun h_10 => ?_) (fun h_10 => ?_)
    · have vc := vc.1 (bI_n0.mp h_10)
      refine g_iload (q := 42) cx dX3_behind_40 rfl rfl ?_
      refine g_if_neZ (q := 45) (tg := 49) cx vc.1 dX3_behind_42 (by decide) rfl (fun h_11 => ?_) (fun h_11 => ?_)
      · have vc := vc.2.1 h_11
        refine g_iload (q := 51) cx dX3_behind_49 rfl rfl ?_
        refine g_iload (q := 53) cx dX3_behind_51 rfl rfl ?_
        refine g_iconst (q := 54) (v := iN 1) cx dX3_behind_53 rfl rfl ?_
        refine g_icmp_neZ (q := 57) (tg := 61) cx vc.1 (by decide) dX3_behind_54 (by decide) rfl (fun h_12 => ?_) (fun h_12 => ?_)
        · have vc := vc.2.1 h_12
          refine g_iconst (q := 62) (v := iN 0) cx dX3_behind_61 rfl rfl ?_
          refine g_icmp_ne (q := 65) (tg := 76) cx dX3_behind_62 (by decide) rfl (fun h_13 => ?_) (fun h_13 => ?_)
          · have vc := vc.1 h_13
            refine g_aload_n (q := 77) cx dX3_behind_76 rfl rfl ?_
            refine g_get (q := 80) cx k_cX3 0 rfl 8 (by decide) q1078 (Or.inl rfl) rfl dX3_behind_77 rfl ?_
            refine g_iload_n (q := 81) cx dX3_behind_80 rfl rfl ?_
            refine g_ialdZ (q := 82) cx 1 (by decide) rfl vc.1 dX3_behind_81 rfl ?_
            have vc := vc.2
            refine g_iconst (q := 83) (v := iN 2) cx dX3_behind_82 rfl rfl ?_
            refine g_iandZ (q := 84) cx vc.1 (by decide) dX3_behind_83 rfl ?_
            have vc := vc.2
            exact g_iretR cx hr rfl ⟨(((pairs coin.toNat).toNat &&& 2 : Nat) : Int), rfl, vc⟩ dX3_behind_84
          · have vc := vc.2 h_13
            refine g_aload_n (q := 66) cx dX3_behind_65 rfl rfl ?_
            refine g_get (q := 69) cx k_cX3 0 rfl 8 (by decide) q1078 (Or.inl rfl) rfl dX3_behind_66 rfl ?_
            refine g_iload_n (q := 70) cx dX3_behind_69 rfl rfl ?_
            refine g_ialdZ (q := 71) cx 1 (by decide) rfl vc.1 dX3_behind_70 rfl ?_
            have vc := vc.2
            refine g_iconst (q := 72) (v := iN 1) cx dX3_behind_71 rfl rfl ?_
            refine g_iandZ (q := 73) cx vc.1 (by decide) dX3_behind_72 rfl ?_
            have vc := vc.2
            refine g_goto (q := 84) cx dX3_behind_73 (by decide) ?_
            exact g_iretR cx hr rfl ⟨(((pairs coin.toNat).toNat &&& 1 : Nat) : Int), rfl, vc⟩ dX3_behind_84
        · have vc := vc.2.2 h_12
          refine g_iconst (q := 58) (v := iN 1) cx dX3_behind_57 rfl rfl ?_
          refine g_goto (q := 62) cx dX3_behind_58 (by decide) ?_
          refine g_icmp_ne (q := 65) (tg := 76) cx dX3_behind_62 (by decide) rfl (fun h_14 => ?_) (fun h_14 => ?_)
          · have vc := vc.1 h_14
            refine g_aload_n (q := 77) cx dX3_behind_76 rfl rfl ?_
            refine g_get (q := 80) cx k_cX3 0 rfl 8 (by decide) q1078 (Or.inl rfl) rfl dX3_behind_77 rfl ?_
            refine g_iload_n (q := 81) cx dX3_behind_80 rfl rfl ?_
            refine g_ialdZ (q := 82) cx 1 (by decide) rfl vc.1 dX3_behind_81 rfl ?_
            have vc := vc.2
            refine g_iconst (q := 83) (v := iN 2) cx dX3_behind_82 rfl rfl ?_
            refine g_iandZ (q := 84) cx vc.1 (by decide) dX3_behind_83 rfl ?_
            have vc := vc.2
            exact g_iretR cx hr rfl ⟨(((pairs coin.toNat).toNat &&& 2 : Nat) : Int), rfl, vc⟩ dX3_behind_84
          · have vc := vc.2 h_14
            refine g_aload_n (q := 66) cx dX3_behind_65 rfl rfl ?_
            refine g_get (q := 69) cx k_cX3 0 rfl 8 (by decide) q1078 (Or.inl rfl) rfl dX3_behind_66 rfl ?_
            refine g_iload_n (q := 70) cx dX3_behind_69 rfl rfl ?_
            refine g_ialdZ (q := 71) cx 1 (by decide) rfl vc.1 dX3_behind_70 rfl ?_
            have vc := vc.2
            refine g_iconst (q := 72) (v := iN 1) cx dX3_behind_71 rfl rfl ?_
            refine g_iandZ (q := 73) cx vc.1 (by decide) dX3_behind_72 rfl ?_
            have vc := vc.2
            refine g_goto (q := 84) cx dX3_behind_73 (by decide) ?_
            exact g_iretR cx hr rfl ⟨(((pairs coin.toNat).toNat &&& 1 : Nat) : Int), rfl, vc⟩ dX3_behind_84
      · have vc := vc.2.2 h_11
        refine g_iconst (q := 46) (v := iN 0) cx dX3_behind_45 rfl rfl ?_
        refine g_goto (q := 84) cx dX3_behind_46 (by decide) ?_
        exact g_iretR cx hr rfl ⟨0, rfl, vc⟩ dX3_behind_84
    · have vc := vc.2 (bI_0.mp h_10)
      refine g_iload (q := 26) cx dX3_behind_24 rfl rfl ?_
      refine g_if_neZ (q := 29) (tg := 38) cx vc.1 dX3_behind_26 (by decide) rfl (fun h_15 => ?_) (fun h_15 => ?_)
      · have vc := vc.2.1 h_15
        refine g_iconst (q := 39) (v := iN 0) cx dX3_behind_38 rfl rfl ?_
        exact g_iretR cx hr rfl ⟨0, rfl, vc⟩ dX3_behind_39
      · have vc := vc.2.2 h_15
        refine g_aload_n (q := 30) cx dX3_behind_29 rfl rfl ?_
        refine g_get (q := 33) cx k_cX3 0 rfl 8 (by decide) q1078 (Or.inl rfl) rfl dX3_behind_30 rfl ?_
        refine g_iload_n (q := 34) cx dX3_behind_33 rfl rfl ?_
        refine g_ialdZ (q := 35) cx 1 (by decide) rfl vc.1 dX3_behind_34 rfl ?_
        have vc := vc.2
        refine g_goto (q := 39) cx dX3_behind_35 (by decide) ?_
        exact g_iretR cx hr rfl ⟨(pairs coin.toNat), rfl, vc⟩ dX3_behind_39

theorem k_X3_behind (l : Launch) (hlt : l.stackTraces = false) (T : GT) (mo : Nat) (am : Nat) (ae : Nat) (ap : Nat) (ab : Nat) (aw : Nat) (ac : Nat) (an : Nat) (a0 : Nat) (a1 : Nat) (a2 : Nat) (th : Int) (many : Int) (coins : Int) (pairs : Nat → Int) (coin : Int) (left : Int) (right : Int) (o : Int) (hp0 : 0 ≤ coin ∧ coin < 9) (hp1 : 0 ≤ left ∧ left < 2147483648) (hp2 : 0 ≤ right ∧ right < 2147483648) (hp3 : -2147483648 ≤ o ∧ o < 2147483648) (hp4 : prOK pairs) : MR l T yX3_behind cX3_behind 7 (some .int) ({ frames := 1, cells := 0, slots := 0, locals := 21 }) [.ref mo, .int (iN coin), .int (iN left), .int (iN right), .int (iN o)] [(mo, .inr (2, [.int (iN th), .ref am, .ref ae, .int (iN many), .ref ap, .ref ab, .ref aw, .int (iN coins), .ref ac, .ref an, .ref a0, .ref a1, .ref a2])), (ac, .inl (T.2.1 0, 9, .inl (zA pairs)))] (fun v_ => ∃ (r : Int), v_ = some (.int (iN r)) ∧ r = (bhdF pairs left right o coin.toNat)) := by
  refine w_X3_behind l hlt T mo am ae ap ab aw ac an a0 a1 a2 th many coins pairs coin left right o _ ?_
  have hr := hp4 coin.toNat (by omega)
  unfold bhdF
  generalize left.toNat.testBit coin.toNat = a
  generalize right.toNat.testBit coin.toNat = b
  unfold bhd
  refine ⟨hp1, by omega, hp2, by omega, fun ha => ⟨hp3, fun h1 => ⟨hp3, fun h2 => ⟨fun h3 => ⟨hp0, by omega, ?_⟩, fun h3 => ⟨hp0, by omega, ?_⟩⟩, fun h2 => ⟨fun h3 => ⟨hp0, by omega, ?_⟩, fun h3 => ⟨hp0, by omega, ?_⟩⟩⟩, fun h1 => ?_⟩, fun ha => ⟨fun hb => ⟨hp3, fun h1 => ⟨hp3, fun h2 => ⟨fun h3 => ⟨hp0, by omega, ?_⟩, fun h3 => ⟨hp0, by omega, ?_⟩⟩, fun h2 => ⟨fun h3 => ⟨hp0, by omega, ?_⟩, fun h3 => ⟨hp0, by omega, ?_⟩⟩⟩, fun h1 => ?_⟩, fun hb => ⟨hp3, fun h1 => ?_, fun h1 => ⟨hp0, ?_⟩⟩⟩⟩
  all_goals (simp_all [bI_1, bI_z])

set_option maxRecDepth 100000 in
set_option maxHeartbeats 4000000 in
theorem w_X3_weigh (l : Launch) (hlt : l.stackTraces = false) (T : GT) (mo : Nat) (am : Nat) (ae : Nat) (ap : Nat) (ab : Nat) (aw : Nat) (ac : Nat) (an : Nat) (a0 : Nat) (a1 : Nat) (a2 : Nat) (th : Int) (many : Int) (coins : Int) (pairs : Nat → Int) (left : Int) (right : Int) (o : Int) (cn : Nat) (I31 : Bool → Int → Int → Prop) (M31 : Bool → Int → Int → g_mu) (I96 : Int → Int → (Nat → Int) → Prop) (M96 : Int → Int → (Nat → Int) → g_mu) (post : Int → Int → (Nat → Int) → Prop) (v0_ : (-2147483648 ≤ o ∧ o < 2147483648) ∧ (((decide (((-1) : Int) ≤ o) && decide (o ≤ (1 : Int))) = false → (I31 false 0 0)) ∧ ((decide (((-1) : Int) ≤ o) && decide (o ≤ (1 : Int))) = true → ((coins = cn ∧ cn ≤ 9) ∧ ((-2147483648 ≤ left ∧ left < 2147483648) ∧ ((-2147483648 ≤ right ∧ right < 2147483648) ∧ (((isWF cn left right) = false → (I31 false 0 0)) ∧ ((isWF cn left right) = true → (I31 true 0 0))))))))) (v31 : ∀ (is : Bool) (sum : Int) (k : Int), I31 is sum k → (-2147483648 ≤ k ∧ k < 2147483648) ∧ ((-2147483648 ≤ coins ∧ coins < 2147483648) ∧ ((coins ≤ k → ((is = true → ((-2147483648 ≤ sum ∧ sum < 2147483648) ∧ ((¬ sum = 0 → (I96 0 0 pairs ∧ g_lt (M96 0 0 pairs) (M31 is sum k))) ∧ (sum = 0 → (post 0 2 pairs))))) ∧ (is = false → (post 0 1 pairs)))) ∧ (k < coins → ((is = false → ((is = true → ((-2147483648 ≤ sum ∧ sum < 2147483648) ∧ ((¬ sum = 0 → (I96 0 0 pairs ∧ g_lt (M96 0 0 pairs) (M31 is sum k))) ∧ (sum = 0 → (post 0 2 pairs))))) ∧ (is = false → (post 0 1 pairs)))) ∧ (is = true → ((0 ≤ k ∧ k < 9) ∧ ((0 ≤ left ∧ left < 2147483648) ∧ ((0 ≤ right ∧ right < 2147483648) ∧ ((-2147483648 ≤ o ∧ o < 2147483648) ∧ ((prOK pairs) ∧ (I31 is (sum + (bhdF pairs left right o k.toNat)) (k + 1) ∧ g_lt (M31 is (sum + (bhdF pairs left right o k.toNat)) (k + 1)) (M31 is sum k))))))))))))) (v96 : ∀ (k : Int) (t : Int) (pr : Nat → Int), I96 k t pr → (-2147483648 ≤ k ∧ k < 2147483648) ∧ ((-2147483648 ≤ coins ∧ coins < 2147483648) ∧ ((coins ≤ k → ((coins = cn ∧ cn ≤ 9) ∧ ((prOK pr) ∧ (post ((pmN pr cn : Nat) : Int) t pr)))) ∧ (k < coins → ((0 ≤ k ∧ k < 9) ∧ ((0 ≤ left ∧ left < 2147483648) ∧ ((0 ≤ right ∧ right < 2147483648) ∧ ((-2147483648 ≤ o ∧ o < 2147483648) ∧ ((prOK pr) ∧ ((0 ≤ k ∧ k < 9) ∧ (I96 (k + 1) t (va_up pr k.toNat (bhdF pr left right o k.toNat)) ∧ g_lt (M96 (k + 1) t (va_up pr k.toNat (bhdF pr left right o k.toNat))) (M96 k t pr)))))))))))) : MW l T yX3_weigh cX3_weigh 7 (some .int) ({ frames := 2, cells := 0, slots := 0, locals := 47 }) [.ref mo, .int (iN left), .int (iN right), .int (iN o)] [(mo, .inr (2, [.int (iN th), .ref am, .ref ae, .int (iN many), .ref ap, .ref ab, .ref aw, .int (iN coins), .ref ac, .ref an, .ref a0, .ref a1, .ref a2])), (ac, .inl (T.2.1 0, 9, .inl (zA pairs)))] (fun v_ wn_ => ∃ (r : Int), ∃ (th2 : Int), ∃ (pairs2 : Nat → Int), v_ = some (.int (iN r)) ∧ wn_ = [(mo, .inr (2, [.int (iN th2), .ref am, .ref ae, .int (iN many), .ref ap, .ref ab, .ref aw, .int (iN coins), .ref ac, .ref an, .ref a0, .ref a1, .ref a2])), (ac, .inl (T.2.1 0, 9, .inl (zA pairs2)))] ∧ post r th2 pairs2) 0 0 := by
  refine MW.start hlt (by decide) (lv0 := [some (.ref mo), some (.int (iN left)), some (.int (iN right)), some (.int (iN o)), none, none, none]) rfl (Nat.le_of_ble_eq_true rfl) rfl ?_
  intro p e R s m args below meth c A cx hr hnm hST hrw
  have key : ∀ μ : g_mu, (∀ (is : Bool) (sum : Int) (k : Int), I31 is sum k → M31 is sum k = μ → G p l e R s m args below meth c 7 T A A (MQ below (g_Q T (fun v_ wn_ => ∃ (r : Int), ∃ (th2 : Int), ∃ (pairs2 : Nat → Int), v_ = some (.int (iN r)) ∧ wn_ = [(mo, .inr (2, [.int (iN th2), .ref am, .ref ae, .int (iN many), .ref ap, .ref ab, .ref aw, .int (iN coins), .ref ac, .ref an, .ref a0, .ref a1, .ref a2])), (ac, .inl (T.2.1 0, 9, .inl (zA pairs2)))] ∧ post r th2 pairs2) A) args s 0 0 A) 0 0 [(mo, .inr (2, [.int (iN th), .ref am, .ref ae, .int (iN many), .ref ap, .ref ab, .ref aw, .int (iN coins), .ref ac, .ref an, .ref a0, .ref a1, .ref a2])), (ac, .inl (T.2.1 0, 9, .inl (zA pairs)))] [some (.ref mo), some (.int (iN left)), some (.int (iN right)), some (.int (iN o)), some (.int (bI is)), some (.int (iN sum)), some (.int (iN k))] 31 []) ∧ (∀ (k : Int) (t : Int) (pr : Nat → Int), I96 k t pr → M96 k t pr = μ → G p l e R s m args below meth c 7 T A A (MQ below (g_Q T (fun v_ wn_ => ∃ (r : Int), ∃ (th2 : Int), ∃ (pairs2 : Nat → Int), v_ = some (.int (iN r)) ∧ wn_ = [(mo, .inr (2, [.int (iN th2), .ref am, .ref ae, .int (iN many), .ref ap, .ref ab, .ref aw, .int (iN coins), .ref ac, .ref an, .ref a0, .ref a1, .ref a2])), (ac, .inl (T.2.1 0, 9, .inl (zA pairs2)))] ∧ post r th2 pairs2) A) args s 0 0 A) 0 0 [(mo, .inr (2, [.int (iN t), .ref am, .ref ae, .int (iN many), .ref ap, .ref ab, .ref aw, .int (iN coins), .ref ac, .ref an, .ref a0, .ref a1, .ref a2])), (ac, .inl (T.2.1 0, 9, .inl (zA pr)))] [some (.ref mo), some (.int (iN left)), some (.int (iN right)), some (.int (iN o)), none, none, some (.int (iN k))] 96 []) := by
    refine g_ind (fun μ ih => ⟨?_, ?_⟩)
    · intro is sum k hI hM
      subst hM
      have vc := v31 is sum k hI
      refine g_iload (q := 33) cx dX3_weigh_31 rfl rfl ?_
      refine g_aload_n (q := 34) cx dX3_weigh_33 rfl rfl ?_
      refine g_get (q := 37) cx k_cX3 0 rfl 7 (by decide) q1077 (Or.inl rfl) rfl dX3_weigh_34 rfl ?_
      refine g_icmp_geZ (q := 40) (tg := 65) cx vc.1 vc.2.1 dX3_weigh_37 (by decide) rfl (fun h_1 => ?_) (fun h_1 => ?_)
      · have vc := vc.2.2.1 h_1
        refine g_aload_n (q := 66) cx dX3_weigh_65 rfl rfl ?_
        refine g_iload (q := 68) cx dX3_weigh_66 rfl rfl ?_
        refine g_if_ne (q := 71) (tg := 75) cx dX3_weigh_68 (by decide) rfl (fun h_2 => ?_) (fun h_2 => ?_)
        · have vc := vc.1 (bI_n0.mp h_2)
          refine g_iload (q := 77) cx dX3_weigh_75 rfl rfl ?_
          refine g_if_neZ (q := 80) (tg := 84) cx vc.1 dX3_weigh_77 (by decide) rfl (fun h_3 => ?_) (fun h_3 => ?_)
          · have vc := vc.2.1 h_3
            refine g_iconst (q := 85) (v := iN 0) cx dX3_weigh_84 rfl rfl ?_
            refine g_cVw (q := 88) (b := mo) (As := [.int (iN 0)]) (wr := [(ac, .inl (T.2.1 0, 9, .inl (zA pairs)))]) (st := []) cx hST hrw (k_X3_goesWell l hlt T mo am ae ap ab aw ac an a0 a1 a2 th many coins 0 (by decide)) q1122 s_X3_goesWell rfl 0 rfl rfl (g_perm [1, 0] rfl rfl) (g_rmB rfl) (Nat.le_of_ble_eq_true rfl) dX3_weigh_85 rfl (fun v_ wn_ hv_ => ?_)
            obtain ⟨b_4, th2_5, rfl, rfl, e_6⟩ := hv_
            obtain ⟨rfl, rfl⟩ := e_6
            refine g_wp (ws2 := [(mo, .inr (2, [.int (iN 0), .ref am, .ref ae, .int (iN many), .ref ap, .ref ab, .ref aw, .int (iN coins), .ref ac, .ref an, .ref a0, .ref a1, .ref a2])), (ac, .inl (T.2.1 0, 9, .inl (zA pairs)))]) (g_perm [1, 0] rfl rfl) ?_
            refine g_cs (cells2 := 0) (slots2 := 0) (ws2 := [(mo, .inr (2, [.int (iN 0), .ref am, .ref ae, .int (iN many), .ref ap, .ref ab, .ref aw, .int (iN coins), .ref ac, .ref an, .ref a0, .ref a1, .ref a2])), (ac, .inl (T.2.1 0, 9, .inl (zA pairs)))]) rfl rfl rfl ?_
            refine g_st (st2 := [.int (bI true)]) rfl ?_
            refine g_if_ne (q := 91) (tg := 93) cx dX3_weigh_88 (by decide) rfl (fun _ => ?_) (fun h => absurd h (by decide))
            refine g_iconst (q := 94) (v := iN 0) cx dX3_weigh_93 rfl rfl ?_
            refine g_istore (q := 96) (lv2 := [some (.ref mo), some (.int (iN left)), some (.int (iN right)), some (.int (iN o)), some (.int (bI is)), some (.int (iN sum)), some (.int (iN 0))]) cx dX3_weigh_94 (by decide) rfl rfl ?_
            refine g_wk (lv2 := [some (.ref mo), some (.int (iN left)), some (.int (iN right)), some (.int (iN o)), none, none, some (.int (iN 0))]) ⟨rfl, ⟨rfl, ⟨rfl, ⟨rfl, ⟨rfl, trivial⟩⟩⟩⟩⟩ ?_
            exact ((ih _ vc.2).2) 0 0 pairs vc.1 rfl
          · have vc := vc.2.2 h_3
            refine g_iconst (q := 81) (v := iN 2) cx dX3_weigh_80 rfl rfl ?_
            refine g_goto (q := 85) cx dX3_weigh_81 (by decide) ?_
            refine g_cVw (q := 88) (b := mo) (As := [.int (iN 2)]) (wr := [(ac, .inl (T.2.1 0, 9, .inl (zA pairs)))]) (st := []) cx hST hrw (k_X3_goesWell l hlt T mo am ae ap ab aw ac an a0 a1 a2 th many coins 2 (by decide)) q1122 s_X3_goesWell rfl 0 rfl rfl (g_perm [1, 0] rfl rfl) (g_rmB rfl) (Nat.le_of_ble_eq_true rfl) dX3_weigh_85 rfl (fun v_ wn_ hv_ => ?_)
            obtain ⟨b_7, th2_8, rfl, rfl, e_9⟩ := hv_
            obtain ⟨rfl, rfl⟩ := e_9
            refine g_wp (ws2 := [(mo, .inr (2, [.int (iN 2), .ref am, .ref ae, .int (iN many), .ref ap, .ref ab, .ref aw, .int (iN coins), .ref ac, .ref an, .ref a0, .ref a1, .ref a2])), (ac, .inl (T.2.1 0, 9, .inl (zA pairs)))]) (g_perm [1, 0] rfl rfl) ?_
            refine g_cs (cells2 := 0) (slots2 := 0) (ws2 := [(mo, .inr (2, [.int (iN 2), .ref am, .ref ae, .int (iN many), .ref ap, .ref ab, .ref aw, .int (iN coins), .ref ac, .ref an, .ref a0, .ref a1, .ref a2])), (ac, .inl (T.2.1 0, 9, .inl (zA pairs)))]) rfl rfl rfl ?_
            refine g_st (st2 := [.int (bI false)]) rfl ?_
            refine g_if_ne (q := 91) (tg := 93) cx dX3_weigh_88 (by decide) rfl (fun h => absurd h (by decide)) (fun _ => ?_)
            refine g_iconst (q := 92) (v := iN 0) cx dX3_weigh_91 rfl rfl ?_
            exact g_iretW cx hr rfl ⟨0, 2, pairs, rfl, rfl, vc⟩ (by first | exact Nat.le_of_ble_eq_true rfl | omega) (by first | exact Nat.le_of_ble_eq_true rfl | omega) dX3_weigh_92
        · have vc := vc.2 (bI_0.mp h_2)
          refine g_iconst (q := 72) (v := iN 1) cx dX3_weigh_71 rfl rfl ?_
          refine g_goto (q := 85) cx dX3_weigh_72 (by decide) ?_
          refine g_cVw (q := 88) (b := mo) (As := [.int (iN 1)]) (wr := [(ac, .inl (T.2.1 0, 9, .inl (zA pairs)))]) (st := []) cx hST hrw (k_X3_goesWell l hlt T mo am ae ap ab aw ac an a0 a1 a2 th many coins 1 (by decide)) q1122 s_X3_goesWell rfl 0 rfl rfl (g_perm [1, 0] rfl rfl) (g_rmB rfl) (Nat.le_of_ble_eq_true rfl) dX3_weigh_85 rfl (fun v_ wn_ hv_ => ?_)
          obtain ⟨b_10, th2_11, rfl, rfl, e_12⟩ := hv_
          obtain ⟨rfl, rfl⟩ := e_12
          refine g_wp (ws2 := [(mo, .inr (2, [.int (iN 1), .ref am, .ref ae, .int (iN many), .ref ap, .ref ab, .ref aw, .int (iN coins), .ref ac, .ref an, .ref a0, .ref a1, .ref a2])), (ac, .inl (T.2.1 0, 9, .inl (zA pairs)))]) (g_perm [1, 0] rfl rfl) ?_
          refine g_cs (cells2 := 0) (slots2 := 0) (ws2 := [(mo, .inr (2, [.int (iN 1), .ref am, .ref ae, .int (iN many), .ref ap, .ref ab, .ref aw, .int (iN coins), .ref ac, .ref an, .ref a0, .ref a1, .ref a2])), (ac, .inl (T.2.1 0, 9, .inl (zA pairs)))]) rfl rfl rfl ?_
          refine g_st (st2 := [.int (bI false)]) rfl ?_
          refine g_if_ne (q := 91) (tg := 93) cx dX3_weigh_88 (by decide) rfl (fun h => absurd h (by decide)) (fun _ => ?_)
          refine g_iconst (q := 92) (v := iN 0) cx dX3_weigh_91 rfl rfl ?_
          exact g_iretW cx hr rfl ⟨0, 1, pairs, rfl, rfl, vc⟩ (by first | exact Nat.le_of_ble_eq_true rfl | omega) (by first | exact Nat.le_of_ble_eq_true rfl | omega) dX3_weigh_92
      · have vc := vc.2.2.2 h_1
        refine g_iload (q := 42) cx dX3_weigh_40 rfl rfl ?_
        refine g_if_eq (q := 45) (tg := 65) cx dX3_weigh_42 (by decide) rfl (fun h_13 => ?_) (fun h_13 => ?_)
        · have vc := vc.1 (bI_0.mp h_13)
          refine g_aload_n (q := 66) cx dX3_weigh_65 rfl rfl ?_
          refine g_iload (q := 68) cx dX3_weigh_66 rfl rfl ?_
          refine g_if_ne (q := 71) (tg := 75) cx dX3_weigh_68 (by decide) rfl (fun h_14 => ?_) (fun h_14 => ?_)
          · have vc := vc.1 (bI_n0.mp h_14)
            refine g_iload (q := 77) cx dX3_weigh_75 rfl rfl ?_
            refine g_if_neZ (q := 80) (tg := 84) cx vc.1 dX3_weigh_77 (by decide) rfl (fun h_15 => ?_) (fun h_15 => ?_)
            · have vc := vc.2.1 h_15
              refine g_iconst (q := 85) (v := iN 0) cx dX3_weigh_84 rfl rfl ?_
              refine g_cVw (q := 88) (b := mo) (As := [.int (iN 0)]) (wr := [(ac, .inl (T.2.1 0, 9, .inl (zA pairs)))]) (st := []) cx hST hrw (k_X3_goesWell l hlt T mo am ae ap ab aw ac an a0 a1 a2 th many coins 0 (by decide)) q1122 s_X3_goesWell rfl 0 rfl rfl (g_perm [1, 0] rfl rfl) (g_rmB rfl) (Nat.le_of_ble_eq_true rfl) dX3_weigh_85 rfl (fun v_ wn_ hv_ => ?_)
              obtain ⟨b_16, th2_17, rfl, rfl, e_18⟩ := hv_
              obtain ⟨rfl, rfl⟩ := e_18
              refine g_wp (ws2 := [(mo, .inr (2, [.int (iN 0), .ref am, .ref ae, .int (iN many), .ref ap, .ref ab, .ref aw, .int (iN coins), .ref ac, .ref an, .ref a0, .ref a1, .ref a2])), (ac, .inl (T.2.1 0, 9, .inl (zA pairs)))]) (g_perm [1, 0] rfl rfl) ?_
              refine g_cs (cells2 := 0) (slots2 := 0) (ws2 := [(mo, .inr (2, [.int (iN 0), .ref am, .ref ae, .int (iN many), .ref ap, .ref ab, .ref aw, .int (iN coins), .ref ac, .ref an, .ref a0, .ref a1, .ref a2])), (ac, .inl (T.2.1 0, 9, .inl (zA pairs)))]) rfl rfl rfl ?_
              refine g_st (st2 := [.int (bI true)]) rfl ?_
              refine g_if_ne (q := 91) (tg := 93) cx dX3_weigh_88 (by decide) rfl (fun _ => ?_) (fun h => absurd h (by decide))
              refine g_iconst (q := 94) (v := iN 0) cx dX3_weigh_93 rfl rfl ?_
              refine g_istore (q := 96) (lv2 := [some (.ref mo), some (.int (iN left)), some (.int (iN right)), some (.int (iN o)), some (.int (bI is)), some (.int (iN sum)), some (.int (iN 0))]) cx dX3_weigh_94 (by decide) rfl rfl ?_
              refine g_wk (lv2 := [some (.ref mo), some (.int (iN left)), some (.int (iN right)), some (.int (iN o)), none, none, some (.int (iN 0))]) ⟨rfl, ⟨rfl, ⟨rfl, ⟨rfl, ⟨rfl, trivial⟩⟩⟩⟩⟩ ?_
              exact ((ih _ vc.2).2) 0 0 pairs vc.1 rfl
            · have vc := vc.2.2 h_15
              refine g_iconst (q := 81) (v := iN 2) cx dX3_weigh_80 rfl rfl ?_
              refine g_goto (q := 85) cx dX3_weigh_81 (by decide) ?_
              refine g_cVw (q := 88) (b := mo) (As := [.int (iN 2)]) (wr := [(ac, .inl (T.2.1 0, 9, .inl (zA pairs)))]) (st := []) cx hST hrw (k_X3_goesWell l hlt T mo am ae ap ab aw ac an a0 a1 a2 th many coins 2 (by decide)) q1122 s_X3_goesWell rfl 0 rfl rfl (g_perm [1, 0] rfl rfl) (g_rmB rfl) (Nat.le_of_ble_eq_true rfl) dX3_weigh_85 rfl (fun v_ wn_ hv_ => ?_)
              obtain ⟨b_19, th2_20, rfl, rfl, e_21⟩ := hv_
              obtain ⟨rfl, rfl⟩ := e_21
              refine g_wp (ws2 := [(mo, .inr (2, [.int (iN 2), .ref am, .ref ae, .int (iN many), .ref ap, .ref ab, .ref aw, .int (iN coins), .ref ac, .ref an, .ref a0, .ref a1, .ref a2])), (ac, .inl (T.2.1 0, 9, .inl (zA pairs)))]) (g_perm [1, 0] rfl rfl) ?_
              refine g_cs (cells2 := 0) (slots2 := 0) (ws2 := [(mo, .inr (2, [.int (iN 2), .ref am, .ref ae, .int (iN many), .ref ap, .ref ab, .ref aw, .int (iN coins), .ref ac, .ref an, .ref a0, .ref a1, .ref a2])), (ac, .inl (T.2.1 0, 9, .inl (zA pairs)))]) rfl rfl rfl ?_
              refine g_st (st2 := [.int (bI false)]) rfl ?_
              refine g_if_ne (q := 91) (tg := 93) cx dX3_weigh_88 (by decide) rfl (fun h => absurd h (by decide)) (fun _ => ?_)
              refine g_iconst (q := 92) (v := iN 0) cx dX3_weigh_91 rfl rfl ?_
              exact g_iretW cx hr rfl ⟨0, 2, pairs, rfl, rfl, vc⟩ (by first | exact Nat.le_of_ble_eq_true rfl | omega) (by first | exact Nat.le_of_ble_eq_true rfl | omega) dX3_weigh_92
          · have vc := vc.2 (bI_0.mp h_14)
            refine g_iconst (q := 72) (v := iN 1) cx dX3_weigh_71 rfl rfl ?_
            refine g_goto (q := 85) cx dX3_weigh_72 (by decide) ?_
            refine g_cVw (q := 88) (b := mo) (As := [.int (iN 1)]) (wr := [(ac, .inl (T.2.1 0, 9, .inl (zA pairs)))]) (st := []) cx hST hrw (k_X3_goesWell l hlt T mo am ae ap ab aw ac an a0 a1 a2 th many coins 1 (by decide)) q1122 s_X3_goesWell rfl 0 rfl rfl (g_perm [1, 0] rfl rfl) (g_rmB rfl) (Nat.le_of_ble_eq_true rfl) dX3_weigh_85 rfl (fun v_ wn_ hv_ => ?_)
            obtain ⟨b_22, th2_23, rfl, rfl, e_24⟩ := hv_
            obtain ⟨rfl, rfl⟩ := e_24
            refine g_wp (ws2 := [(mo, .inr (2, [.int (iN 1), .ref am, .ref ae, .int (iN many), .ref ap, .ref ab, .ref aw, .int (iN coins), .ref ac, .ref an, .ref a0, .ref a1, .ref a2])), (ac, .inl (T.2.1 0, 9, .inl (zA pairs)))]) (g_perm [1, 0] rfl rfl) ?_
            refine g_cs (cells2 := 0) (slots2 := 0) (ws2 := [(mo, .inr (2, [.int (iN 1), .ref am, .ref ae, .int (iN many), .ref ap, .ref ab, .ref aw, .int (iN coins), .ref ac, .ref an, .ref a0, .ref a1, .ref a2])), (ac, .inl (T.2.1 0, 9, .inl (zA pairs)))]) rfl rfl rfl ?_
            refine g_st (st2 := [.int (bI false)]) rfl ?_
            refine g_if_ne (q := 91) (tg := 93) cx dX3_weigh_88 (by decide) rfl (fun h => absurd h (by decide)) (fun _ => ?_)
            refine g_iconst (q := 92) (v := iN 0) cx dX3_weigh_91 rfl rfl ?_
            exact g_iretW cx hr rfl ⟨0, 1, pairs, rfl, rfl, vc⟩ (by first | exact Nat.le_of_ble_eq_true rfl | omega) (by first | exact Nat.le_of_ble_eq_true rfl | omega) dX3_weigh_92
        · have vc := vc.2 (bI_n0.mp h_13)
          refine g_iload (q := 47) cx dX3_weigh_45 rfl rfl ?_
          refine g_aload_n (q := 48) cx dX3_weigh_47 rfl rfl ?_
          refine g_iload (q := 50) cx dX3_weigh_48 rfl rfl ?_
          refine g_iload_n (q := 51) cx dX3_weigh_50 rfl rfl ?_
          refine g_iload_n (q := 52) cx dX3_weigh_51 rfl rfl ?_
          refine g_iload_n (q := 53) cx dX3_weigh_52 rfl rfl ?_
          refine g_cVr (q := 56) (b := mo) (As := [.int (iN k), .int (iN left), .int (iN right), .int (iN o)]) (wr := []) (st := [.int (iN sum)]) cx hST (k_X3_behind l hlt T mo am ae ap ab aw ac an a0 a1 a2 th many coins pairs k left right o (vc.1) (vc.2.1) (vc.2.2.1) (vc.2.2.2.1) (vc.2.2.2.2.1)) q1259 s_X3_behind rfl 0 rfl rfl g_perm1 (g_rmB rfl) (Nat.le_of_ble_eq_true rfl) dX3_weigh_53 rfl (fun v_ hv_ => ?_)
          have vc := vc.2
          have vc := vc.2
          have vc := vc.2
          have vc := vc.2
          have vc := vc.2
          obtain ⟨r_25, rfl, e_26⟩ := hv_
          subst e_26
          refine g_st (st2 := [.int (iN (bhdF pairs left right o k.toNat)), .int (iN sum)]) rfl ?_
          refine g_iaddZ (q := 57) cx dX3_weigh_56 rfl ?_
          refine g_istore (q := 59) (lv2 := [some (.ref mo), some (.int (iN left)), some (.int (iN right)), some (.int (iN o)), some (.int (bI is)), some (.int (iN (sum + (bhdF pairs left right o k.toNat)))), some (.int (iN k))]) cx dX3_weigh_57 (by decide) rfl rfl ?_
          refine g_iinc (q := 62) (v := iN (k + 1)) (lv2 := [some (.ref mo), some (.int (iN left)), some (.int (iN right)), some (.int (iN o)), some (.int (bI is)), some (.int (iN (sum + (bhdF pairs left right o k.toNat)))), some (.int (iN (k + 1)))]) cx dX3_weigh_59 rfl (iN_add _ _) (by decide) rfl rfl ?_
          refine g_goto (q := 31) cx dX3_weigh_62 (by decide) ?_
          exact ((ih _ vc.2).1) is (sum + (bhdF pairs left right o k.toNat)) (k + 1) vc.1 rfl
    · intro k t pr hI hM
      subst hM
      have vc := v96 k t pr hI
      refine g_iload (q := 98) cx dX3_weigh_96 rfl rfl ?_
      refine g_aload_n (q := 99) cx dX3_weigh_98 rfl rfl ?_
      refine g_get (q := 102) cx k_cX3 0 rfl 7 (by decide) q1077 (Or.inl rfl) rfl dX3_weigh_99 rfl ?_
      refine g_icmp_geZ (q := 105) (tg := 127) cx vc.1 vc.2.1 dX3_weigh_102 (by decide) rfl (fun h_27 => ?_) (fun h_27 => ?_)
      · have vc := vc.2.2.1 h_27
        refine g_aload_n (q := 128) cx dX3_weigh_127 rfl rfl ?_
        refine g_cVr (q := 131) (b := mo) (As := []) (wr := []) (st := []) cx hST (k_X3_possibleMany l hlt T mo am ae ap ab aw ac an a0 a1 a2 t many coins pr cn (vc.1) (vc.2.1)) q1263 s_X3_possibleMany rfl 0 rfl rfl g_perm1 (g_rmB rfl) (Nat.le_of_ble_eq_true rfl) dX3_weigh_128 rfl (fun v_ hv_ => ?_)
        have vc := vc.2
        have vc := vc.2
        obtain ⟨r_28, rfl, e_29⟩ := hv_
        subst e_29
        refine g_st (st2 := [.int (iN ((pmN pr cn : Nat) : Int))]) rfl ?_
        exact g_iretW cx hr rfl ⟨((pmN pr cn : Nat) : Int), t, pr, rfl, rfl, vc⟩ (by first | exact Nat.le_of_ble_eq_true rfl | omega) (by first | exact Nat.le_of_ble_eq_true rfl | omega) dX3_weigh_131
      · have vc := vc.2.2.2 h_27
        refine g_aload_n (q := 106) cx dX3_weigh_105 rfl rfl ?_
        refine g_get (q := 109) cx k_cX3 0 rfl 8 (by decide) q1078 (Or.inl rfl) rfl dX3_weigh_106 rfl ?_
        refine g_iload (q := 111) cx dX3_weigh_109 rfl rfl ?_
        refine g_aload_n (q := 112) cx dX3_weigh_111 rfl rfl ?_
        refine g_iload (q := 114) cx dX3_weigh_112 rfl rfl ?_
        refine g_iload_n (q := 115) cx dX3_weigh_114 rfl rfl ?_
        refine g_iload_n (q := 116) cx dX3_weigh_115 rfl rfl ?_
        refine g_iload_n (q := 117) cx dX3_weigh_116 rfl rfl ?_
        refine g_cVr (q := 120) (b := mo) (As := [.int (iN k), .int (iN left), .int (iN right), .int (iN o)]) (wr := []) (st := [.int (iN k), .ref ac]) cx hST (k_X3_behind l hlt T mo am ae ap ab aw ac an a0 a1 a2 t many coins pr k left right o (vc.1) (vc.2.1) (vc.2.2.1) (vc.2.2.2.1) (vc.2.2.2.2.1)) q1259 s_X3_behind rfl 0 rfl rfl g_perm1 (g_rmB rfl) (Nat.le_of_ble_eq_true rfl) dX3_weigh_117 rfl (fun v_ hv_ => ?_)
        have vc := vc.2
        have vc := vc.2
        have vc := vc.2
        have vc := vc.2
        have vc := vc.2
        obtain ⟨r_30, rfl, e_31⟩ := hv_
        subst e_31
        refine g_st (st2 := [.int (iN (bhdF pr left right o k.toNat)), .int (iN k), .ref ac]) rfl ?_
        refine g_iastZ (q := 121) (ws2 := [(mo, .inr (2, [.int (iN t), .ref am, .ref ae, .int (iN many), .ref ap, .ref ab, .ref aw, .int (iN coins), .ref ac, .ref an, .ref a0, .ref a1, .ref a2])), (ac, .inl (T.2.1 0, 9, .inl (zA (va_up pr k.toNat (bhdF pr left right o k.toNat)))))]) cx hrw 1 (by decide) rfl vc.1 rfl dX3_weigh_120 rfl ?_
        have vc := vc.2
        refine g_iinc (q := 124) (v := iN (k + 1)) (lv2 := [some (.ref mo), some (.int (iN left)), some (.int (iN right)), some (.int (iN o)), none, none, some (.int (iN (k + 1)))]) cx dX3_weigh_121 rfl (iN_add _ _) (by decide) rfl rfl ?_
        refine g_goto (q := 96) cx dX3_weigh_124 (by decide) ?_
        exact ((ih _ vc.2).2) (k + 1) t (va_up pr k.toNat (bhdF pr left right o k.toNat)) vc.1 rfl
  have vc := v0_
  refine g_iload_n (q := 1) cx dX3_weigh_0 rfl rfl ?_
  refine g_iconst (q := 2) (v := iN (-1)) cx dX3_weigh_1 rfl rfl ?_
  refine g_iconst (q := 3) (v := iN 1) cx dX3_weigh_2 rfl rfl ?_
  refine g_cSr (q := 6) (As := [.int (iN o), .int (iN (-1)), .int (iN 1)]) (wr := [(mo, .inr (2, [.int (iN th), .ref am, .ref ae, .int (iN many), .ref ap, .ref ab, .ref aw, .int (iN coins), .ref ac, .ref an, .ref a0, .ref a1, .ref a2])), (ac, .inl (T.2.1 0, 9, .inl (zA pairs)))]) (st := []) cx hST (k_X3_in l hlt T o (-1) 1 (vc.1) (by decide) (by decide)) q1119 s_X3_in rfl g_perm0 (g_rmB rfl) (Nat.le_of_ble_eq_true rfl) dX3_weigh_3 rfl (fun v_ hv_ => ?_)
  have vc := vc.2
  obtain ⟨b_32, rfl, e_33⟩ := hv_
  subst e_33
  refine g_st (st2 := [.int (bI (decide (((-1) : Int) ≤ o) && decide (o ≤ (1 : Int))))]) rfl ?_
  refine g_if_eq (q := 9) (tg := 22) cx dX3_weigh_6 (by decide) rfl (fun h_34 => ?_) (fun h_34 => ?_)
  · have vc := vc.1 (bI_0.mp h_34)
    refine g_iconst (q := 23) (v := iN 0) cx dX3_weigh_22 rfl rfl ?_
    refine g_istore (q := 25) (lv2 := [some (.ref mo), some (.int (iN left)), some (.int (iN right)), some (.int (iN o)), some (.int (iN 0)), none, none]) cx dX3_weigh_23 (by decide) rfl rfl ?_
    refine g_iconst (q := 26) (v := iN 0) cx dX3_weigh_25 rfl rfl ?_
    refine g_istore (q := 28) (lv2 := [some (.ref mo), some (.int (iN left)), some (.int (iN right)), some (.int (iN o)), some (.int (iN 0)), some (.int (iN 0)), none]) cx dX3_weigh_26 (by decide) rfl rfl ?_
    refine g_iconst (q := 29) (v := iN 0) cx dX3_weigh_28 rfl rfl ?_
    refine g_istore (q := 31) (lv2 := [some (.ref mo), some (.int (iN left)), some (.int (iN right)), some (.int (iN o)), some (.int (iN 0)), some (.int (iN 0)), some (.int (iN 0))]) cx dX3_weigh_29 (by decide) rfl rfl ?_
    exact ((key _).1) false 0 0 vc rfl
  · have vc := vc.2 (bI_n0.mp h_34)
    refine g_aload_n (q := 10) cx dX3_weigh_9 rfl rfl ?_
    refine g_iload_n (q := 11) cx dX3_weigh_10 rfl rfl ?_
    refine g_iload_n (q := 12) cx dX3_weigh_11 rfl rfl ?_
    refine g_cVr (q := 15) (b := mo) (As := [.int (iN left), .int (iN right)]) (wr := [(ac, .inl (T.2.1 0, 9, .inl (zA pairs)))]) (st := []) cx hST (k_X3_isWeighing l hlt T mo am ae ap ab aw ac an a0 a1 a2 th many coins cn left right (vc.1) (vc.2.1) (vc.2.2.1)) q1255 s_X3_isWeighing rfl 0 rfl rfl (g_perm [1, 0] rfl rfl) (g_rmB rfl) (Nat.le_of_ble_eq_true rfl) dX3_weigh_12 rfl (fun v_ hv_ => ?_)
    have vc := vc.2
    have vc := vc.2
    have vc := vc.2
    obtain ⟨b2_35, rfl, e_36⟩ := hv_
    subst e_36
    refine g_st (st2 := [.int (bI (isWF cn left right))]) rfl ?_
    refine g_if_eq (q := 18) (tg := 22) cx dX3_weigh_15 (by decide) rfl (fun h_37 => ?_) (fun h_37 => ?_)
    · have vc := vc.1 (bI_0.mp h_37)
      refine g_iconst (q := 23) (v := iN 0) cx dX3_weigh_22 rfl rfl ?_
      refine g_istore (q := 25) (lv2 := [some (.ref mo), some (.int (iN left)), some (.int (iN right)), some (.int (iN o)), some (.int (iN 0)), none, none]) cx dX3_weigh_23 (by decide) rfl rfl ?_
      refine g_iconst (q := 26) (v := iN 0) cx dX3_weigh_25 rfl rfl ?_
      refine g_istore (q := 28) (lv2 := [some (.ref mo), some (.int (iN left)), some (.int (iN right)), some (.int (iN o)), some (.int (iN 0)), some (.int (iN 0)), none]) cx dX3_weigh_26 (by decide) rfl rfl ?_
      refine g_iconst (q := 29) (v := iN 0) cx dX3_weigh_28 rfl rfl ?_
      refine g_istore (q := 31) (lv2 := [some (.ref mo), some (.int (iN left)), some (.int (iN right)), some (.int (iN o)), some (.int (iN 0)), some (.int (iN 0)), some (.int (iN 0))]) cx dX3_weigh_29 (by decide) rfl rfl ?_
      exact ((key _).1) false 0 0 vc rfl
    · have vc := vc.2 (bI_n0.mp h_37)
      refine g_iconst (q := 19) (v := iN 1) cx dX3_weigh_18 rfl rfl ?_
      refine g_goto (q := 23) cx dX3_weigh_19 (by decide) ?_
      refine g_istore (q := 25) (lv2 := [some (.ref mo), some (.int (iN left)), some (.int (iN right)), some (.int (iN o)), some (.int (iN 1)), none, none]) cx dX3_weigh_23 (by decide) rfl rfl ?_
      refine g_iconst (q := 26) (v := iN 0) cx dX3_weigh_25 rfl rfl ?_
      refine g_istore (q := 28) (lv2 := [some (.ref mo), some (.int (iN left)), some (.int (iN right)), some (.int (iN o)), some (.int (iN 1)), some (.int (iN 0)), none]) cx dX3_weigh_26 (by decide) rfl rfl ?_
      refine g_iconst (q := 29) (v := iN 0) cx dX3_weigh_28 rfl rfl ?_
      refine g_istore (q := 31) (lv2 := [some (.ref mo), some (.int (iN left)), some (.int (iN right)), some (.int (iN o)), some (.int (iN 1)), some (.int (iN 0)), some (.int (iN 0))]) cx dX3_weigh_29 (by decide) rfl rfl ?_
      exact ((key _).1) true 0 0 vc rfl

theorem k_X3_weigh (l : Launch) (hlt : l.stackTraces = false) (T : GT) (mo : Nat) (am : Nat) (ae : Nat) (ap : Nat) (ab : Nat) (aw : Nat) (ac : Nat) (an : Nat) (a0 : Nat) (a1 : Nat) (a2 : Nat) (th : Int) (many : Int) (coins : Int) (pairs : Nat → Int) (left : Int) (right : Int) (o : Int) (cn : Nat) (hp0 : coins = cn ∧ cn ≤ 9) (hp1 : -2147483648 ≤ left ∧ left < 2147483648) (hp2 : -2147483648 ≤ right ∧ right < 2147483648) (hp3 : -2147483648 ≤ o ∧ o < 2147483648) (hp4 : prOK pairs) : MW l T yX3_weigh cX3_weigh 7 (some .int) ({ frames := 2, cells := 0, slots := 0, locals := 47 }) [.ref mo, .int (iN left), .int (iN right), .int (iN o)] [(mo, .inr (2, [.int (iN th), .ref am, .ref ae, .int (iN many), .ref ap, .ref ab, .ref aw, .int (iN coins), .ref ac, .ref an, .ref a0, .ref a1, .ref a2])), (ac, .inl (T.2.1 0, 9, .inl (zA pairs)))] (fun v_ wn_ => ∃ (r : Int), ∃ (th2 : Int), ∃ (pairs2 : Nat → Int), v_ = some (.int (iN r)) ∧ wn_ = [(mo, .inr (2, [.int (iN th2), .ref am, .ref ae, .int (iN many), .ref ap, .ref ab, .ref aw, .int (iN coins), .ref ac, .ref an, .ref a0, .ref a1, .ref a2])), (ac, .inl (T.2.1 0, 9, .inl (zA pairs2)))] ∧ r = (if (-1 ≤ o ∧ o ≤ 1) ∧ isWF cn left right = true ∧ ¬ sumZ (bhdF pairs left right o) cn = 0 then ((pmN (bhdP pairs left right o cn) cn : Nat) : Int) else 0) ∧ th2 = (if (-1 ≤ o ∧ o ≤ 1) ∧ isWF cn left right = true then (if sumZ (bhdF pairs left right o) cn = 0 then 2 else 0) else 1) ∧ pairs2 = (if (-1 ≤ o ∧ o ≤ 1) ∧ isWF cn left right = true ∧ ¬ sumZ (bhdF pairs left right o) cn = 0 then bhdP pairs left right o cn else pairs)) 0 0 := by
  refine w_X3_weigh l hlt T mo am ae ap ab aw ac an a0 a1 a2 th many coins pairs left right o cn (I31 := fun is sum k => is = (decide (-1 ≤ o ∧ o ≤ 1) && isWF cn left right) ∧ ∃ j : Nat, j ≤ cn ∧ k = j ∧ sum = sumZ (bhdF pairs left right o) j ∧ (is = false → j = 0)) (M31 := fun _ _ k => (1, 0, 0, (9 - k).toNat)) (I96 := fun k t pr => ∃ j : Nat, j ≤ cn ∧ k = j ∧ t = 0 ∧ ((-1 ≤ o ∧ o ≤ 1) ∧ isWF cn left right = true ∧ ¬ sumZ (bhdF pairs left right o) cn = 0) ∧ pr = bhdP pairs left right o j) (M96 := fun k _ _ => (0, 0, 0, (9 - k).toNat)) _ ?_ ?_ ?_
  · refine ⟨hp3, fun h => ⟨?_, 0, by omega, rfl, rfl, fun _ => rfl⟩, fun h => ⟨hp0, hp1, hp2, fun h1 => ⟨?_, 0, by omega, rfl, rfl, fun _ => rfl⟩, fun h1 => ⟨?_, 0, by omega, rfl, rfl, fun _ => rfl⟩⟩⟩
    · rw [show decide (-1 ≤ o ∧ o ≤ 1) = false by rw [Bool.decide_and]; exact h]; rfl
    · rw [h1, Bool.and_false]
    · rw [show decide (-1 ≤ o ∧ o ≤ 1) = true by rw [Bool.decide_and]; exact h, h1]; rfl
  · rintro is sum k ⟨his, j, hj, rfl, rfl, h0⟩
    have hsum := sumZ_in (f := bhdF pairs left right o) (n := j) (c := 3) (fun i hi => bhdF_in hp4 left right o i (by omega))
    have rS : -2147483648 ≤ sumZ (bhdF pairs left right o) j ∧ sumZ (bhdF pairs left right o) j < 2147483648 := by omega
    have bad : is = false → (0 : Int) = (if (-1 ≤ o ∧ o ≤ 1) ∧ isWF cn left right = true ∧ ¬ sumZ (bhdF pairs left right o) cn = 0 then ((pmN (bhdP pairs left right o cn) cn : Nat) : Int) else 0) ∧ (1 : Int) = (if (-1 ≤ o ∧ o ≤ 1) ∧ isWF cn left right = true then (if sumZ (bhdF pairs left right o) cn = 0 then 2 else 0) else 1) ∧ pairs = (if (-1 ≤ o ∧ o ≤ 1) ∧ isWF cn left right = true ∧ ¬ sumZ (bhdF pairs left right o) cn = 0 then bhdP pairs left right o cn else pairs) := by
      intro hf
      have hn : ¬ ((-1 ≤ o ∧ o ≤ 1) ∧ isWF cn left right = true) := by
        intro hh
        rw [his, decide_eq_true hh.1, hh.2] at hf
        exact absurd hf (by decide)
      rw [if_neg (fun hh => hn ⟨hh.1, hh.2.1⟩), if_neg hn, if_neg (fun hh => hn ⟨hh.1, hh.2.1⟩)]
      exact ⟨rfl, rfl, rfl⟩
    rw [hp0.1]
    refine ⟨by omega, by omega, fun h => ⟨fun h1 => ⟨rS, fun h2 => ?_, fun h2 => ?_⟩, bad⟩, fun h => ⟨fun h1 => ⟨fun h2 => absurd (h2.symm.trans h1) (by decide), fun _ => bad h1⟩, fun h1 => ?_⟩⟩
    · rw [h1] at his
      obtain ⟨g1, g2⟩ := (Bool.and_eq_true _ _).mp his.symm
      have e : cn = j := by omega
      refine ⟨⟨0, by omega, rfl, rfl, ⟨of_decide_eq_true g1, g2, by rw [e]; exact h2⟩, ?_⟩, g_ltI (by omega)⟩
      funext i
      unfold bhdP
      rw [if_neg (Nat.not_lt_zero i)]
    · rw [h1] at his
      obtain ⟨g1, g2⟩ := (Bool.and_eq_true _ _).mp his.symm
      have e : cn = j := by omega
      have e2 : sumZ (bhdF pairs left right o) cn = 0 := by rw [e]; exact h2
      rw [if_neg (fun hh => hh.2.2 e2), if_pos ⟨of_decide_eq_true g1, g2⟩, if_pos e2, if_neg (fun hh => hh.2.2 e2)]
      exact ⟨rfl, rfl, rfl⟩
    · rw [h1] at his
      obtain ⟨g1, g2⟩ := (Bool.and_eq_true _ _).mp his.symm
      have g3 := of_decide_eq_true g2
      refine ⟨by omega, by omega, by omega, hp3, hp4, ⟨by rw [g1, g2, h1]; rfl, j + 1, by omega, rfl, by rw [Int.toNat_natCast]; rfl, fun hh => absurd (hh.symm.trans h1) (by decide)⟩, g_ltI (by omega)⟩
  · rintro k t pr ⟨j, hj, rfl, rfl, hc, rfl⟩
    have g3 := of_decide_eq_true hc.2.1
    rw [hp0.1]
    refine ⟨by omega, by omega, fun h => ⟨⟨rfl, hp0.2⟩, bhdP_OK hp4 left right o j, ?_⟩, fun h => ⟨by omega, by omega, by omega, hp3, bhdP_OK hp4 left right o j, by omega, ⟨j + 1, by omega, rfl, rfl, hc, ?_⟩, g_ltI (by omega)⟩⟩
    · have e : cn = j := by omega
      rw [if_pos hc, if_pos ⟨hc.1, hc.2.1⟩, if_neg hc.2.2, if_pos hc, ← e]
      exact ⟨rfl, rfl, rfl⟩
    · rw [Int.toNat_natCast]
      funext i
      unfold va_up
      have e0 : bhdF (bhdP pairs left right o j) left right o j = bhdF pairs left right o j := by
        unfold bhdF bhdP
        rw [if_neg (Nat.lt_irrefl j)]
      by_cases h1 : i = j
      · rw [if_pos h1, e0, h1]
        unfold bhdP
        rw [if_pos (by omega)]
      · rw [if_neg h1]
        unfold bhdP
        by_cases h2 : i < j
        · rw [if_pos h2, if_pos (by omega)]
        · rw [if_neg h2, if_neg (by omega)]
