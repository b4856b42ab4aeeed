set_option maxRecDepth 100000 in
set_option maxHeartbeats 4000000 in
theorem w_X3_goesWell (l : Launch) (hlt : l.stackTraces = false) (T : GT) (mo : Nat) (am : Nat) (ae : Nat) (ap : Nat) (ab : Nat) (aw : Nat) (ac : Nat) (an : Nat) (a0 : Nat) (a1 : Nat) (a2 : Nat) (th : Int) (many : Int) (coins : Int) (place : Int)  (post : Bool → Int → Prop) (v0_ : (-2147483648 ≤ place ∧ place < 2147483648) ∧ ((¬ place = 0 → (post false place)) ∧ (place = 0 → (post true place))))  : MW l T yX3_goesWell cX3_goesWell 2 (some .boolean) ({ frames := 0, cells := 0, slots := 0, locals := 0 }) [.ref mo, .int (iN place)] [(mo, .inr (2, [.int (iN th), .ref am, .ref ae, .int (iN many), .ref ap, .ref ab, .ref aw, .int (iN coins), .ref ac, .ref an, .ref a0, .ref a1, .ref a2]))] (fun v_ wn_ => ∃ (b : Bool), ∃ (th2 : Int), v_ = some (.int (bI b)) ∧ wn_ = [(mo, .inr (2, [.int (iN th2), .ref am, .ref ae, .int (iN many), .ref ap, .ref ab, .ref aw, .int (iN coins), .ref ac, .ref an, .ref a0, .ref a1, .ref a2]))] ∧ post b th2) 0 0 := by
  refine MW.start hlt (by decide) (lv0 := [some (.ref mo), some (.int (iN place))]) rfl (Nat.le_of_ble_eq_true rfl) rfl ?_
  intro p e R s m args below meth c A cx hr hnm hST hrw
  have vc := v0_
  refine g_aload_n (q := 1) cx dX3_goesWell_0 rfl rfl ?_
  refine g_iload_n (q := 2) cx dX3_goesWell_1 rfl rfl ?_
  refine g_put (q := 5) (ws2 := [(mo, .inr (2, [.int (iN place), .ref am, .ref ae, .int (iN many), .ref ap, .ref ab, .ref aw, .int (iN coins), .ref ac, .ref an, .ref a0, .ref a1, .ref a2]))]) cx hrw k_cX3 0 rfl 0 (by decide) q1070 (Or.inl rfl) rfl rfl rfl (Nat.le_of_ble_eq_true rfl) rfl dX3_goesWell_2 rfl ?_
  refine g_iload_n (q := 6) cx dX3_goesWell_5 rfl rfl ?_
  refine g_if_neZ (q := 9) (tg := 13) cx vc.1 dX3_goesWell_6 (by decide) rfl (fun h_1 => ?_) (fun h_1 => ?_)
  · have vc := vc.2.1 h_1
    refine g_iconst (q := 14) (v := iN 0) cx dX3_goesWell_13 rfl rfl ?_
    exact g_iretW cx hr (by decide) ⟨false, place, rfl, rfl, vc⟩ (by first | exact Nat.le_of_ble_eq_true rfl | omega) (by first | exact Nat.le_of_ble_eq_true rfl | omega) dX3_goesWell_14
  · have vc := vc.2.2 h_1
    refine g_iconst (q := 10) (v := iN 1) cx dX3_goesWell_9 rfl rfl ?_
    refine g_goto (q := 14) cx dX3_goesWell_10 (by decide) ?_
    exact g_iretW cx hr (by decide) ⟨true, place, rfl, rfl, vc⟩ (by first | exact Nat.le_of_ble_eq_true rfl | omega) (by first | exact Nat.le_of_ble_eq_true rfl | omega) dX3_goesWell_14

theorem k_X3_goesWell (l : Launch) (hlt : l.stackTraces = false) (T : GT) (mo : Nat) (am : Nat) (ae : Nat) (ap : Nat) (ab : Nat) (aw : Nat) (ac : Nat) (an : Nat) (a0 : Nat) (a1 : Nat) (a2 : Nat) (th : Int) (many : Int) (coins : Int) (place : Int) (hp0 : -2147483648 ≤ place ∧ place < 2147483648) : MW l T yX3_goesWell cX3_goesWell 2 (some .boolean) ({ frames := 0, cells := 0, slots := 0, locals := 0 }) [.ref mo, .int (iN place)] [(mo, .inr (2, [.int (iN th), .ref am, .ref ae, .int (iN many), .ref ap, .ref ab, .ref aw, .int (iN coins), .ref ac, .ref an, .ref a0, .ref a1, .ref a2]))] (fun v_ wn_ => ∃ (b : Bool), ∃ (th2 : Int), v_ = some (.int (bI b)) ∧ wn_ = [(mo, .inr (2, [.int (iN th2), .ref am, .ref ae, .int (iN many), .ref ap, .ref ab, .ref aw, .int (iN coins), .ref ac, .ref an, .ref a0, .ref a1, .ref a2]))] ∧ b = (decide (place = 0)) ∧ th2 = place) 0 0 := by
  refine w_X3_goesWell l hlt T mo am ae ap ab aw ac an a0 a1 a2 th many coins place _ ⟨hp0, fun h => ?_, fun h => ?_⟩
  · simp [h]
  · simp [h]

set_option maxRecDepth 100000 in
set_option maxHeartbeats 4000000 in
theorem w_X3_in (l : Launch) (hlt : l.stackTraces = false) (T : GT) (v : Int) (least : Int) (most : Int)  (post : Bool → Prop) (v0_ : (-2147483648 ≤ v ∧ v < 2147483648) ∧ ((-2147483648 ≤ least ∧ least < 2147483648) ∧ ((v < least → (post false)) ∧ (least ≤ v → ((-2147483648 ≤ v ∧ v < 2147483648) ∧ ((-2147483648 ≤ most ∧ most < 2147483648) ∧ ((most < v → (post false)) ∧ (v ≤ most → (post true)))))))))  : MR l T yX3_in cX3_in 3 (some .boolean) ({ frames := 0, cells := 0, slots := 0, locals := 0 }) [.int (iN v), .int (iN least), .int (iN most)] [] (fun v_ => ∃ (b : Bool), v_ = some (.int (bI b)) ∧ post b) := by
  refine MR.start hlt (by decide) (lv0 := [some (.int (iN v)), some (.int (iN least)), some (.int (iN most))]) rfl (Nat.le_of_ble_eq_true rfl) rfl ?_
  intro p e R s m args below meth c cx hr hST
  have vc := v0_
  refine g_iload_n (q := 1) cx dX3_in_0 rfl rfl ?_
  refine g_iload_n (q := 2) cx dX3_in_1 rfl rfl ?_
  refine g_icmp_ltZ (q := 5) (tg := 14) cx vc.1 vc.2.1 dX3_in_2 (by decide) rfl (fun h_1 => ?_) (fun h_1 => ?_)
  · have vc := vc.2.2.1 h_1
    refine g_iconst (q := 15) (v := iN 0) cx dX3_in_14 rfl rfl ?_
    exact g_iretR cx hr (by decide) ⟨false, rfl, vc⟩ dX3_in_15
  · have vc := vc.2.2.2 h_1
    refine g_iload_n (q := 6) cx dX3_in_5 rfl rfl ?_
    refine g_iload_n (q := 7) cx dX3_in_6 rfl rfl ?_
    refine g_icmp_gtZ (q := 10) (tg := 14) cx vc.1 vc.2.1 dX3_in_7 (by decide) rfl (fun h_2 => ?_) (fun h_2 => ?_)
    · have vc := vc.2.2.1 h_2
      refine g_iconst (q := 15) (v := iN 0) cx dX3_in_14 rfl rfl ?_
      exact g_iretR cx hr (by decide) ⟨false, rfl, vc⟩ dX3_in_15
    · have vc := vc.2.2.2 h_2
      refine g_iconst (q := 11) (v := iN 1) cx dX3_in_10 rfl rfl ?_
      refine g_goto (q := 15) cx dX3_in_11 (by decide) ?_
      exact g_iretR cx hr (by decide) ⟨true, rfl, vc⟩ dX3_in_15

theorem k_X3_in (l : Launch) (hlt : l.stackTraces = false) (T : GT) (v : Int) (least : Int) (most : Int) (hp0 : -2147483648 ≤ v ∧ v < 2147483648) (hp1 : -2147483648 ≤ least ∧ least < 2147483648) (hp2 : -2147483648 ≤ most ∧ most < 2147483648) : MR l T yX3_in cX3_in 3 (some .boolean) ({ frames := 0, cells := 0, slots := 0, locals := 0 }) [.int (iN v), .int (iN least), .int (iN most)] [] (fun v_ => ∃ (b : Bool), v_ = some (.int (bI b)) ∧ b = (decide (least ≤ v) && decide (v ≤ most))) := by
  refine w_X3_in l hlt T v least most _ ⟨hp0, hp1, fun h => ?_, fun h => ⟨hp0, hp2, fun h2 => ?_, fun h2 => ?_⟩⟩
  · rw [decide_eq_false (by omega)]; rfl
  · rw [decide_eq_false (by omega : ¬ v ≤ most), Bool.and_false]
  · rw [decide_eq_true h, decide_eq_true h2]; rfl

set_option maxRecDepth 100000 in
set_option maxHeartbeats 4000000 in
theorem w_X3_isMass (l : Launch) (hlt : l.stackTraces = false) (T : GT) (mass : Int)  (post : Bool → Prop) (v0_ : (-2147483648 ≤ mass ∧ mass < 2147483648) ∧ ((-2147483648 ≤ (1 : Int) ∧ (1 : Int) < 2147483648) ∧ ((-2147483648 ≤ (4000 : Int) ∧ (4000 : Int) < 2147483648) ∧ (post (decide ((1 : Int) ≤ mass) && decide (mass ≤ (4000 : Int)))))))  : MR l T yX3_isMass cX3_isMass 1 (some .boolean) ({ frames := 1, cells := 0, slots := 0, locals := 22 }) [.int (iN mass)] [] (fun v_ => ∃ (b : Bool), v_ = some (.int (bI b)) ∧ post b) := by
  refine MR.start hlt (by decide) (lv0 := [some (.int (iN mass))]) rfl (Nat.le_of_ble_eq_true rfl) rfl ?_
  intro p e R s m args below meth c cx hr hST
  have vc := v0_
  refine g_iload_n (q := 1) cx dX3_isMass_0 rfl rfl ?_
  refine g_iconst (q := 2) (v := iN 1) cx dX3_isMass_1 rfl rfl ?_
  refine g_sipush (q := 5) (v := iN 4000) cx dX3_isMass_2 (by decide) rfl ?_
  refine g_cSr (q := 8) (As := [.int (iN mass), .int (iN 1), .int (iN 4000)]) (wr := []) (st := []) cx hST (k_X3_in l hlt T mass 1 4000 (vc.1) (vc.2.1) (vc.2.2.1)) q1119 s_X3_in rfl g_perm0 (g_rmB rfl) (Nat.le_of_ble_eq_true rfl) dX3_isMass_5 rfl (fun v_ hv_ => ?_)
  have vc := vc.2
  have vc := vc.2
  have vc := vc.2
  obtain ⟨b_1, rfl, e_2⟩ := hv_
  subst e_2
  refine g_st (st2 := [.int (bI (decide ((1 : Int) ≤ mass) && decide (mass ≤ (4000 : Int))))]) rfl ?_
  exact g_iretR cx hr (narrow_bI _) ⟨(decide ((1 : Int) ≤ mass) && decide (mass ≤ (4000 : Int))), rfl, vc⟩ dX3_isMass_8

theorem k_X3_isMass (l : Launch) (hlt : l.stackTraces = false) (T : GT) (mass : Int) (hp0 : -2147483648 ≤ mass ∧ mass < 2147483648) : MR l T yX3_isMass cX3_isMass 1 (some .boolean) ({ frames := 1, cells := 0, slots := 0, locals := 22 }) [.int (iN mass)] [] (fun v_ => ∃ (b : Bool), v_ = some (.int (bI b)) ∧ b = (decide (1 ≤ mass) && decide (mass ≤ 4000))) := by
  exact w_X3_isMass l hlt T mass _ ⟨hp0, by decide, by decide, rfl⟩

set_option maxRecDepth 100000 in
set_option maxHeartbeats 4000000 in
theorem w_X3_isWeight (l : Launch) (hlt : l.stackTraces = false) (T : GT) (mo : Nat) (am : Nat) (ae : Nat) (ap : Nat) (ab : Nat) (aw : Nat) (ac : Nat) (an : Nat) (a0 : Nat) (a1 : Nat) (a2 : Nat) (th : Int) (many : Int) (coins : Int) (weight : Int)  (post : Bool → Prop) (v0_ : (-2147483648 ≤ weight ∧ weight < 2147483648) ∧ ((-2147483648 ≤ (0 : Int) ∧ (0 : Int) < 2147483648) ∧ ((-2147483648 ≤ (many - 1) ∧ (many - 1) < 2147483648) ∧ (post (decide ((0 : Int) ≤ weight) && decide (weight ≤ (many - 1)))))))  : MR l T yX3_isWeight cX3_isWeight 2 (some .boolean) ({ frames := 1, cells := 0, slots := 0, locals := 22 }) [.ref mo, .int (iN weight)] [(mo, .inr (2, [.int (iN th), .ref am, .ref ae, .int (iN many), .ref ap, .ref ab, .ref aw, .int (iN coins), .ref ac, .ref an, .ref a0, .ref a1, .ref a2]))] (fun v_ => ∃ (b : Bool), v_ = some (.int (bI b)) ∧ post b) := by
  refine MR.start hlt (by decide) (lv0 := [some (.ref mo), some (.int (iN weight))]) rfl (Nat.le_of_ble_eq_true rfl) rfl ?_
  intro p e R s m args below meth c cx hr hST
  have vc := v0_
  refine g_iload_n (q := 1) cx dX3_isWeight_0 rfl rfl ?_
  refine g_iconst (q := 2) (v := iN 0) cx dX3_isWeight_1 rfl rfl ?_
  refine g_aload_n (q := 3) cx dX3_isWeight_2 rfl rfl ?_
  refine g_get (q := 6) cx k_cX3 0 rfl 3 (by decide) q1073 (Or.inl rfl) rfl dX3_isWeight_3 rfl ?_
  refine g_iconst (q := 7) (v := iN 1) cx dX3_isWeight_6 rfl rfl ?_
  refine g_isubZ (q := 8) cx dX3_isWeight_7 rfl ?_
  refine g_cSr (q := 11) (As := [.int (iN weight), .int (iN 0), .int (iN (many - 1))]) (wr := [(mo, .inr (2, [.int (iN th), .ref am, .ref ae, .int (iN many), .ref ap, .ref ab, .ref aw, .int (iN coins), .ref ac, .ref an, .ref a0, .ref a1, .ref a2]))]) (st := []) cx hST (k_X3_in l hlt T weight 0 (many - 1) (vc.1) (vc.2.1) (vc.2.2.1)) q1119 s_X3_in rfl g_perm0 (g_rmB rfl) (Nat.le_of_ble_eq_true rfl) dX3_isWeight_8 rfl (fun v_ hv_ => ?_)
  have vc := vc.2
  have vc := vc.2
  have vc := vc.2
  obtain ⟨b_1, rfl, e_2⟩ := hv_
  subst e_2
  refine g_st (st2 := [.int (bI (decide ((0 : Int) ≤ weight) && decide (weight ≤ (many - 1))))]) rfl ?_
  exact g_iretR cx hr (narrow_bI _) ⟨(decide ((0 : Int) ≤ weight) && decide (weight ≤ (many - 1))), rfl, vc⟩ dX3_isWeight_11

theorem k_X3_isWeight (l : Launch) (hlt : l.stackTraces = false) (T : GT) (mo : Nat) (am : Nat) (ae : Nat) (ap : Nat) (ab : Nat) (aw : Nat) (ac : Nat) (an : Nat) (a0 : Nat) (a1 : Nat) (a2 : Nat) (th : Int) (many : Int) (coins : Int) (weight : Int) (hp0 : -2147483648 ≤ weight ∧ weight < 2147483648) (hp1 : 0 ≤ many ∧ many ≤ 7) : MR l T yX3_isWeight cX3_isWeight 2 (some .boolean) ({ frames := 1, cells := 0, slots := 0, locals := 22 }) [.ref mo, .int (iN weight)] [(mo, .inr (2, [.int (iN th), .ref am, .ref ae, .int (iN many), .ref ap, .ref ab, .ref aw, .int (iN coins), .ref ac, .ref an, .ref a0, .ref a1, .ref a2]))] (fun v_ => ∃ (b : Bool), v_ = some (.int (bI b)) ∧ b = (decide (0 ≤ weight) && decide (weight ≤ many - 1))) := by
  exact w_X3_isWeight l hlt T mo am ae ap ab aw ac an a0 a1 a2 th many coins weight _ ⟨hp0, by decide, ⟨by omega, by omega⟩, rfl⟩

set_option maxRecDepth 100000 in
set_option maxHeartbeats 4000000 in
theorem w_X3_sizeOf (l : Launch) (hlt : l.stackTraces = false) (T : GT) (mo : Nat) (am : Nat) (ae : Nat) (ap : Nat) (ab : Nat) (aw : Nat) (ac : Nat) (an : Nat) (a0 : Nat) (a1 : Nat) (a2 : Nat) (th : Int) (many : Int) (coins : Int) (placing : Nat → Int) (n : Nat) (I4 : Int → Int → Prop) (M4 : Int → Int → g_mu) (post : Int → Prop) (v0_ : I4 0 0) (v4 : ∀ (size : Int) (k : Int), I4 size k → (-2147483648 ≤ k ∧ k < 2147483648) ∧ ((-2147483648 ≤ many ∧ many < 2147483648) ∧ ((many ≤ k → (post size)) ∧ (k < many → ((0 ≤ k ∧ k < 7) ∧ ((-2147483648 ≤ (placing k.toNat) ∧ (placing k.toNat) < 2147483648) ∧ ((¬ (placing k.toNat) = 0 → (I4 (size + 1) (k + 1) ∧ g_lt (M4 (size + 1) (k + 1)) (M4 size k))) ∧ ((placing k.toNat) = 0 → (I4 (size + 0) (k + 1) ∧ g_lt (M4 (size + 0) (k + 1)) (M4 size k)))))))))) : MR l T yX3_sizeOf cX3_sizeOf 3 (some .int) ({ frames := 0, cells := 0, slots := 0, locals := 0 }) [.ref mo] [(mo, .inr (2, [.int (iN th), .ref am, .ref ae, .int (iN many), .ref ap, .ref ab, .ref aw, .int (iN coins), .ref ac, .ref an, .ref a0, .ref a1, .ref a2])), (ap, .inl (T.2.1 0, 7, .inl (zA placing)))] (fun v_ => ∃ (r : Int), v_ = some (.int (iN r)) ∧ post r) := by
  refine MR.start hlt (by decide) (lv0 := [some (.ref mo), none, none]) rfl (Nat.le_of_ble_eq_true rfl) rfl ?_
  intro p e R s m args below meth c cx hr hST
  have key : ∀ μ : g_mu, (∀ (size : Int) (k : Int), I4 size k → M4 size k = μ → G p l e R s m args below meth c 3 T (fun _ => False) (fun _ => True) (MQ below (g_Qr (fun v_ => ∃ (r : Int), v_ = some (.int (iN r)) ∧ post r)) args s 0 0 (fun _ => False)) 0 0 [(mo, .inr (2, [.int (iN th), .ref am, .ref ae, .int (iN many), .ref ap, .ref ab, .ref aw, .int (iN coins), .ref ac, .ref an, .ref a0, .ref a1, .ref a2])), (ap, .inl (T.2.1 0, 7, .inl (zA placing)))] [some (.ref mo), some (.int (iN size)), some (.int (iN k))] 4 []) := by
    refine g_ind (fun μ ih => ?_)
    · intro size k hI hM
      subst hM
      have vc := v4 size k hI
      refine g_iload_n (q := 5) cx dX3_sizeOf_4 rfl rfl ?_
      refine g_aload_n (q := 6) cx dX3_sizeOf_5 rfl rfl ?_
      refine g_get (q := 9) cx k_cX3 0 rfl 3 (by decide) q1073 (Or.inl rfl) rfl dX3_sizeOf_6 rfl ?_
      refine g_icmp_geZ (q := 12) (tg := 35) cx vc.1 vc.2.1 dX3_sizeOf_9 (by decide) rfl (fun h_1 => ?_) (fun h_1 => ?_)
      · have vc := vc.2.2.1 h_1
        refine g_iload_n (q := 36) cx dX3_sizeOf_35 rfl rfl ?_
        exact g_iretR cx hr rfl ⟨size, rfl, vc⟩ dX3_sizeOf_36
      · have vc := vc.2.2.2 h_1
        refine g_iload_n (q := 13) cx dX3_sizeOf_12 rfl rfl ?_
        refine g_aload_n (q := 14) cx dX3_sizeOf_13 rfl rfl ?_
        refine g_get (q := 17) cx k_cX3 0 rfl 4 (by decide) q1074 (Or.inl rfl) rfl dX3_sizeOf_14 rfl ?_
        refine g_iload_n (q := 18) cx dX3_sizeOf_17 rfl rfl ?_
        refine g_ialdZ (q := 19) cx 1 (by decide) rfl vc.1 dX3_sizeOf_18 rfl ?_
        have vc := vc.2
        refine g_if_neZ (q := 22) (tg := 26) cx vc.1 dX3_sizeOf_19 (by decide) rfl (fun h_2 => ?_) (fun h_2 => ?_)
        · have vc := vc.2.1 h_2
          refine g_iconst (q := 27) (v := iN 1) cx dX3_sizeOf_26 rfl rfl ?_
          refine g_iaddZ (q := 28) cx dX3_sizeOf_27 rfl ?_
          refine g_istore_n (q := 29) (lv2 := [some (.ref mo), some (.int (iN (size + 1))), some (.int (iN k))]) cx dX3_sizeOf_28 rfl (by decide) rfl rfl ?_
          refine g_iinc (q := 32) (v := iN (k + 1)) (lv2 := [some (.ref mo), some (.int (iN (size + 1))), some (.int (iN (k + 1)))]) cx dX3_sizeOf_29 rfl (iN_add _ _) (by decide) rfl rfl ?_
          refine g_goto (q := 4) cx dX3_sizeOf_32 (by decide) ?_
          exact (ih _ vc.2) (size + 1) (k + 1) vc.1 rfl
        · have vc := vc.2.2 h_2
          refine g_iconst (q := 23) (v := iN 0) cx dX3_sizeOf_22 rfl rfl ?_
          refine g_goto (q := 27) cx dX3_sizeOf_23 (by decide) ?_
          refine g_iaddZ (q := 28) cx dX3_sizeOf_27 rfl ?_
          refine g_istore_n (q := 29) (lv2 := [some (.ref mo), some (.int (iN (size + 0))), some (.int (iN k))]) cx dX3_sizeOf_28 rfl (by decide) rfl rfl ?_
          refine g_iinc (q := 32) (v := iN (k + 1)) (lv2 := [some (.ref mo), some (.int (iN (size + 0))), some (.int (iN (k + 1)))]) cx dX3_sizeOf_29 rfl (iN_add _ _) (by decide) rfl rfl ?_
          refine g_goto (q := 4) cx dX3_sizeOf_32 (by decide) ?_
          exact (ih _ vc.2) (size + 0) (k + 1) vc.1 rfl
  have vc := v0_
  refine g_iconst (q := 1) (v := iN 0) cx dX3_sizeOf_0 rfl rfl ?_
  refine g_istore_n (q := 2) (lv2 := [some (.ref mo), some (.int (iN 0)), none]) cx dX3_sizeOf_1 rfl (by decide) rfl rfl ?_
  refine g_iconst (q := 3) (v := iN 0) cx dX3_sizeOf_2 rfl rfl ?_
  refine g_istore_n (q := 4) (lv2 := [some (.ref mo), some (.int (iN 0)), some (.int (iN 0))]) cx dX3_sizeOf_3 rfl (by decide) rfl rfl ?_
  exact (key _) 0 0 vc rfl

theorem k_X3_sizeOf (l : Launch) (hlt : l.stackTraces = false) (T : GT) (mo : Nat) (am : Nat) (ae : Nat) (ap : Nat) (ab : Nat) (aw : Nat) (ac : Nat) (an : Nat) (a0 : Nat) (a1 : Nat) (a2 : Nat) (th : Int) (many : Int) (coins : Int) (placing : Nat → Int) (n : Nat) (hp0 : many = n) (hp1 : n ≤ 7) (hp2 : ∀ k, k < n → -1 ≤ placing k ∧ placing k ≤ 1) : MR l T yX3_sizeOf cX3_sizeOf 3 (some .int) ({ frames := 0, cells := 0, slots := 0, locals := 0 }) [.ref mo] [(mo, .inr (2, [.int (iN th), .ref am, .ref ae, .int (iN many), .ref ap, .ref ab, .ref aw, .int (iN coins), .ref ac, .ref an, .ref a0, .ref a1, .ref a2])), (ap, .inl (T.2.1 0, 7, .inl (zA placing)))] (fun v_ => ∃ (r : Int), v_ = some (.int (iN r)) ∧ r = ((cntB (fun k => !decide (placing k = 0)) n : Nat) : Int)) := by
  refine w_X3_sizeOf l hlt T mo am ae ap ab aw ac an a0 a1 a2 th many coins placing n (I4 := fun size k => ∃ j : Nat, j ≤ n ∧ k = j ∧ size = (cntB (fun k => !decide (placing k = 0)) j : Nat)) (M4 := fun _ k => (0, 0, 0, (7 - k).toNat)) _ ?_ ?_
  · exact ⟨0, by omega, rfl, rfl⟩
  · rintro size k ⟨j, hj, rfl, rfl⟩
    subst hp0
    refine ⟨by omega, by omega, fun h => ?_, fun h => ⟨by omega, ?_⟩⟩
    · rw [show n = j by omega]
    · have hb := hp2 j (by omega)
      refine ⟨by simp only [Int.toNat_natCast]; omega, fun h2 => ?_, fun h2 => ?_⟩
      · simp only [Int.toNat_natCast] at h2
        exact ⟨⟨j + 1, by omega, rfl, by simp [cntB, h2]⟩, g_ltI (by omega)⟩
      · simp only [Int.toNat_natCast] at h2
        exact ⟨⟨j + 1, by omega, rfl, by simp [cntB, h2]⟩, g_ltI (by omega)⟩
