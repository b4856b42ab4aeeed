set_option maxRecDepth 100000 in
set_option maxHeartbeats 4000000 in
theorem w_X3_fewest (l : Launch) (hlt : l.stackTraces = false) (T : GT) (mo : Nat) (am : Nat) (ae : Nat) (ap : Nat) (ab : Nat) (aw : Nat) (ac : Nat) (an : Nat) (a0 : Nat) (a1 : Nat) (a2 : Nat) (th : Int) (many : Int) (coins : Int) (masses : Nat → Int) (placing : Nat → Int) (best : Nat → Int) (mass : Int) (n : Nat)  (post : Int → Int → (Nat → Int) → (Nat → Int) → Prop) (v0_ : (-2147483648 ≤ mass ∧ mass < 2147483648) ∧ (((decide (1 ≤ mass) && decide (mass ≤ 4000)) = false → (post 0 1 placing best)) ∧ ((decide (1 ≤ mass) && decide (mass ≤ 4000)) = true → ((many = n) ∧ ((n ≤ 7) ∧ ((msOK n masses) ∧ ((-2147483648 ≤ mass ∧ mass < 2147483648) ∧ (∀ (placing2_11 : Nat → Int), post (pbsize n (pbest masses n mass (3 ^ n))) 0 placing2_11 (pbplac n best (pbest masses n mass (3 ^ n)))))))))))  : MW l T yX3_fewest cX3_fewest 2 (some .int) ({ frames := 2, cells := 0, slots := 0, locals := 49 }) [.ref mo, .int (iN mass)] [(mo, .inr (2, [.int (iN th), .ref am, .ref ae, .int (iN many), .ref ap, .ref ab, .ref aw, .int (iN coins), .ref ac, .ref an, .ref a0, .ref a1, .ref a2])), (am, .inl (T.2.1 0, 7, .inl (zA masses))), (ap, .inl (T.2.1 0, 7, .inl (zA placing))), (ab, .inl (T.2.1 0, 7, .inl (zA best)))] (fun v_ wn_ => ∃ (r : Int), ∃ (th2 : Int), ∃ (placing2 : Nat → Int), ∃ (best2 : Nat → Int), v_ = some (.int (iN r)) ∧ wn_ = [(mo, .inr (2, [.int (iN th2), .ref am, .ref ae, .int (iN many), .ref ap, .ref ab, .ref aw, .int (iN coins), .ref ac, .ref an, .ref a0, .ref a1, .ref a2])), (am, .inl (T.2.1 0, 7, .inl (zA masses))), (ap, .inl (T.2.1 0, 7, .inl (zA placing2))), (ab, .inl (T.2.1 0, 7, .inl (zA best2)))] ∧ post r th2 placing2 best2) 0 0 := by
  refine MW.start hlt (by decide) (lv0 := [some (.ref mo), some (.int (iN mass))]) rfl (Nat.le_of_ble_eq_true rfl) rfl ?_
  intro p e R s m args below meth c A cx hr hnm hST hrw
  have vc := v0_
  refine g_aload_n (q := 1) cx dX3_fewest_0 rfl rfl ?_
  refine g_iload_n (q := 2) cx dX3_fewest_1 rfl rfl ?_
  refine g_cSr (q := 5) (As := [.int (iN mass)]) (wr := [(mo, .inr (2, [.int (iN th), .ref am, .ref ae, .int (iN many), .ref ap, .ref ab, .ref aw, .int (iN coins), .ref ac, .ref an, .ref a0, .ref a1, .ref a2])), (am, .inl (T.2.1 0, 7, .inl (zA masses))), (ap, .inl (T.2.1 0, 7, .inl (zA placing))), (ab, .inl (T.2.1 0, 7, .inl (zA best)))]) (st := [.ref mo]) cx hST (k_X3_isMass l hlt T mass (vc.1)) q1146 s_X3_isMass rfl g_perm0 (g_rmB rfl) (Nat.le_of_ble_eq_true rfl) dX3_fewest_2 rfl (fun v_ hv_ => ?_)
  have vc := vc.2
  obtain ⟨b_1, rfl, e_2⟩ := hv_
  subst e_2
  refine g_st (st2 := [.int (bI (decide (1 ≤ mass) && decide (mass ≤ 4000))), .ref mo]) rfl ?_
  refine g_if_eq (q := 8) (tg := 12) cx dX3_fewest_5 (by decide) rfl (fun h_3 => ?_) (fun h_3 => ?_)
  · have vc := vc.1 (bI_0.mp h_3)
    refine g_iconst (q := 13) (v := iN 1) cx dX3_fewest_12 rfl rfl ?_
    refine g_cVw (q := 16) (b := mo) (As := [.int (iN 1)]) (wr := [(am, .inl (T.2.1 0, 7, .inl (zA masses))), (ap, .inl (T.2.1 0, 7, .inl (zA placing))), (ab, .inl (T.2.1 0, 7, .inl (zA best)))]) (st := []) cx hST hrw (k_X3_goesWell l hlt T mo am ae ap ab aw ac an a0 a1 a2 th many coins 1 (by decide)) q1122 s_X3_goesWell rfl 0 rfl rfl (g_perm [1, 2, 3, 0] rfl rfl) (g_rmB rfl) (Nat.le_of_ble_eq_true rfl) dX3_fewest_13 rfl (fun v_ wn_ hv_ => ?_)
    obtain ⟨b_4, th2_5, rfl, rfl, e_6⟩ := hv_
    obtain ⟨rfl, rfl⟩ := e_6
    refine g_wp (ws2 := [(mo, .inr (2, [.int (iN 1), .ref am, .ref ae, .int (iN many), .ref ap, .ref ab, .ref aw, .int (iN coins), .ref ac, .ref an, .ref a0, .ref a1, .ref a2])), (am, .inl (T.2.1 0, 7, .inl (zA masses))), (ap, .inl (T.2.1 0, 7, .inl (zA placing))), (ab, .inl (T.2.1 0, 7, .inl (zA best)))]) (g_perm [3, 0, 1, 2] rfl rfl) ?_
    refine g_cs (cells2 := 0) (slots2 := 0) (ws2 := [(mo, .inr (2, [.int (iN 1), .ref am, .ref ae, .int (iN many), .ref ap, .ref ab, .ref aw, .int (iN coins), .ref ac, .ref an, .ref a0, .ref a1, .ref a2])), (am, .inl (T.2.1 0, 7, .inl (zA masses))), (ap, .inl (T.2.1 0, 7, .inl (zA placing))), (ab, .inl (T.2.1 0, 7, .inl (zA best)))]) rfl rfl rfl ?_
    refine g_st (st2 := [.int (bI false)]) rfl ?_
    refine g_if_eq (q := 19) (tg := 27) cx dX3_fewest_16 (by decide) rfl (fun _ => ?_) (fun h => absurd h (by decide))
    refine g_iconst (q := 28) (v := iN 0) cx dX3_fewest_27 rfl rfl ?_
    exact g_iretW cx hr rfl ⟨0, 1, placing, best, rfl, rfl, vc⟩ (by first | exact Nat.le_of_ble_eq_true rfl | omega) (by first | exact Nat.le_of_ble_eq_true rfl | omega) dX3_fewest_28
  · have vc := vc.2 (bI_n0.mp h_3)
    refine g_iconst (q := 9) (v := iN 0) cx dX3_fewest_8 rfl rfl ?_
    refine g_goto (q := 13) cx dX3_fewest_9 (by decide) ?_
    refine g_cVw (q := 16) (b := mo) (As := [.int (iN 0)]) (wr := [(am, .inl (T.2.1 0, 7, .inl (zA masses))), (ap, .inl (T.2.1 0, 7, .inl (zA placing))), (ab, .inl (T.2.1 0, 7, .inl (zA best)))]) (st := []) cx hST hrw (k_X3_goesWell l hlt T mo am ae ap ab aw ac an a0 a1 a2 th many coins 0 (by decide)) q1122 s_X3_goesWell rfl 0 rfl rfl (g_perm [1, 2, 3, 0] rfl rfl) (g_rmB rfl) (Nat.le_of_ble_eq_true rfl) dX3_fewest_13 rfl (fun v_ wn_ hv_ => ?_)
    obtain ⟨b_7, th2_8, rfl, rfl, e_9⟩ := hv_
    obtain ⟨rfl, rfl⟩ := e_9
    refine g_wp (ws2 := [(mo, .inr (2, [.int (iN 0), .ref am, .ref ae, .int (iN many), .ref ap, .ref ab, .ref aw, .int (iN coins), .ref ac, .ref an, .ref a0, .ref a1, .ref a2])), (am, .inl (T.2.1 0, 7, .inl (zA masses))), (ap, .inl (T.2.1 0, 7, .inl (zA placing))), (ab, .inl (T.2.1 0, 7, .inl (zA best)))]) (g_perm [3, 0, 1, 2] rfl rfl) ?_
    refine g_cs (cells2 := 0) (slots2 := 0) (ws2 := [(mo, .inr (2, [.int (iN 0), .ref am, .ref ae, .int (iN many), .ref ap, .ref ab, .ref aw, .int (iN coins), .ref ac, .ref an, .ref a0, .ref a1, .ref a2])), (am, .inl (T.2.1 0, 7, .inl (zA masses))), (ap, .inl (T.2.1 0, 7, .inl (zA placing))), (ab, .inl (T.2.1 0, 7, .inl (zA best)))]) rfl rfl rfl ?_
    refine g_st (st2 := [.int (bI true)]) rfl ?_
    refine g_if_eq (q := 19) (tg := 27) cx dX3_fewest_16 (by decide) rfl (fun h => absurd h (by decide)) (fun _ => ?_)
    refine g_aload_n (q := 20) cx dX3_fewest_19 rfl rfl ?_
    refine g_iload_n (q := 21) cx dX3_fewest_20 rfl rfl ?_
    refine g_cVw (q := 24) (b := mo) (As := [.int (iN mass)]) (wr := []) (st := []) cx hST hrw (k_X3_findBest l hlt T mo am ae ap ab aw ac an a0 a1 a2 0 many coins masses placing best mass n (vc.1) (vc.2.1) (vc.2.2.1) (vc.2.2.2.1)) q1181 s_X3_findBest rfl 0 rfl rfl g_perm1 (g_rmB rfl) (Nat.le_of_ble_eq_true rfl) dX3_fewest_21 rfl (fun v_ wn_ hv_ => ?_)
    have vc := vc.2
    have vc := vc.2
    have vc := vc.2
    have vc := vc.2
    obtain ⟨r_10, placing2_11, best2_12, rfl, rfl, e_13⟩ := hv_
    obtain ⟨rfl, rfl⟩ := e_13
    refine g_cs (cells2 := 0) (slots2 := 0) (ws2 := [(mo, .inr (2, [.int (iN 0), .ref am, .ref ae, .int (iN many), .ref ap, .ref ab, .ref aw, .int (iN coins), .ref ac, .ref an, .ref a0, .ref a1, .ref a2])), (am, .inl (T.2.1 0, 7, .inl (zA masses))), (ap, .inl (T.2.1 0, 7, .inl (zA placing2_11))), (ab, .inl (T.2.1 0, 7, .inl (zA (pbplac n best (pbest masses n mass (3 ^ n))))))]) rfl rfl rfl ?_
    refine g_st (st2 := [.int (iN (pbsize n (pbest masses n mass (3 ^ n))))]) rfl ?_
    have vc := vc placing2_11 
    refine g_goto (q := 28) cx dX3_fewest_24 (by decide) ?_
    exact g_iretW cx hr rfl ⟨(pbsize n (pbest masses n mass (3 ^ n))), 0, placing2_11, (pbplac n best (pbest masses n mass (3 ^ n))), rfl, rfl, vc⟩ (by first | exact Nat.le_of_ble_eq_true rfl | omega) (by first | exact Nat.le_of_ble_eq_true rfl | omega) dX3_fewest_28

theorem k_X3_fewest (l : Launch) (hlt : l.stackTraces = false) (T : GT) (mo : Nat) (am : Nat) (ae : Nat) (ap : Nat) (ab : Nat) (aw : Nat) (ac : Nat) (an : Nat) (a0 : Nat) (a1 : Nat) (a2 : Nat) (th : Int) (many : Int) (coins : Int) (masses : Nat → Int) (placing : Nat → Int) (best : Nat → Int) (mass : Int) (n : Nat) (hp0 : many = n) (hp1 : n ≤ 7) (hp2 : msOK n masses) (hp3 : -2147483648 ≤ mass ∧ mass < 2147483648) : MW l T yX3_fewest cX3_fewest 2 (some .int) ({ frames := 2, cells := 0, slots := 0, locals := 49 }) [.ref mo, .int (iN mass)] [(mo, .inr (2, [.int (iN th), .ref am, .ref ae, .int (iN many), .ref ap, .ref ab, .ref aw, .int (iN coins), .ref ac, .ref an, .ref a0, .ref a1, .ref a2])), (am, .inl (T.2.1 0, 7, .inl (zA masses))), (ap, .inl (T.2.1 0, 7, .inl (zA placing))), (ab, .inl (T.2.1 0, 7, .inl (zA best)))] (fun v_ wn_ => ∃ (r : Int), ∃ (th2 : Int), ∃ (placing2 : Nat → Int), ∃ (best2 : Nat → Int), v_ = some (.int (iN r)) ∧ wn_ = [(mo, .inr (2, [.int (iN th2), .ref am, .ref ae, .int (iN many), .ref ap, .ref ab, .ref aw, .int (iN coins), .ref ac, .ref an, .ref a0, .ref a1, .ref a2])), (am, .inl (T.2.1 0, 7, .inl (zA masses))), (ap, .inl (T.2.1 0, 7, .inl (zA placing2))), (ab, .inl (T.2.1 0, 7, .inl (zA best2)))] ∧ r = (if 1 ≤ mass ∧ mass ≤ 4000 then pbsize n (pbest masses n mass (3 ^ n)) else 0) ∧ th2 = (if 1 ≤ mass ∧ mass ≤ 4000 then 0 else 1)) 0 0 := by
  refine w_X3_fewest l hlt T mo am ae ap ab aw ac an a0 a1 a2 th many coins masses placing best mass n _ ?_
  refine ⟨hp3, fun h => ?_, fun h => ⟨hp0, hp1, hp2, hp3, fun pl => ?_⟩⟩
  all_goals (simp only [Bool.and_eq_true, Bool.and_eq_false_iff, decide_eq_true_eq, decide_eq_false_iff_not] at h)
  · exact ⟨by rw [if_neg (by omega)], by rw [if_neg (by omega)]⟩
  · exact ⟨by rw [if_pos h], by rw [if_pos h]⟩

set_option maxRecDepth 100000 in
set_option maxHeartbeats 4000000 in
theorem w_X3_leastError (l : Launch) (hlt : l.stackTraces = false) (T : GT) (mo : Nat) (am : Nat) (ae : Nat) (ap : Nat) (ab : Nat) (aw : Nat) (ac : Nat) (an : Nat) (a0 : Nat) (a1 : Nat) (a2 : Nat) (th : Int) (many : Int) (coins : Int) (masses : Nat → Int) (errors : Nat → Int) (placing : Nat → Int) (mass : Int) (n : Nat) (I25 : Int → Int → Int → (Nat → Int) → Prop) (M25 : Int → Int → Int → (Nat → Int) → g_mu) (post : Int → Int → (Nat → Int) → Prop) (v0_ : (-2147483648 ≤ mass ∧ mass < 2147483648) ∧ (((decide (1 ≤ mass) && decide (mass ≤ 4000)) = false → (post 0 1 placing)) ∧ ((decide (1 ≤ mass) && decide (mass ≤ 4000)) = true → (I25 (-1) 0 0 placing)))) (v25 : ∀ (least : Int) (number : Int) (t : Int) (pl : Nat → Int), I25 least number t pl → (many = n) ∧ ((n ≤ 7) ∧ ((-2147483648 ≤ number ∧ number < 2147483648) ∧ ((-2147483648 ≤ ((3 ^ n : Nat) : Int) ∧ ((3 ^ n : Nat) : Int) < 2147483648) ∧ ((((3 ^ n : Nat) : Int) ≤ number → (post least t pl)) ∧ (number < ((3 ^ n : Nat) : Int) → ((many = n) ∧ ((n ≤ 7) ∧ ((msOK n masses) ∧ ((0 ≤ number ∧ number < 2147483648) ∧ ((-2147483648 ≤ (psum masses n number.toNat n) ∧ (psum masses n number.toNat n) < 2147483648) ∧ ((-2147483648 ≤ mass ∧ mass < 2147483648) ∧ ((¬ (psum masses n number.toNat n) = mass → (I25 least (number + 1) t (plac n number.toNat pl) ∧ g_lt (M25 least (number + 1) t (plac n number.toNat pl)) (M25 least number t pl))) ∧ ((psum masses n number.toNat n) = mass → ((-2147483648 ≤ least ∧ least < 2147483648) ∧ ((least = (-1) → ((many = n) ∧ ((n ≤ 7) ∧ (I25 (perr errors n number.toNat) (number + 1) t (plac n number.toNat pl) ∧ g_lt (M25 (perr errors n number.toNat) (number + 1) t (plac n number.toNat pl)) (M25 least number t pl))))) ∧ (¬ least = (-1) → ((many = n) ∧ ((n ≤ 7) ∧ ((-2147483648 ≤ (perr errors n number.toNat) ∧ (perr errors n number.toNat) < 2147483648) ∧ ((-2147483648 ≤ least ∧ least < 2147483648) ∧ ((least ≤ (perr errors n number.toNat) → (I25 least (number + 1) t (plac n number.toNat pl) ∧ g_lt (M25 least (number + 1) t (plac n number.toNat pl)) (M25 least number t pl))) ∧ ((perr errors n number.toNat) < least → ((many = n) ∧ ((n ≤ 7) ∧ (I25 (perr errors n number.toNat) (number + 1) t (plac n number.toNat pl) ∧ g_lt (M25 (perr errors n number.toNat) (number + 1) t (plac n number.toNat pl)) (M25 least number t pl))))))))))))))))))))))))))) : MW l T yX3_leastError cX3_leastError 4 (some .int) ({ frames := 2, cells := 0, slots := 0, locals := 42 }) [.ref mo, .int (iN mass)] [(mo, .inr (2, [.int (iN th), .ref am, .ref ae, .int (iN many), .ref ap, .ref ab, .ref aw, .int (iN coins), .ref ac, .ref an, .ref a0, .ref a1, .ref a2])), (am, .inl (T.2.1 0, 7, .inl (zA masses))), (ae, .inl (T.2.1 0, 7, .inl (zA errors))), (ap, .inl (T.2.1 0, 7, .inl (zA placing)))] (fun v_ wn_ => ∃ (r : Int), ∃ (th2 : Int), ∃ (placing2 : Nat → Int), v_ = some (.int (iN r)) ∧ wn_ = [(mo, .inr (2, [.int (iN th2), .ref am, .ref ae, .int (iN many), .ref ap, .ref ab, .ref aw, .int (iN coins), .ref ac, .ref an, .ref a0, .ref a1, .ref a2])), (am, .inl (T.2.1 0, 7, .inl (zA masses))), (ae, .inl (T.2.1 0, 7, .inl (zA errors))), (ap, .inl (T.2.1 0, 7, .inl (zA placing2)))] ∧ post r th2 placing2) 0 0 := by
  refine MW.start hlt (by decide) (lv0 := [some (.ref mo), some (.int (iN mass)), none, none]) rfl (Nat.le_of_ble_eq_true rfl) rfl ?_
  intro p e R s m args below meth c A cx hr hnm hST hrw
  have key : ∀ μ : g_mu, (∀ (least : Int) (number : Int) (t : Int) (pl : Nat → Int), I25 least number t pl → M25 least number t pl = μ → G p l e R s m args below meth c 4 T A A (MQ below (g_Q T (fun v_ wn_ => ∃ (r : Int), ∃ (th2 : Int), ∃ (placing2 : Nat → Int), v_ = some (.int (iN r)) ∧ wn_ = [(mo, .inr (2, [.int (iN th2), .ref am, .ref ae, .int (iN many), .ref ap, .ref ab, .ref aw, .int (iN coins), .ref ac, .ref an, .ref a0, .ref a1, .ref a2])), (am, .inl (T.2.1 0, 7, .inl (zA masses))), (ae, .inl (T.2.1 0, 7, .inl (zA errors))), (ap, .inl (T.2.1 0, 7, .inl (zA placing2)))] ∧ post r th2 placing2) A) args s 0 0 A) 0 0 [(mo, .inr (2, [.int (iN t), .ref am, .ref ae, .int (iN many), .ref ap, .ref ab, .ref aw, .int (iN coins), .ref ac, .ref an, .ref a0, .ref a1, .ref a2])), (am, .inl (T.2.1 0, 7, .inl (zA masses))), (ae, .inl (T.2.1 0, 7, .inl (zA errors))), (ap, .inl (T.2.1 0, 7, .inl (zA pl)))] [some (.ref mo), some (.int (iN mass)), some (.int (iN least)), some (.int (iN number))] 25 []) := by
    refine g_ind (fun μ ih => ?_)
    · intro least number t pl hI hM
      subst hM
      have vc := v25 least number t pl hI
      refine g_iload_n (q := 26) cx dX3_leastError_25 rfl rfl ?_
      refine g_aload_n (q := 27) cx dX3_leastError_26 rfl rfl ?_
      refine g_cVr (q := 30) (b := mo) (As := []) (wr := [(am, .inl (T.2.1 0, 7, .inl (zA masses))), (ae, .inl (T.2.1 0, 7, .inl (zA errors))), (ap, .inl (T.2.1 0, 7, .inl (zA pl)))]) (st := [.int (iN number)]) cx hST (k_X3_placings l hlt T mo am ae ap ab aw ac an a0 a1 a2 t many coins n (vc.1) (vc.2.1)) q1153 s_X3_placings rfl 0 rfl rfl (g_perm [1, 2, 3, 0] rfl rfl) (g_rmB rfl) (Nat.le_of_ble_eq_true rfl) dX3_leastError_27 rfl (fun v_ hv_ => ?_)
      have vc := vc.2
      have vc := vc.2
      obtain ⟨r_1, rfl, e_2⟩ := hv_
      subst e_2
      refine g_st (st2 := [.int (iN ((3 ^ n : Nat) : Int)), .int (iN number)]) rfl ?_
      refine g_icmp_geZ (q := 33) (tg := 66) cx vc.1 vc.2.1 dX3_leastError_30 (by decide) rfl (fun h_3 => ?_) (fun h_3 => ?_)
      · have vc := vc.2.2.1 h_3
        refine g_iload_n (q := 67) cx dX3_leastError_66 rfl rfl ?_
        exact g_iretW cx hr rfl ⟨least, t, pl, rfl, rfl, vc⟩ (by first | exact Nat.le_of_ble_eq_true rfl | omega) (by first | exact Nat.le_of_ble_eq_true rfl | omega) dX3_leastError_67
      · have vc := vc.2.2.2 h_3
        refine g_aload_n (q := 34) cx dX3_leastError_33 rfl rfl ?_
        refine g_iload_n (q := 35) cx dX3_leastError_34 rfl rfl ?_
        refine g_cVw (q := 38) (b := mo) (As := [.int (iN number)]) (wr := [(ae, .inl (T.2.1 0, 7, .inl (zA errors)))]) (st := []) cx hST hrw (k_X3_place l hlt T mo am ae ap ab aw ac an a0 a1 a2 t many coins masses pl number n (vc.1) (vc.2.1) (vc.2.2.1) (vc.2.2.2.1)) q1157 s_X3_place rfl 0 rfl rfl (g_perm [2, 0, 1, 3] rfl rfl) (g_rmB rfl) (Nat.le_of_ble_eq_true rfl) dX3_leastError_35 rfl (fun v_ wn_ hv_ => ?_)
        have vc := vc.2
        have vc := vc.2
        have vc := vc.2
        have vc := vc.2
        obtain ⟨r_4, placing2_5, rfl, rfl, e_6⟩ := hv_
        obtain ⟨rfl, rfl⟩ := e_6
        refine g_wp (ws2 := [(mo, .inr (2, [.int (iN t), .ref am, .ref ae, .int (iN many), .ref ap, .ref ab, .ref aw, .int (iN coins), .ref ac, .ref an, .ref a0, .ref a1, .ref a2])), (am, .inl (T.2.1 0, 7, .inl (zA masses))), (ae, .inl (T.2.1 0, 7, .inl (zA errors))), (ap, .inl (T.2.1 0, 7, .inl (zA (plac n number.toNat pl))))]) (g_perm [1, 2, 0, 3] rfl rfl) ?_
        refine g_cs (cells2 := 0) (slots2 := 0) (ws2 := [(mo, .inr (2, [.int (iN t), .ref am, .ref ae, .int (iN many), .ref ap, .ref ab, .ref aw, .int (iN coins), .ref ac, .ref an, .ref a0, .ref a1, .ref a2])), (am, .inl (T.2.1 0, 7, .inl (zA masses))), (ae, .inl (T.2.1 0, 7, .inl (zA errors))), (ap, .inl (T.2.1 0, 7, .inl (zA (plac n number.toNat pl))))]) rfl rfl rfl ?_
        refine g_st (st2 := [.int (iN (psum masses n number.toNat n))]) rfl ?_
        refine g_iload_n (q := 39) cx dX3_leastError_38 rfl rfl ?_
        refine g_icmp_neZ (q := 42) (tg := 60) cx vc.1 vc.2.1 dX3_leastError_39 (by decide) rfl (fun h_7 => ?_) (fun h_7 => ?_)
        · have vc := vc.2.2.1 h_7
          refine g_iinc (q := 63) (v := iN (number + 1)) (lv2 := [some (.ref mo), some (.int (iN mass)), some (.int (iN least)), some (.int (iN (number + 1)))]) cx dX3_leastError_60 rfl (iN_add _ _) (by decide) rfl rfl ?_
          refine g_goto (q := 25) cx dX3_leastError_63 (by decide) ?_
          exact (ih _ vc.2) least (number + 1) t (plac n number.toNat pl) vc.1 rfl
        · have vc := vc.2.2.2 h_7
          refine g_iload_n (q := 43) cx dX3_leastError_42 rfl rfl ?_
          refine g_iconst (q := 44) (v := iN (-1)) cx dX3_leastError_43 rfl rfl ?_
          refine g_icmp_eqZ (q := 47) (tg := 55) cx vc.1 (by decide) dX3_leastError_44 (by decide) rfl (fun h_8 => ?_) (fun h_8 => ?_)
          · have vc := vc.2.1 h_8
            refine g_aload_n (q := 56) cx dX3_leastError_55 rfl rfl ?_
            refine g_cVr (q := 59) (b := mo) (As := []) (wr := [(am, .inl (T.2.1 0, 7, .inl (zA masses)))]) (st := []) cx hST (k_X3_errorOf_p l hlt T mo am ae ap ab aw ac an a0 a1 a2 t many coins errors n number.toNat pl (vc.1) (vc.2.1)) q1197 s_X3_errorOf rfl 0 rfl rfl (g_perm [1, 0, 2, 3] rfl rfl) (g_rmB rfl) (Nat.le_of_ble_eq_true rfl) dX3_leastError_56 rfl (fun v_ hv_ => ?_)
            have vc := vc.2
            have vc := vc.2
            obtain ⟨r_9, rfl, e_10⟩ := hv_
            subst e_10
            refine g_st (st2 := [.int (iN (perr errors n number.toNat))]) rfl ?_
            refine g_istore_n (q := 60) (lv2 := [some (.ref mo), some (.int (iN mass)), some (.int (iN (perr errors n number.toNat))), some (.int (iN number))]) cx dX3_leastError_59 rfl (by decide) rfl rfl ?_
            refine g_iinc (q := 63) (v := iN (number + 1)) (lv2 := [some (.ref mo), some (.int (iN mass)), some (.int (iN (perr errors n number.toNat))), some (.int (iN (number + 1)))]) cx dX3_leastError_60 rfl (iN_add _ _) (by decide) rfl rfl ?_
            refine g_goto (q := 25) cx dX3_leastError_63 (by decide) ?_
            exact (ih _ vc.2) (perr errors n number.toNat) (number + 1) t (plac n number.toNat pl) vc.1 rfl
          · have vc := vc.2.2 h_8
            refine g_aload_n (q := 48) cx dX3_leastError_47 rfl rfl ?_
            refine g_cVr (q := 51) (b := mo) (As := []) (wr := [(am, .inl (T.2.1 0, 7, .inl (zA masses)))]) (st := []) cx hST (k_X3_errorOf_p l hlt T mo am ae ap ab aw ac an a0 a1 a2 t many coins errors n number.toNat pl (vc.1) (vc.2.1)) q1197 s_X3_errorOf rfl 0 rfl rfl (g_perm [1, 0, 2, 3] rfl rfl) (g_rmB rfl) (Nat.le_of_ble_eq_true rfl) dX3_leastError_48 rfl (fun v_ hv_ => ?_)
            have vc := vc.2
            have vc := vc.2
            obtain ⟨r_11, rfl, e_12⟩ := hv_
            subst e_12
            refine g_st (st2 := [.int (iN (perr errors n number.toNat))]) rfl ?_
            refine g_iload_n (q := 52) cx dX3_leastError_51 rfl rfl ?_
            refine g_icmp_geZ (q := 55) (tg := 60) cx vc.1 vc.2.1 dX3_leastError_52 (by decide) rfl (fun h_13 => ?_) (fun h_13 => ?_)
            · have vc := vc.2.2.1 h_13
              refine g_iinc (q := 63) (v := iN (number + 1)) (lv2 := [some (.ref mo), some (.int (iN mass)), some (.int (iN least)), some (.int (iN (number + 1)))]) cx dX3_leastError_60 rfl (iN_add _ _) (by decide) rfl rfl ?_
              refine g_goto (q := 25) cx dX3_leastError_63 (by decide) ?_
              exact (ih _ vc.2) least (number + 1) t (plac n number.toNat pl) vc.1 rfl
            · have vc := vc.2.2.2 h_13
              refine g_aload_n (q := 56) cx dX3_leastError_55 rfl rfl ?_
              refine g_cVr (q := 59) (b := mo) (As := []) (wr := [(am, .inl (T.2.1 0, 7, .inl (zA masses)))]) (st := []) cx hST (k_X3_errorOf_p l hlt T mo am ae ap ab aw ac an a0 a1 a2 t many coins errors n number.toNat pl (vc.1) (vc.2.1)) q1197 s_X3_errorOf rfl 0 rfl rfl (g_perm [1, 0, 2, 3] rfl rfl) (g_rmB rfl) (Nat.le_of_ble_eq_true rfl) dX3_leastError_56 rfl (fun v_ hv_ => ?_)
              have vc := vc.2
              have vc := vc.2
              obtain ⟨r_14, rfl, e_15⟩ := hv_
              subst e_15
              refine g_st (st2 := [.int (iN (perr errors n number.toNat))]) rfl ?_
              refine g_istore_n (q := 60) (lv2 := [some (.ref mo), some (.int (iN mass)), some (.int (iN (perr errors n number.toNat))), some (.int (iN number))]) cx dX3_leastError_59 rfl (by decide) rfl rfl ?_
              refine g_iinc (q := 63) (v := iN (number + 1)) (lv2 := [some (.ref mo), some (.int (iN mass)), some (.int (iN (perr errors n number.toNat))), some (.int (iN (number + 1)))]) cx dX3_leastError_60 rfl (iN_add _ _) (by decide) rfl rfl ?_
              refine g_goto (q := 25) cx dX3_leastError_63 (by decide) ?_
              exact (ih _ vc.2) (perr errors n number.toNat) (number + 1) t (plac n number.toNat pl) vc.1 rfl
  have vc := v0_
  refine g_aload_n (q := 1) cx dX3_leastError_0 rfl rfl ?_
  refine g_iload_n (q := 2) cx dX3_leastError_1 rfl rfl ?_
  refine g_cSr (q := 5) (As := [.int (iN mass)]) (wr := [(mo, .inr (2, [.int (iN th), .ref am, .ref ae, .int (iN many), .ref ap, .ref ab, .ref aw, .int (iN coins), .ref ac, .ref an, .ref a0, .ref a1, .ref a2])), (am, .inl (T.2.1 0, 7, .inl (zA masses))), (ae, .inl (T.2.1 0, 7, .inl (zA errors))), (ap, .inl (T.2.1 0, 7, .inl (zA placing)))]) (st := [.ref mo]) cx hST (k_X3_isMass l hlt T mass (vc.1)) q1146 s_X3_isMass rfl g_perm0 (g_rmB rfl) (Nat.le_of_ble_eq_true rfl) dX3_leastError_2 rfl (fun v_ hv_ => ?_)
  have vc := vc.2
  obtain ⟨b_16, rfl, e_17⟩ := hv_
  subst e_17
  refine g_st (st2 := [.int (bI (decide (1 ≤ mass) && decide (mass ≤ 4000))), .ref mo]) rfl ?_
  refine g_if_eq (q := 8) (tg := 12) cx dX3_leastError_5 (by decide) rfl (fun h_18 => ?_) (fun h_18 => ?_)
  · have vc := vc.1 (bI_0.mp h_18)
    refine g_iconst (q := 13) (v := iN 1) cx dX3_leastError_12 rfl rfl ?_
    refine g_cVw (q := 16) (b := mo) (As := [.int (iN 1)]) (wr := [(am, .inl (T.2.1 0, 7, .inl (zA masses))), (ae, .inl (T.2.1 0, 7, .inl (zA errors))), (ap, .inl (T.2.1 0, 7, .inl (zA placing)))]) (st := []) cx hST hrw (k_X3_goesWell l hlt T mo am ae ap ab aw ac an a0 a1 a2 th many coins 1 (by decide)) q1122 s_X3_goesWell rfl 0 rfl rfl (g_perm [1, 2, 3, 0] rfl rfl) (g_rmB rfl) (Nat.le_of_ble_eq_true rfl) dX3_leastError_13 rfl (fun v_ wn_ hv_ => ?_)
    obtain ⟨b_19, th2_20, rfl, rfl, e_21⟩ := hv_
    obtain ⟨rfl, rfl⟩ := e_21
    refine g_wp (ws2 := [(mo, .inr (2, [.int (iN 1), .ref am, .ref ae, .int (iN many), .ref ap, .ref ab, .ref aw, .int (iN coins), .ref ac, .ref an, .ref a0, .ref a1, .ref a2])), (am, .inl (T.2.1 0, 7, .inl (zA masses))), (ae, .inl (T.2.1 0, 7, .inl (zA errors))), (ap, .inl (T.2.1 0, 7, .inl (zA placing)))]) (g_perm [3, 0, 1, 2] rfl rfl) ?_
    refine g_cs (cells2 := 0) (slots2 := 0) (ws2 := [(mo, .inr (2, [.int (iN 1), .ref am, .ref ae, .int (iN many), .ref ap, .ref ab, .ref aw, .int (iN coins), .ref ac, .ref an, .ref a0, .ref a1, .ref a2])), (am, .inl (T.2.1 0, 7, .inl (zA masses))), (ae, .inl (T.2.1 0, 7, .inl (zA errors))), (ap, .inl (T.2.1 0, 7, .inl (zA placing)))]) rfl rfl rfl ?_
    refine g_st (st2 := [.int (bI false)]) rfl ?_
    refine g_if_ne (q := 19) (tg := 21) cx dX3_leastError_16 (by decide) rfl (fun h => absurd h (by decide)) (fun _ => ?_)
    refine g_iconst (q := 20) (v := iN 0) cx dX3_leastError_19 rfl rfl ?_
    exact g_iretW cx hr rfl ⟨0, 1, placing, rfl, rfl, vc⟩ (by first | exact Nat.le_of_ble_eq_true rfl | omega) (by first | exact Nat.le_of_ble_eq_true rfl | omega) dX3_leastError_20
  · have vc := vc.2 (bI_n0.mp h_18)
    refine g_iconst (q := 9) (v := iN 0) cx dX3_leastError_8 rfl rfl ?_
    refine g_goto (q := 13) cx dX3_leastError_9 (by decide) ?_
    refine g_cVw (q := 16) (b := mo) (As := [.int (iN 0)]) (wr := [(am, .inl (T.2.1 0, 7, .inl (zA masses))), (ae, .inl (T.2.1 0, 7, .inl (zA errors))), (ap, .inl (T.2.1 0, 7, .inl (zA placing)))]) (st := []) cx hST hrw (k_X3_goesWell l hlt T mo am ae ap ab aw ac an a0 a1 a2 th many coins 0 (by decide)) q1122 s_X3_goesWell rfl 0 rfl rfl (g_perm [1, 2, 3, 0] rfl rfl) (g_rmB rfl) (Nat.le_of_ble_eq_true rfl) dX3_leastError_13 rfl (fun v_ wn_ hv_ => ?_)
    obtain ⟨b_22, th2_23, rfl, rfl, e_24⟩ := hv_
    obtain ⟨rfl, rfl⟩ := e_24
    refine g_wp (ws2 := [(mo, .inr (2, [.int (iN 0), .ref am, .ref ae, .int (iN many), .ref ap, .ref ab, .ref aw, .int (iN coins), .ref ac, .ref an, .ref a0, .ref a1, .ref a2])), (am, .inl (T.2.1 0, 7, .inl (zA masses))), (ae, .inl (T.2.1 0, 7, .inl (zA errors))), (ap, .inl (T.2.1 0, 7, .inl (zA placing)))]) (g_perm [3, 0, 1, 2] rfl rfl) ?_
    refine g_cs (cells2 := 0) (slots2 := 0) (ws2 := [(mo, .inr (2, [.int (iN 0), .ref am, .ref ae, .int (iN many), .ref ap, .ref ab, .ref aw, .int (iN coins), .ref ac, .ref an, .ref a0, .ref a1, .ref a2])), (am, .inl (T.2.1 0, 7, .inl (zA masses))), (ae, .inl (T.2.1 0, 7, .inl (zA errors))), (ap, .inl (T.2.1 0, 7, .inl (zA placing)))]) rfl rfl rfl ?_
    refine g_st (st2 := [.int (bI true)]) rfl ?_
    refine g_if_ne (q := 19) (tg := 21) cx dX3_leastError_16 (by decide) rfl (fun _ => ?_) (fun h => absurd h (by decide))
    refine g_iconst (q := 22) (v := iN (-1)) cx dX3_leastError_21 rfl rfl ?_
    refine g_istore_n (q := 23) (lv2 := [some (.ref mo), some (.int (iN mass)), some (.int (iN (-1))), none]) cx dX3_leastError_22 rfl (by decide) rfl rfl ?_
    refine g_iconst (q := 24) (v := iN 0) cx dX3_leastError_23 rfl rfl ?_
    refine g_istore_n (q := 25) (lv2 := [some (.ref mo), some (.int (iN mass)), some (.int (iN (-1))), some (.int (iN 0))]) cx dX3_leastError_24 rfl (by decide) rfl rfl ?_
    exact (key _) (-1) 0 0 placing vc rfl

theorem k_X3_leastError (l : Launch) (hlt : l.stackTraces = false) (T : GT) (mo : Nat) (am : Nat) (ae : Nat) (ap : Nat) (ab : Nat) (aw : Nat) (ac : Nat) (an : Nat) (a0 : Nat) (a1 : Nat) (a2 : Nat) (th : Int) (many : Int) (coins : Int) (masses : Nat → Int) (errors : Nat → Int) (placing : Nat → Int) (mass : Int) (n : Nat) (hp0 : many = n) (hp1 : n ≤ 7) (hp2 : msOK n masses) (hp3 : esOK n errors) (hp4 : -2147483648 ≤ mass ∧ mass < 2147483648) : MW l T yX3_leastError cX3_leastError 4 (some .int) ({ frames := 2, cells := 0, slots := 0, locals := 42 }) [.ref mo, .int (iN mass)] [(mo, .inr (2, [.int (iN th), .ref am, .ref ae, .int (iN many), .ref ap, .ref ab, .ref aw, .int (iN coins), .ref ac, .ref an, .ref a0, .ref a1, .ref a2])), (am, .inl (T.2.1 0, 7, .inl (zA masses))), (ae, .inl (T.2.1 0, 7, .inl (zA errors))), (ap, .inl (T.2.1 0, 7, .inl (zA placing)))] (fun v_ wn_ => ∃ (r : Int), ∃ (th2 : Int), ∃ (placing2 : Nat → Int), v_ = some (.int (iN r)) ∧ wn_ = [(mo, .inr (2, [.int (iN th2), .ref am, .ref ae, .int (iN many), .ref ap, .ref ab, .ref aw, .int (iN coins), .ref ac, .ref an, .ref a0, .ref a1, .ref a2])), (am, .inl (T.2.1 0, 7, .inl (zA masses))), (ae, .inl (T.2.1 0, 7, .inl (zA errors))), (ap, .inl (T.2.1 0, 7, .inl (zA placing2)))] ∧ r = (if 1 ≤ mass ∧ mass ≤ 4000 then plerr masses errors n mass (3 ^ n) else 0) ∧ th2 = (if 1 ≤ mass ∧ mass ≤ 4000 then 0 else 1)) 0 0 := by
  refine w_X3_leastError l hlt T mo am ae ap ab aw ac an a0 a1 a2 th many coins masses errors placing mass n (I25 := fun least number t _ => ∃ j : Nat, j ≤ 3 ^ n ∧ number = j ∧ t = 0 ∧ (1 ≤ mass ∧ mass ≤ 4000) ∧ least = plerr masses errors n mass j) (M25 := fun _ number _ _ => (0, 0, 0, (2187 - number).toNat)) _ ?_ ?_
  · refine ⟨hp4, fun h => ?_, fun h => ?_⟩
    all_goals (simp only [Bool.and_eq_true, Bool.and_eq_false_iff, decide_eq_true_eq, decide_eq_false_iff_not] at h)
    · exact ⟨by rw [if_neg (by omega)], by rw [if_neg (by omega)]⟩
    · exact ⟨0, Nat.zero_le _, rfl, rfl, h, rfl⟩
  · subst hp0
    have h3 := pow3_7 hp1
    rintro least number t pl ⟨j, hj, rfl, rfl, hm, rfl⟩
    have hs := psum_in (p := j) hp2 hp1
    have he := perr_in (p := j) hp3
    have hb := plerr_in (ms := masses) (mass := mass) hp3 j
    have stp : plerr masses errors n mass (j + 1) = if psum masses n j n = mass ∧ (plerr masses errors n mass j = -1 ∨ perr errors n j < plerr masses errors n mass j) then perr errors n j else plerr masses errors n mass j := rfl
    refine ⟨rfl, hp1, by omega, by omega, fun h => ?_, fun h => ⟨rfl, hp1, hp2, by omega, ?_⟩⟩
    · rw [show 3 ^ n = j by omega, if_pos hm, if_pos hm]
      exact ⟨rfl, rfl⟩
    · simp only [Int.toNat_natCast]
      refine ⟨by omega, hp4, fun h1 => ?_, fun h1 => ⟨by omega, fun h2 => ⟨trivial, hp1, ?_⟩, fun h2 => ⟨trivial, hp1, by omega, by omega, fun h3 => ?_, fun h3 => ⟨trivial, hp1, ?_⟩⟩⟩⟩
      · exact ⟨⟨j + 1, by omega, rfl, trivial, hm, by rw [stp, if_neg (fun z => h1 z.1)]⟩, g_ltI (by omega)⟩
      · exact ⟨⟨j + 1, by omega, rfl, trivial, hm, by rw [stp, if_pos ⟨h1, Or.inl h2⟩]⟩, g_ltI (by omega)⟩
      · exact ⟨⟨j + 1, by omega, rfl, trivial, hm, by rw [stp, if_neg (by omega)]⟩, g_ltI (by omega)⟩
      · exact ⟨⟨j + 1, by omega, rfl, trivial, hm, by rw [stp, if_pos ⟨h1, Or.inr h3⟩]⟩, g_ltI (by omega)⟩

set_option maxRecDepth 100000 in
set_option maxHeartbeats 4000000 in
theorem w_X3_canWeighOnOnePan (l : Launch) (hlt : l.stackTraces = false) (T : GT) (mo : Nat) (am : Nat) (ae : Nat) (ap : Nat) (ab : Nat) (aw : Nat) (ac : Nat) (an : Nat) (a0 : Nat) (a1 : Nat) (a2 : Nat) (th : Int) (many : Int) (coins : Int) (masses : Nat → Int) (placing : Nat → Int) (mass : Int) (n : Nat) (I25 : Bool → Int → Int → (Nat → Int) → Prop) (M25 : Bool → Int → Int → (Nat → Int) → g_mu) (post : Bool → Int → (Nat → Int) → Prop) (v0_ : (-2147483648 ≤ mass ∧ mass < 2147483648) ∧ (((decide (1 ≤ mass) && decide (mass ≤ 4000)) = false → (post false 1 placing)) ∧ ((decide (1 ≤ mass) && decide (mass ≤ 4000)) = true → (I25 false 0 0 placing)))) (v25 : ∀ (can : Bool) (number : Int) (t : Int) (pl : Nat → Int), I25 can number t pl → (many = n) ∧ ((n ≤ 7) ∧ ((-2147483648 ≤ number ∧ number < 2147483648) ∧ ((-2147483648 ≤ ((3 ^ n : Nat) : Int) ∧ ((3 ^ n : Nat) : Int) < 2147483648) ∧ ((((3 ^ n : Nat) : Int) ≤ number → (post can t pl)) ∧ (number < ((3 ^ n : Nat) : Int) → ((can = true → (I25 true (number + 1) t pl ∧ g_lt (M25 true (number + 1) t pl) (M25 can number t pl))) ∧ (can = false → ((many = n) ∧ ((n ≤ 7) ∧ ((msOK n masses) ∧ ((0 ≤ number ∧ number < 2147483648) ∧ ((-2147483648 ≤ (psum masses n number.toNat n) ∧ (psum masses n number.toNat n) < 2147483648) ∧ ((-2147483648 ≤ mass ∧ mass < 2147483648) ∧ ((¬ (psum masses n number.toNat n) = mass → (I25 false (number + 1) t (plac n number.toNat pl) ∧ g_lt (M25 false (number + 1) t (plac n number.toNat pl)) (M25 can number t pl))) ∧ ((psum masses n number.toNat n) = mass → ((many = n) ∧ ((n ≤ 7) ∧ ((-2147483648 ≤ ((pleft n number.toNat : Nat) : Int) ∧ ((pleft n number.toNat : Nat) : Int) < 2147483648) ∧ ((¬ ((pleft n number.toNat : Nat) : Int) = 0 → (I25 false (number + 1) t (plac n number.toNat pl) ∧ g_lt (M25 false (number + 1) t (plac n number.toNat pl)) (M25 can number t pl))) ∧ (((pleft n number.toNat : Nat) : Int) = 0 → (I25 true (number + 1) t (plac n number.toNat pl) ∧ g_lt (M25 true (number + 1) t (plac n number.toNat pl)) (M25 can number t pl))))))))))))))))))))))) : MW l T yX3_canWeighOnOnePan cX3_canWeighOnOnePan 4 (some .boolean) ({ frames := 2, cells := 0, slots := 0, locals := 42 }) [.ref mo, .int (iN mass)] [(mo, .inr (2, [.int (iN th), .ref am, .ref ae, .int (iN many), .ref ap, .ref ab, .ref aw, .int (iN coins), .ref ac, .ref an, .ref a0, .ref a1, .ref a2])), (am, .inl (T.2.1 0, 7, .inl (zA masses))), (ap, .inl (T.2.1 0, 7, .inl (zA placing)))] (fun v_ wn_ => ∃ (b : Bool), ∃ (th2 : Int), ∃ (placing2 : Nat → Int), v_ = some (.int (bI b)) ∧ wn_ = [(mo, .inr (2, [.int (iN th2), .ref am, .ref ae, .int (iN many), .ref ap, .ref ab, .ref aw, .int (iN coins), .ref ac, .ref an, .ref a0, .ref a1, .ref a2])), (am, .inl (T.2.1 0, 7, .inl (zA masses))), (ap, .inl (T.2.1 0, 7, .inl (zA placing2)))] ∧ post b th2 placing2) 0 0 := by
  refine MW.start hlt (by decide) (lv0 := [some (.ref mo), some (.int (iN mass)), none, none]) rfl (Nat.le_of_ble_eq_true rfl) rfl ?_
  intro p e R s m args below meth c A cx hr hnm hST hrw
  have key : ∀ μ : g_mu, (∀ (can : Bool) (number : Int) (t : Int) (pl : Nat → Int), I25 can number t pl → M25 can number t pl = μ → G p l e R s m args below meth c 4 T A A (MQ below (g_Q T (fun v_ wn_ => ∃ (b : Bool), ∃ (th2 : Int), ∃ (placing2 : Nat → Int), v_ = some (.int (bI b)) ∧ wn_ = [(mo, .inr (2, [.int (iN th2), .ref am, .ref ae, .int (iN many), .ref ap, .ref ab, .ref aw, .int (iN coins), .ref ac, .ref an, .ref a0, .ref a1, .ref a2])), (am, .inl (T.2.1 0, 7, .inl (zA masses))), (ap, .inl (T.2.1 0, 7, .inl (zA placing2)))] ∧ post b th2 placing2) A) args s 0 0 A) 0 0 [(mo, .inr (2, [.int (iN t), .ref am, .ref ae, .int (iN many), .ref ap, .ref ab, .ref aw, .int (iN coins), .ref ac, .ref an, .ref a0, .ref a1, .ref a2])), (am, .inl (T.2.1 0, 7, .inl (zA masses))), (ap, .inl (T.2.1 0, 7, .inl (zA pl)))] [some (.ref mo), some (.int (iN mass)), some (.int (bI can)), some (.int (iN number))] 25 []) := by
    refine g_ind (fun μ ih => ?_)
    · intro can number t pl hI hM
      subst hM
      have vc := v25 can number t pl hI
      refine g_iload_n (q := 26) cx dX3_canWeighOnOnePan_25 rfl rfl ?_
      refine g_aload_n (q := 27) cx dX3_canWeighOnOnePan_26 rfl rfl ?_
      refine g_cVr (q := 30) (b := mo) (As := []) (wr := [(am, .inl (T.2.1 0, 7, .inl (zA masses))), (ap, .inl (T.2.1 0, 7, .inl (zA pl)))]) (st := [.int (iN number)]) cx hST (k_X3_placings l hlt T mo am ae ap ab aw ac an a0 a1 a2 t many coins n (vc.1) (vc.2.1)) q1153 s_X3_placings rfl 0 rfl rfl (g_perm [1, 2, 0] rfl rfl) (g_rmB rfl) (Nat.le_of_ble_eq_true rfl) dX3_canWeighOnOnePan_27 rfl (fun v_ hv_ => ?_)
      have vc := vc.2
      have vc := vc.2
      obtain ⟨r_1, rfl, e_2⟩ := hv_
      subst e_2
      refine g_st (st2 := [.int (iN ((3 ^ n : Nat) : Int)), .int (iN number)]) rfl ?_
      refine g_icmp_geZ (q := 33) (tg := 65) cx vc.1 vc.2.1 dX3_canWeighOnOnePan_30 (by decide) rfl (fun h_3 => ?_) (fun h_3 => ?_)
      · have vc := vc.2.2.1 h_3
        refine g_iload_n (q := 66) cx dX3_canWeighOnOnePan_65 rfl rfl ?_
        exact g_iretW cx hr (narrow_bI _) ⟨can, t, pl, rfl, rfl, vc⟩ (by first | exact Nat.le_of_ble_eq_true rfl | omega) (by first | exact Nat.le_of_ble_eq_true rfl | omega) dX3_canWeighOnOnePan_66
      · have vc := vc.2.2.2 h_3
        refine g_iload_n (q := 34) cx dX3_canWeighOnOnePan_33 rfl rfl ?_
        refine g_if_ne (q := 37) (tg := 53) cx dX3_canWeighOnOnePan_34 (by decide) rfl (fun h_4 => ?_) (fun h_4 => ?_)
        · have vc := vc.1 (bI_n0.mp h_4)
          refine g_iconst (q := 54) (v := iN 1) cx dX3_canWeighOnOnePan_53 rfl rfl ?_
          refine g_goto (q := 58) cx dX3_canWeighOnOnePan_54 (by decide) ?_
          refine g_istore_n (q := 59) (lv2 := [some (.ref mo), some (.int (iN mass)), some (.int (iN 1)), some (.int (iN number))]) cx dX3_canWeighOnOnePan_58 rfl (by decide) rfl rfl ?_
          refine g_iinc (q := 62) (v := iN (number + 1)) (lv2 := [some (.ref mo), some (.int (iN mass)), some (.int (iN 1)), some (.int (iN (number + 1)))]) cx dX3_canWeighOnOnePan_59 rfl (iN_add _ _) (by decide) rfl rfl ?_
          refine g_goto (q := 25) cx dX3_canWeighOnOnePan_62 (by decide) ?_
          exact (ih _ vc.2) true (number + 1) t pl vc.1 rfl
        · have vc := vc.2 (bI_0.mp h_4)
          refine g_aload_n (q := 38) cx dX3_canWeighOnOnePan_37 rfl rfl ?_
          refine g_iload_n (q := 39) cx dX3_canWeighOnOnePan_38 rfl rfl ?_
          refine g_cVw (q := 42) (b := mo) (As := [.int (iN number)]) (wr := []) (st := []) cx hST hrw (k_X3_place l hlt T mo am ae ap ab aw ac an a0 a1 a2 t many coins masses pl number n (vc.1) (vc.2.1) (vc.2.2.1) (vc.2.2.2.1)) q1157 s_X3_place rfl 0 rfl rfl g_perm1 (g_rmB rfl) (Nat.le_of_ble_eq_true rfl) dX3_canWeighOnOnePan_39 rfl (fun v_ wn_ hv_ => ?_)
          have vc := vc.2
          have vc := vc.2
          have vc := vc.2
          have vc := vc.2
          obtain ⟨r_5, placing2_6, rfl, rfl, e_7⟩ := hv_
          obtain ⟨rfl, rfl⟩ := e_7
          refine g_cs (cells2 := 0) (slots2 := 0) (ws2 := [(mo, .inr (2, [.int (iN t), .ref am, .ref ae, .int (iN many), .ref ap, .ref ab, .ref aw, .int (iN coins), .ref ac, .ref an, .ref a0, .ref a1, .ref a2])), (am, .inl (T.2.1 0, 7, .inl (zA masses))), (ap, .inl (T.2.1 0, 7, .inl (zA (plac n number.toNat pl))))]) rfl rfl rfl ?_
          refine g_st (st2 := [.int (iN (psum masses n number.toNat n))]) rfl ?_
          refine g_iload_n (q := 43) cx dX3_canWeighOnOnePan_42 rfl rfl ?_
          refine g_icmp_neZ (q := 46) (tg := 57) cx vc.1 vc.2.1 dX3_canWeighOnOnePan_43 (by decide) rfl (fun h_8 => ?_) (fun h_8 => ?_)
          · have vc := vc.2.2.1 h_8
            refine g_iconst (q := 58) (v := iN 0) cx dX3_canWeighOnOnePan_57 rfl rfl ?_
            refine g_istore_n (q := 59) (lv2 := [some (.ref mo), some (.int (iN mass)), some (.int (iN 0)), some (.int (iN number))]) cx dX3_canWeighOnOnePan_58 rfl (by decide) rfl rfl ?_
            refine g_iinc (q := 62) (v := iN (number + 1)) (lv2 := [some (.ref mo), some (.int (iN mass)), some (.int (iN 0)), some (.int (iN (number + 1)))]) cx dX3_canWeighOnOnePan_59 rfl (iN_add _ _) (by decide) rfl rfl ?_
            refine g_goto (q := 25) cx dX3_canWeighOnOnePan_62 (by decide) ?_
            exact (ih _ vc.2) false (number + 1) t (plac n number.toNat pl) vc.1 rfl
          · have vc := vc.2.2.2 h_8
            refine g_aload_n (q := 47) cx dX3_canWeighOnOnePan_46 rfl rfl ?_
            refine g_cVr (q := 50) (b := mo) (As := []) (wr := [(am, .inl (T.2.1 0, 7, .inl (zA masses)))]) (st := []) cx hST (k_X3_leftOf_p l hlt T mo am ae ap ab aw ac an a0 a1 a2 t many coins n number.toNat pl (vc.1) (vc.2.1)) q1165 s_X3_leftOf rfl 0 rfl rfl (g_perm [1, 0, 2] rfl rfl) (g_rmB rfl) (Nat.le_of_ble_eq_true rfl) dX3_canWeighOnOnePan_47 rfl (fun v_ hv_ => ?_)
            have vc := vc.2
            have vc := vc.2
            obtain ⟨r_9, rfl, e_10⟩ := hv_
            subst e_10
            refine g_st (st2 := [.int (iN ((pleft n number.toNat : Nat) : Int))]) rfl ?_
            refine g_if_neZ (q := 53) (tg := 57) cx vc.1 dX3_canWeighOnOnePan_50 (by decide) rfl (fun h_11 => ?_) (fun h_11 => ?_)
            · have vc := vc.2.1 h_11
              refine g_iconst (q := 58) (v := iN 0) cx dX3_canWeighOnOnePan_57 rfl rfl ?_
              refine g_istore_n (q := 59) (lv2 := [some (.ref mo), some (.int (iN mass)), some (.int (iN 0)), some (.int (iN number))]) cx dX3_canWeighOnOnePan_58 rfl (by decide) rfl rfl ?_
              refine g_iinc (q := 62) (v := iN (number + 1)) (lv2 := [some (.ref mo), some (.int (iN mass)), some (.int (iN 0)), some (.int (iN (number + 1)))]) cx dX3_canWeighOnOnePan_59 rfl (iN_add _ _) (by decide) rfl rfl ?_
              refine g_goto (q := 25) cx dX3_canWeighOnOnePan_62 (by decide) ?_
              exact (ih _ vc.2) false (number + 1) t (plac n number.toNat pl) vc.1 rfl
            · have vc := vc.2.2 h_11
              refine g_iconst (q := 54) (v := iN 1) cx dX3_canWeighOnOnePan_53 rfl rfl ?_
              refine g_goto (q := 58) cx dX3_canWeighOnOnePan_54 (by decide) ?_
              refine g_istore_n (q := 59) (lv2 := [some (.ref mo), some (.int (iN mass)), some (.int (iN 1)), some (.int (iN number))]) cx dX3_canWeighOnOnePan_58 rfl (by decide) rfl rfl ?_
              refine g_iinc (q := 62) (v := iN (number + 1)) (lv2 := [some (.ref mo), some (.int (iN mass)), some (.int (iN 1)), some (.int (iN (number + 1)))]) cx dX3_canWeighOnOnePan_59 rfl (iN_add _ _) (by decide) rfl rfl ?_
              refine g_goto (q := 25) cx dX3_canWeighOnOnePan_62 (by decide) ?_
              exact (ih _ vc.2) true (number + 1) t (plac n number.toNat pl) vc.1 rfl
  have vc := v0_
  refine g_aload_n (q := 1) cx dX3_canWeighOnOnePan_0 rfl rfl ?_
  refine g_iload_n (q := 2) cx dX3_canWeighOnOnePan_1 rfl rfl ?_
  refine g_cSr (q := 5) (As := [.int (iN mass)]) (wr := [(mo, .inr (2, [.int (iN th), .ref am, .ref ae, .int (iN many), .ref ap, .ref ab, .ref aw, .int (iN coins), .ref ac, .ref an, .ref a0, .ref a1, .ref a2])), (am, .inl (T.2.1 0, 7, .inl (zA masses))), (ap, .inl (T.2.1 0, 7, .inl (zA placing)))]) (st := [.ref mo]) cx hST (k_X3_isMass l hlt T mass (vc.1)) q1146 s_X3_isMass rfl g_perm0 (g_rmB rfl) (Nat.le_of_ble_eq_true rfl) dX3_canWeighOnOnePan_2 rfl (fun v_ hv_ => ?_)
  have vc := vc.2
  obtain ⟨b_12, rfl, e_13⟩ := hv_
  subst e_13
  refine g_st (st2 := [.int (bI (decide (1 ≤ mass) && decide (mass ≤ 4000))), .ref mo]) rfl ?_
  refine g_if_eq (q := 8) (tg := 12) cx dX3_canWeighOnOnePan_5 (by decide) rfl (fun h_14 => ?_) (fun h_14 => ?_)
  · have vc := vc.1 (bI_0.mp h_14)
    refine g_iconst (q := 13) (v := iN 1) cx dX3_canWeighOnOnePan_12 rfl rfl ?_
    refine g_cVw (q := 16) (b := mo) (As := [.int (iN 1)]) (wr := [(am, .inl (T.2.1 0, 7, .inl (zA masses))), (ap, .inl (T.2.1 0, 7, .inl (zA placing)))]) (st := []) cx hST hrw (k_X3_goesWell l hlt T mo am ae ap ab aw ac an a0 a1 a2 th many coins 1 (by decide)) q1122 s_X3_goesWell rfl 0 rfl rfl (g_perm [1, 2, 0] rfl rfl) (g_rmB rfl) (Nat.le_of_ble_eq_true rfl) dX3_canWeighOnOnePan_13 rfl (fun v_ wn_ hv_ => ?_)
    obtain ⟨b_15, th2_16, rfl, rfl, e_17⟩ := hv_
    obtain ⟨rfl, rfl⟩ := e_17
    refine g_wp (ws2 := [(mo, .inr (2, [.int (iN 1), .ref am, .ref ae, .int (iN many), .ref ap, .ref ab, .ref aw, .int (iN coins), .ref ac, .ref an, .ref a0, .ref a1, .ref a2])), (am, .inl (T.2.1 0, 7, .inl (zA masses))), (ap, .inl (T.2.1 0, 7, .inl (zA placing)))]) (g_perm [2, 0, 1] rfl rfl) ?_
    refine g_cs (cells2 := 0) (slots2 := 0) (ws2 := [(mo, .inr (2, [.int (iN 1), .ref am, .ref ae, .int (iN many), .ref ap, .ref ab, .ref aw, .int (iN coins), .ref ac, .ref an, .ref a0, .ref a1, .ref a2])), (am, .inl (T.2.1 0, 7, .inl (zA masses))), (ap, .inl (T.2.1 0, 7, .inl (zA placing)))]) rfl rfl rfl ?_
    refine g_st (st2 := [.int (bI false)]) rfl ?_
    refine g_if_ne (q := 19) (tg := 21) cx dX3_canWeighOnOnePan_16 (by decide) rfl (fun h => absurd h (by decide)) (fun _ => ?_)
    refine g_iconst (q := 20) (v := iN 0) cx dX3_canWeighOnOnePan_19 rfl rfl ?_
    exact g_iretW cx hr (by decide) ⟨false, 1, placing, rfl, rfl, vc⟩ (by first | exact Nat.le_of_ble_eq_true rfl | omega) (by first | exact Nat.le_of_ble_eq_true rfl | omega) dX3_canWeighOnOnePan_20
  · have vc := vc.2 (bI_n0.mp h_14)
    refine g_iconst (q := 9) (v := iN 0) cx dX3_canWeighOnOnePan_8 rfl rfl ?_
    refine g_goto (q := 13) cx dX3_canWeighOnOnePan_9 (by decide) ?_
    refine g_cVw (q := 16) (b := mo) (As := [.int (iN 0)]) (wr := [(am, .inl (T.2.1 0, 7, .inl (zA masses))), (ap, .inl (T.2.1 0, 7, .inl (zA placing)))]) (st := []) cx hST hrw (k_X3_goesWell l hlt T mo am ae ap ab aw ac an a0 a1 a2 th many coins 0 (by decide)) q1122 s_X3_goesWell rfl 0 rfl rfl (g_perm [1, 2, 0] rfl rfl) (g_rmB rfl) (Nat.le_of_ble_eq_true rfl) dX3_canWeighOnOnePan_13 rfl (fun v_ wn_ hv_ => ?_)
    obtain ⟨b_18, th2_19, rfl, rfl, e_20⟩ := hv_
    obtain ⟨rfl, rfl⟩ := e_20
    refine g_wp (ws2 := [(mo, .inr (2, [.int (iN 0), .ref am, .ref ae, .int (iN many), .ref ap, .ref ab, .ref aw, .int (iN coins), .ref ac, .ref an, .ref a0, .ref a1, .ref a2])), (am, .inl (T.2.1 0, 7, .inl (zA masses))), (ap, .inl (T.2.1 0, 7, .inl (zA placing)))]) (g_perm [2, 0, 1] rfl rfl) ?_
    refine g_cs (cells2 := 0) (slots2 := 0) (ws2 := [(mo, .inr (2, [.int (iN 0), .ref am, .ref ae, .int (iN many), .ref ap, .ref ab, .ref aw, .int (iN coins), .ref ac, .ref an, .ref a0, .ref a1, .ref a2])), (am, .inl (T.2.1 0, 7, .inl (zA masses))), (ap, .inl (T.2.1 0, 7, .inl (zA placing)))]) rfl rfl rfl ?_
    refine g_st (st2 := [.int (bI true)]) rfl ?_
    refine g_if_ne (q := 19) (tg := 21) cx dX3_canWeighOnOnePan_16 (by decide) rfl (fun _ => ?_) (fun h => absurd h (by decide))
    refine g_iconst (q := 22) (v := iN 0) cx dX3_canWeighOnOnePan_21 rfl rfl ?_
    refine g_istore_n (q := 23) (lv2 := [some (.ref mo), some (.int (iN mass)), some (.int (iN 0)), none]) cx dX3_canWeighOnOnePan_22 rfl (by decide) rfl rfl ?_
    refine g_iconst (q := 24) (v := iN 0) cx dX3_canWeighOnOnePan_23 rfl rfl ?_
    refine g_istore_n (q := 25) (lv2 := [some (.ref mo), some (.int (iN mass)), some (.int (iN 0)), some (.int (iN 0))]) cx dX3_canWeighOnOnePan_24 rfl (by decide) rfl rfl ?_
    exact (key _) false 0 0 placing vc rfl

theorem k_X3_canWeighOnOnePan (l : Launch) (hlt : l.stackTraces = false) (T : GT) (mo : Nat) (am : Nat) (ae : Nat) (ap : Nat) (ab : Nat) (aw : Nat) (ac : Nat) (an : Nat) (a0 : Nat) (a1 : Nat) (a2 : Nat) (th : Int) (many : Int) (coins : Int) (masses : Nat → Int) (placing : Nat → Int) (mass : Int) (n : Nat) (hp0 : many = n) (hp1 : n ≤ 7) (hp2 : msOK n masses) (hp3 : -2147483648 ≤ mass ∧ mass < 2147483648) : MW l T yX3_canWeighOnOnePan cX3_canWeighOnOnePan 4 (some .boolean) ({ frames := 2, cells := 0, slots := 0, locals := 42 }) [.ref mo, .int (iN mass)] [(mo, .inr (2, [.int (iN th), .ref am, .ref ae, .int (iN many), .ref ap, .ref ab, .ref aw, .int (iN coins), .ref ac, .ref an, .ref a0, .ref a1, .ref a2])), (am, .inl (T.2.1 0, 7, .inl (zA masses))), (ap, .inl (T.2.1 0, 7, .inl (zA placing)))] (fun v_ wn_ => ∃ (b : Bool), ∃ (th2 : Int), ∃ (placing2 : Nat → Int), v_ = some (.int (bI b)) ∧ wn_ = [(mo, .inr (2, [.int (iN th2), .ref am, .ref ae, .int (iN many), .ref ap, .ref ab, .ref aw, .int (iN coins), .ref ac, .ref an, .ref a0, .ref a1, .ref a2])), (am, .inl (T.2.1 0, 7, .inl (zA masses))), (ap, .inl (T.2.1 0, 7, .inl (zA placing2)))] ∧ b = (decide (1 ≤ mass ∧ mass ≤ 4000) && anyB (fun p => decide (psum masses n p n = mass) && decide (pleft n p = 0)) (3 ^ n)) ∧ th2 = (if 1 ≤ mass ∧ mass ≤ 4000 then 0 else 1)) 0 0 := by
  refine w_X3_canWeighOnOnePan l hlt T mo am ae ap ab aw ac an a0 a1 a2 th many coins masses placing mass n (I25 := fun can number t _ => ∃ j : Nat, j ≤ 3 ^ n ∧ number = j ∧ t = 0 ∧ (1 ≤ mass ∧ mass ≤ 4000) ∧ can = anyB (fun p => decide (psum masses n p n = mass) && decide (pleft n p = 0)) j) (M25 := fun _ number _ _ => (0, 0, 0, (2187 - number).toNat)) _ ?_ ?_
  · refine ⟨hp3, fun h => ?_, fun h => ?_⟩
    all_goals (simp only [Bool.and_eq_true, Bool.and_eq_false_iff, decide_eq_true_eq, decide_eq_false_iff_not] at h)
    · exact ⟨by rw [decide_eq_false (by omega)]; rfl, by rw [if_neg (by omega)]⟩
    · exact ⟨0, Nat.zero_le _, rfl, rfl, h, rfl⟩
  · subst hp0
    have h3 := pow3_7 hp1
    rintro can number t pl ⟨j, hj, rfl, rfl, hm, rfl⟩
    have hs := psum_in (p := j) hp2 hp1
    have hf := pleft_le n j
    have stp : anyB (fun p => decide (psum masses n p n = mass) && decide (pleft n p = 0)) (j + 1) = (anyB (fun p => decide (psum masses n p n = mass) && decide (pleft n p = 0)) j || (decide (psum masses n j n = mass) && decide (pleft n j = 0))) := rfl
    refine ⟨rfl, hp1, by omega, by omega, fun h => ?_, fun h => ?_⟩
    · rw [show 3 ^ n = j by omega, if_pos hm, decide_eq_true hm]
      exact ⟨rfl, rfl⟩
    · simp only [Int.toNat_natCast]
      refine ⟨fun h1 => ?_, fun h1 => ⟨trivial, hp1, hp2, by omega, by omega, hp3, fun h2 => ?_, fun h2 => ⟨trivial, hp1, by omega, fun h3 => ?_, fun h3 => ?_⟩⟩⟩
      · exact ⟨⟨j + 1, by omega, rfl, trivial, hm, by rw [stp, h1]; rfl⟩, g_ltI (by omega)⟩
      · exact ⟨⟨j + 1, by omega, rfl, trivial, hm, by rw [stp, h1, decide_eq_false h2]; rfl⟩, g_ltI (by omega)⟩
      · exact ⟨⟨j + 1, by omega, rfl, trivial, hm, by rw [stp, h1, decide_eq_true h2, decide_eq_false (by omega)]; rfl⟩, g_ltI (by omega)⟩
      · exact ⟨⟨j + 1, by omega, rfl, trivial, hm, by rw [stp, h1, decide_eq_true h2, decide_eq_true (by omega)]; rfl⟩, g_ltI (by omega)⟩

set_option maxRecDepth 100000 in
set_option maxHeartbeats 4000000 in
theorem w_X3_takeAway (l : Launch) (hlt : l.stackTraces = false) (T : GT) (mo : Nat) (am : Nat) (ae : Nat) (ap : Nat) (ab : Nat) (aw : Nat) (ac : Nat) (an : Nat) (a0 : Nat) (a1 : Nat) (a2 : Nat) (th : Int) (many : Int) (coins : Int) (masses : Nat → Int) (errors : Nat → Int) (weight : Int) (n : Nat) (I34 : Int → Int → Int → (Nat → Int) → (Nat → Int) → Prop) (M34 : Int → Int → Int → (Nat → Int) → (Nat → Int) → g_mu) (post : Int → Int → Int → (Nat → Int) → (Nat → Int) → Prop) (v0_ : (-2147483648 ≤ weight ∧ weight < 2147483648) ∧ ((0 ≤ many ∧ many ≤ 7) ∧ (((decide (0 ≤ weight) && decide (weight ≤ many - 1)) = false → (post 0 1 many masses errors)) ∧ ((decide (0 ≤ weight) && decide (weight ≤ many - 1)) = true → (I34 weight 0 (many - 1) masses errors))))) (v34 : ∀ (k : Int) (t : Int) (mn : Int) (ms : Nat → Int) (es : Nat → Int), I34 k t mn ms es → (-2147483648 ≤ k ∧ k < 2147483648) ∧ ((-2147483648 ≤ mn ∧ mn < 2147483648) ∧ ((mn ≤ k → (post mn t mn ms es)) ∧ (k < mn → ((0 ≤ (k + 1) ∧ (k + 1) < 7) ∧ ((0 ≤ k ∧ k < 7) ∧ ((0 ≤ (k + 1) ∧ (k + 1) < 7) ∧ ((0 ≤ k ∧ k < 7) ∧ (I34 (k + 1) t mn (va_up ms k.toNat (ms (k + 1).toNat)) (va_up es k.toNat (es (k + 1).toNat)) ∧ g_lt (M34 (k + 1) t mn (va_up ms k.toNat (ms (k + 1).toNat)) (va_up es k.toNat (es (k + 1).toNat))) (M34 k t mn ms es)))))))))) : MW l T yX3_takeAway cX3_takeAway 3 (some .int) ({ frames := 2, cells := 0, slots := 0, locals := 43 }) [.ref mo, .int (iN weight)] [(mo, .inr (2, [.int (iN th), .ref am, .ref ae, .int (iN many), .ref ap, .ref ab, .ref aw, .int (iN coins), .ref ac, .ref an, .ref a0, .ref a1, .ref a2])), (am, .inl (T.2.1 0, 7, .inl (zA masses))), (ae, .inl (T.2.1 0, 7, .inl (zA errors)))] (fun v_ wn_ => ∃ (r : Int), ∃ (th2 : Int), ∃ (many2 : Int), ∃ (masses2 : Nat → Int), ∃ (errors2 : Nat → Int), v_ = some (.int (iN r)) ∧ wn_ = [(mo, .inr (2, [.int (iN th2), .ref am, .ref ae, .int (iN many2), .ref ap, .ref ab, .ref aw, .int (iN coins), .ref ac, .ref an, .ref a0, .ref a1, .ref a2])), (am, .inl (T.2.1 0, 7, .inl (zA masses2))), (ae, .inl (T.2.1 0, 7, .inl (zA errors2)))] ∧ post r th2 many2 masses2 errors2) 0 0 := by
  refine MW.start hlt (by decide) (lv0 := [some (.ref mo), some (.int (iN weight)), none]) rfl (Nat.le_of_ble_eq_true rfl) rfl ?_
  intro p e R s m args below meth c A cx hr hnm hST hrw
  have key : ∀ μ : g_mu, (∀ (k : Int) (t : Int) (mn : Int) (ms : Nat → Int) (es : Nat → Int), I34 k t mn ms es → M34 k t mn ms es = μ → G p l e R s m args below meth c 3 T A A (MQ below (g_Q T (fun v_ wn_ => ∃ (r : Int), ∃ (th2 : Int), ∃ (many2 : Int), ∃ (masses2 : Nat → Int), ∃ (errors2 : Nat → Int), v_ = some (.int (iN r)) ∧ wn_ = [(mo, .inr (2, [.int (iN th2), .ref am, .ref ae, .int (iN many2), .ref ap, .ref ab, .ref aw, .int (iN coins), .ref ac, .ref an, .ref a0, .ref a1, .ref a2])), (am, .inl (T.2.1 0, 7, .inl (zA masses2))), (ae, .inl (T.2.1 0, 7, .inl (zA errors2)))] ∧ post r th2 many2 masses2 errors2) A) args s 0 0 A) 0 0 [(mo, .inr (2, [.int (iN t), .ref am, .ref ae, .int (iN mn), .ref ap, .ref ab, .ref aw, .int (iN coins), .ref ac, .ref an, .ref a0, .ref a1, .ref a2])), (am, .inl (T.2.1 0, 7, .inl (zA ms))), (ae, .inl (T.2.1 0, 7, .inl (zA es)))] [some (.ref mo), some (.int (iN weight)), some (.int (iN k))] 34 []) := by
    refine g_ind (fun μ ih => ?_)
    · intro k t mn ms es hI hM
      subst hM
      have vc := v34 k t mn ms es hI
      refine g_iload_n (q := 35) cx dX3_takeAway_34 rfl rfl ?_
      refine g_aload_n (q := 36) cx dX3_takeAway_35 rfl rfl ?_
      refine g_get (q := 39) cx k_cX3 0 rfl 3 (by decide) q1073 (Or.inl rfl) rfl dX3_takeAway_36 rfl ?_
      refine g_icmp_geZ (q := 42) (tg := 76) cx vc.1 vc.2.1 dX3_takeAway_39 (by decide) rfl (fun h_1 => ?_) (fun h_1 => ?_)
      · have vc := vc.2.2.1 h_1
        refine g_aload_n (q := 77) cx dX3_takeAway_76 rfl rfl ?_
        refine g_get (q := 80) cx k_cX3 0 rfl 3 (by decide) q1073 (Or.inl rfl) rfl dX3_takeAway_77 rfl ?_
        exact g_iretW cx hr rfl ⟨mn, t, mn, ms, es, rfl, rfl, vc⟩ (by first | exact Nat.le_of_ble_eq_true rfl | omega) (by first | exact Nat.le_of_ble_eq_true rfl | omega) dX3_takeAway_80
      · have vc := vc.2.2.2 h_1
        refine g_aload_n (q := 43) cx dX3_takeAway_42 rfl rfl ?_
        refine g_get (q := 46) cx k_cX3 0 rfl 1 (by decide) q1071 (Or.inl rfl) rfl dX3_takeAway_43 rfl ?_
        refine g_iload_n (q := 47) cx dX3_takeAway_46 rfl rfl ?_
        refine g_aload_n (q := 48) cx dX3_takeAway_47 rfl rfl ?_
        refine g_get (q := 51) cx k_cX3 0 rfl 1 (by decide) q1071 (Or.inl rfl) rfl dX3_takeAway_48 rfl ?_
        refine g_iload_n (q := 52) cx dX3_takeAway_51 rfl rfl ?_
        refine g_iconst (q := 53) (v := iN 1) cx dX3_takeAway_52 rfl rfl ?_
        refine g_iaddZ (q := 54) cx dX3_takeAway_53 rfl ?_
        refine g_ialdZ (q := 55) cx 1 (by decide) rfl vc.1 dX3_takeAway_54 rfl ?_
        have vc := vc.2
        refine g_iastZ (q := 56) (ws2 := [(mo, .inr (2, [.int (iN t), .ref am, .ref ae, .int (iN mn), .ref ap, .ref ab, .ref aw, .int (iN coins), .ref ac, .ref an, .ref a0, .ref a1, .ref a2])), (am, .inl (T.2.1 0, 7, .inl (zA (va_up ms k.toNat (ms (k + 1).toNat))))), (ae, .inl (T.2.1 0, 7, .inl (zA es)))]) cx hrw 1 (by decide) rfl vc.1 rfl dX3_takeAway_55 rfl ?_
        have vc := vc.2
        refine g_aload_n (q := 57) cx dX3_takeAway_56 rfl rfl ?_
        refine g_get (q := 60) cx k_cX3 0 rfl 2 (by decide) q1072 (Or.inl rfl) rfl dX3_takeAway_57 rfl ?_
        refine g_iload_n (q := 61) cx dX3_takeAway_60 rfl rfl ?_
        refine g_aload_n (q := 62) cx dX3_takeAway_61 rfl rfl ?_
        refine g_get (q := 65) cx k_cX3 0 rfl 2 (by decide) q1072 (Or.inl rfl) rfl dX3_takeAway_62 rfl ?_
        refine g_iload_n (q := 66) cx dX3_takeAway_65 rfl rfl ?_
        refine g_iconst (q := 67) (v := iN 1) cx dX3_takeAway_66 rfl rfl ?_
        refine g_iaddZ (q := 68) cx dX3_takeAway_67 rfl ?_
        refine g_ialdZ (q := 69) cx 2 (by decide) rfl vc.1 dX3_takeAway_68 rfl ?_
        have vc := vc.2
        refine g_iastZ (q := 70) (ws2 := [(mo, .inr (2, [.int (iN t), .ref am, .ref ae, .int (iN mn), .ref ap, .ref ab, .ref aw, .int (iN coins), .ref ac, .ref an, .ref a0, .ref a1, .ref a2])), (am, .inl (T.2.1 0, 7, .inl (zA (va_up ms k.toNat (ms (k + 1).toNat))))), (ae, .inl (T.2.1 0, 7, .inl (zA (va_up es k.toNat (es (k + 1).toNat)))))]) cx hrw 2 (by decide) rfl vc.1 rfl dX3_takeAway_69 rfl ?_
        have vc := vc.2
        refine g_iinc (q := 73) (v := iN (k + 1)) (lv2 := [some (.ref mo), some (.int (iN weight)), some (.int (iN (k + 1)))]) cx dX3_takeAway_70 rfl (iN_add _ _) (by decide) rfl rfl ?_
        refine g_goto (q := 34) cx dX3_takeAway_73 (by decide) ?_
        exact (ih _ vc.2) (k + 1) t mn (va_up ms k.toNat (ms (k + 1).toNat)) (va_up es k.toNat (es (k + 1).toNat)) vc.1 rfl
  have vc := v0_
  refine g_aload_n (q := 1) cx dX3_takeAway_0 rfl rfl ?_
  refine g_aload_n (q := 2) cx dX3_takeAway_1 rfl rfl ?_
  refine g_iload_n (q := 3) cx dX3_takeAway_2 rfl rfl ?_
  refine g_cVr (q := 6) (b := mo) (As := [.int (iN weight)]) (wr := [(am, .inl (T.2.1 0, 7, .inl (zA masses))), (ae, .inl (T.2.1 0, 7, .inl (zA errors)))]) (st := [.ref mo]) cx hST (k_X3_isWeight l hlt T mo am ae ap ab aw ac an a0 a1 a2 th many coins weight (vc.1) (vc.2.1)) q1130 s_X3_isWeight rfl 0 rfl rfl (g_perm [1, 2, 0] rfl rfl) (g_rmB rfl) (Nat.le_of_ble_eq_true rfl) dX3_takeAway_3 rfl (fun v_ hv_ => ?_)
  have vc := vc.2
  have vc := vc.2
  obtain ⟨b_2, rfl, e_3⟩ := hv_
  subst e_3
  refine g_st (st2 := [.int (bI (decide (0 ≤ weight) && decide (weight ≤ many - 1))), .ref mo]) rfl ?_
  refine g_if_eq (q := 9) (tg := 13) cx dX3_takeAway_6 (by decide) rfl (fun h_4 => ?_) (fun h_4 => ?_)
  · have vc := vc.1 (bI_0.mp h_4)
    refine g_iconst (q := 14) (v := iN 1) cx dX3_takeAway_13 rfl rfl ?_
    refine g_cVw (q := 17) (b := mo) (As := [.int (iN 1)]) (wr := [(am, .inl (T.2.1 0, 7, .inl (zA masses))), (ae, .inl (T.2.1 0, 7, .inl (zA errors)))]) (st := []) cx hST hrw (k_X3_goesWell l hlt T mo am ae ap ab aw ac an a0 a1 a2 th many coins 1 (by decide)) q1122 s_X3_goesWell rfl 0 rfl rfl (g_perm [1, 2, 0] rfl rfl) (g_rmB rfl) (Nat.le_of_ble_eq_true rfl) dX3_takeAway_14 rfl (fun v_ wn_ hv_ => ?_)
    obtain ⟨b_5, th2_6, rfl, rfl, e_7⟩ := hv_
    obtain ⟨rfl, rfl⟩ := e_7
    refine g_wp (ws2 := [(mo, .inr (2, [.int (iN 1), .ref am, .ref ae, .int (iN many), .ref ap, .ref ab, .ref aw, .int (iN coins), .ref ac, .ref an, .ref a0, .ref a1, .ref a2])), (am, .inl (T.2.1 0, 7, .inl (zA masses))), (ae, .inl (T.2.1 0, 7, .inl (zA errors)))]) (g_perm [2, 0, 1] rfl rfl) ?_
    refine g_cs (cells2 := 0) (slots2 := 0) (ws2 := [(mo, .inr (2, [.int (iN 1), .ref am, .ref ae, .int (iN many), .ref ap, .ref ab, .ref aw, .int (iN coins), .ref ac, .ref an, .ref a0, .ref a1, .ref a2])), (am, .inl (T.2.1 0, 7, .inl (zA masses))), (ae, .inl (T.2.1 0, 7, .inl (zA errors)))]) rfl rfl rfl ?_
    refine g_st (st2 := [.int (bI false)]) rfl ?_
    refine g_if_ne (q := 20) (tg := 22) cx dX3_takeAway_17 (by decide) rfl (fun h => absurd h (by decide)) (fun _ => ?_)
    refine g_iconst (q := 21) (v := iN 0) cx dX3_takeAway_20 rfl rfl ?_
    exact g_iretW cx hr rfl ⟨0, 1, many, masses, errors, rfl, rfl, vc⟩ (by first | exact Nat.le_of_ble_eq_true rfl | omega) (by first | exact Nat.le_of_ble_eq_true rfl | omega) dX3_takeAway_21
  · have vc := vc.2 (bI_n0.mp h_4)
    refine g_iconst (q := 10) (v := iN 0) cx dX3_takeAway_9 rfl rfl ?_
    refine g_goto (q := 14) cx dX3_takeAway_10 (by decide) ?_
    refine g_cVw (q := 17) (b := mo) (As := [.int (iN 0)]) (wr := [(am, .inl (T.2.1 0, 7, .inl (zA masses))), (ae, .inl (T.2.1 0, 7, .inl (zA errors)))]) (st := []) cx hST hrw (k_X3_goesWell l hlt T mo am ae ap ab aw ac an a0 a1 a2 th many coins 0 (by decide)) q1122 s_X3_goesWell rfl 0 rfl rfl (g_perm [1, 2, 0] rfl rfl) (g_rmB rfl) (Nat.le_of_ble_eq_true rfl) dX3_takeAway_14 rfl (fun v_ wn_ hv_ => ?_)
    obtain ⟨b_8, th2_9, rfl, rfl, e_10⟩ := hv_
    obtain ⟨rfl, rfl⟩ := e_10
    refine g_wp (ws2 := [(mo, .inr (2, [.int (iN 0), .ref am, .ref ae, .int (iN many), .ref ap, .ref ab, .ref aw, .int (iN coins), .ref ac, .ref an, .ref a0, .ref a1, .ref a2])), (am, .inl (T.2.1 0, 7, .inl (zA masses))), (ae, .inl (T.2.1 0, 7, .inl (zA errors)))]) (g_perm [2, 0, 1] rfl rfl) ?_
    refine g_cs (cells2 := 0) (slots2 := 0) (ws2 := [(mo, .inr (2, [.int (iN 0), .ref am, .ref ae, .int (iN many), .ref ap, .ref ab, .ref aw, .int (iN coins), .ref ac, .ref an, .ref a0, .ref a1, .ref a2])), (am, .inl (T.2.1 0, 7, .inl (zA masses))), (ae, .inl (T.2.1 0, 7, .inl (zA errors)))]) rfl rfl rfl ?_
    refine g_st (st2 := [.int (bI true)]) rfl ?_
    refine g_if_ne (q := 20) (tg := 22) cx dX3_takeAway_17 (by decide) rfl (fun _ => ?_) (fun h => absurd h (by decide))
    refine g_aload_n (q := 23) cx dX3_takeAway_22 rfl rfl ?_
    refine g_dup (q := 24) cx dX3_takeAway_23 rfl rfl ?_
    refine g_get (q := 27) cx k_cX3 0 rfl 3 (by decide) q1073 (Or.inl rfl) rfl dX3_takeAway_24 rfl ?_
    refine g_iconst (q := 28) (v := iN 1) cx dX3_takeAway_27 rfl rfl ?_
    refine g_isubZ (q := 29) cx dX3_takeAway_28 rfl ?_
    refine g_put (q := 32) (ws2 := [(mo, .inr (2, [.int (iN 0), .ref am, .ref ae, .int (iN (many - 1)), .ref ap, .ref ab, .ref aw, .int (iN coins), .ref ac, .ref an, .ref a0, .ref a1, .ref a2])), (am, .inl (T.2.1 0, 7, .inl (zA masses))), (ae, .inl (T.2.1 0, 7, .inl (zA errors)))]) cx hrw k_cX3 0 rfl 3 (by decide) q1073 (Or.inl rfl) rfl rfl rfl (Nat.le_of_ble_eq_true rfl) rfl dX3_takeAway_29 rfl ?_
    refine g_iload_n (q := 33) cx dX3_takeAway_32 rfl rfl ?_
    refine g_istore_n (q := 34) (lv2 := [some (.ref mo), some (.int (iN weight)), some (.int (iN weight))]) cx dX3_takeAway_33 rfl (by decide) rfl rfl ?_
    exact (key _) weight 0 (many - 1) masses errors vc rfl

theorem k_X3_takeAway (l : Launch) (hlt : l.stackTraces = false) (T : GT) (mo : Nat) (am : Nat) (ae : Nat) (ap : Nat) (ab : Nat) (aw : Nat) (ac : Nat) (an : Nat) (a0 : Nat) (a1 : Nat) (a2 : Nat) (th : Int) (many : Int) (coins : Int) (masses : Nat → Int) (errors : Nat → Int) (weight : Int) (n : Nat) (hp0 : many = n) (hp1 : n ≤ 7) (hp2 : -2147483648 ≤ weight ∧ weight < 2147483648) : MW l T yX3_takeAway cX3_takeAway 3 (some .int) ({ frames := 2, cells := 0, slots := 0, locals := 43 }) [.ref mo, .int (iN weight)] [(mo, .inr (2, [.int (iN th), .ref am, .ref ae, .int (iN many), .ref ap, .ref ab, .ref aw, .int (iN coins), .ref ac, .ref an, .ref a0, .ref a1, .ref a2])), (am, .inl (T.2.1 0, 7, .inl (zA masses))), (ae, .inl (T.2.1 0, 7, .inl (zA errors)))] (fun v_ wn_ => ∃ (r : Int), ∃ (th2 : Int), ∃ (many2 : Int), ∃ (masses2 : Nat → Int), ∃ (errors2 : Nat → Int), v_ = some (.int (iN r)) ∧ wn_ = [(mo, .inr (2, [.int (iN th2), .ref am, .ref ae, .int (iN many2), .ref ap, .ref ab, .ref aw, .int (iN coins), .ref ac, .ref an, .ref a0, .ref a1, .ref a2])), (am, .inl (T.2.1 0, 7, .inl (zA masses2))), (ae, .inl (T.2.1 0, 7, .inl (zA errors2)))] ∧ r = (if 0 ≤ weight ∧ weight < n then (n : Int) - 1 else 0) ∧ th2 = (if 0 ≤ weight ∧ weight < n then 0 else 1) ∧ many2 = (if 0 ≤ weight ∧ weight < n then (n : Int) - 1 else n) ∧ masses2 = (if 0 ≤ weight ∧ weight < n then (fun i => if weight.toNat ≤ i ∧ i < n - 1 then masses (i + 1) else masses i) else masses) ∧ errors2 = (if 0 ≤ weight ∧ weight < n then (fun i => if weight.toNat ≤ i ∧ i < n - 1 then errors (i + 1) else errors i) else errors)) 0 0 := by
  refine w_X3_takeAway l hlt T mo am ae ap ab aw ac an a0 a1 a2 th many coins masses errors weight n (I34 := fun k t mn ms es => ∃ j : Nat, (0 ≤ weight ∧ weight < n) ∧ weight ≤ j ∧ j ≤ n - 1 ∧ k = j ∧ t = 0 ∧ mn = (n : Int) - 1 ∧ ms = (fun i => if weight.toNat ≤ i ∧ i < j then masses (i + 1) else masses i) ∧ es = (fun i => if weight.toNat ≤ i ∧ i < j then errors (i + 1) else errors i)) (M34 := fun k _ _ _ _ => (0, 0, 0, (7 - k).toNat)) _ ?_ ?_
  · subst hp0
    refine ⟨hp2, by omega, fun h => ?_, fun h => ?_⟩
    all_goals (simp only [Bool.and_eq_true, Bool.and_eq_false_iff, decide_eq_true_eq, decide_eq_false_iff_not] at h)
    · rw [if_neg (by omega), if_neg (by omega), if_neg (by omega), if_neg (by omega), if_neg (by omega)]
      exact ⟨rfl, rfl, rfl, rfl, rfl⟩
    · exact ⟨weight.toNat, by omega, by omega, by omega, by omega, rfl, rfl, by funext i; rw [if_neg (by omega)], by funext i; rw [if_neg (by omega)]⟩
  · subst hp0
    rintro k t mn ms es ⟨j, hw, hj1, hj, rfl, rfl, rfl, rfl, rfl⟩
    refine ⟨by omega, by omega, fun h => ?_, fun h => ⟨by omega, by omega, by omega, by omega, ?_, g_ltI (by omega)⟩⟩
    · rw [if_pos hw, if_pos hw, if_pos hw, if_pos hw, if_pos hw, show n - 1 = j by omega]
      exact ⟨rfl, rfl, rfl, rfl, rfl⟩
    · refine ⟨j + 1, hw, by omega, by omega, rfl, rfl, rfl, ?_, ?_⟩
      all_goals (
        funext i
        simp only [Int.toNat_natCast, show ((j : Int) + 1).toNat = j + 1 by omega, va_up]
        by_cases h1 : i = j
        · rw [if_pos h1, if_neg (by omega), if_pos (by omega), h1]
        · rw [if_neg h1]
          by_cases h2 : weight.toNat ≤ i ∧ i < j
          · rw [if_pos h2, if_pos (by omega)]
          · rw [if_neg h2, if_neg (by omega)])

set_option maxRecDepth 100000 in
set_option maxHeartbeats 4000000 in
theorem w_X3_bitsOf (l : Launch) (hlt : l.stackTraces = false) (T : GT) (set : Int) (I4 : Int → Int → Prop) (M4 : Int → Int → g_mu) (post : Int → Prop) (v0_ : I4 0 0) (v4 : ∀ (size : Int) (k : Int), I4 size k → (-2147483648 ≤ k ∧ k < 2147483648) ∧ ((9 ≤ k → (post size)) ∧ (k < 9 → ((0 ≤ set ∧ set < 2147483648) ∧ ((0 ≤ k ∧ k < 32) ∧ ((0 ≤ ((set.toNat >>> k.toNat : Nat) : Int) ∧ ((set.toNat >>> k.toNat : Nat) : Int) < 2147483648) ∧ (I4 (size + ((((set.toNat >>> k.toNat : Nat) : Int).toNat &&& 1 : Nat) : Int)) (k + 1) ∧ g_lt (M4 (size + ((((set.toNat >>> k.toNat : Nat) : Int).toNat &&& 1 : Nat) : Int)) (k + 1)) (M4 size k)))))))) : MR l T yX3_bitsOf cX3_bitsOf 3 (some .int) ({ frames := 0, cells := 0, slots := 0, locals := 0 }) [.int (iN set)] [] (fun v_ => ∃ (r : Int), v_ = some (.int (iN r)) ∧ post r) := by
  refine MR.start hlt (by decide) (lv0 := [some (.int (iN set)), none, none]) rfl (Nat.le_of_ble_eq_true rfl) rfl ?_
  intro p e R s m args below meth c cx hr hST
  have key : ∀ μ : g_mu, (∀ (size : Int) (k : Int), I4 size k → M4 size k = μ → G p l e R s m args below meth c 3 T (fun _ => False) (fun _ => True) (MQ below (g_Qr (fun v_ => ∃ (r : Int), v_ = some (.int (iN r)) ∧ post r)) args s 0 0 (fun _ => False)) 0 0 [] [some (.int (iN set)), some (.int (iN size)), some (.int (iN k))] 4 []) := by
    refine g_ind (fun μ ih => ?_)
    · intro size k hI hM
      subst hM
      have vc := v4 size k hI
      refine g_iload_n (q := 5) cx dX3_bitsOf_4 rfl rfl ?_
      refine g_bipush (q := 7) (v := iN 9) cx dX3_bitsOf_5 (by decide) rfl ?_
      refine g_icmp_geZ (q := 10) (tg := 24) cx vc.1 (by decide) dX3_bitsOf_7 (by decide) rfl (fun h_1 => ?_) (fun h_1 => ?_)
      · have vc := vc.2.1 h_1
        refine g_iload_n (q := 25) cx dX3_bitsOf_24 rfl rfl ?_
        exact g_iretR cx hr rfl ⟨size, rfl, vc⟩ dX3_bitsOf_25
      · have vc := vc.2.2 h_1
        refine g_iload_n (q := 11) cx dX3_bitsOf_10 rfl rfl ?_
        refine g_iload_n (q := 12) cx dX3_bitsOf_11 rfl rfl ?_
        refine g_iload_n (q := 13) cx dX3_bitsOf_12 rfl rfl ?_
        refine g_ishrZ (q := 14) cx vc.1 vc.2.1 dX3_bitsOf_13 rfl ?_
        have vc := vc.2
        have vc := vc.2
        refine g_iconst (q := 15) (v := iN 1) cx dX3_bitsOf_14 rfl rfl ?_
        refine g_iandZ (q := 16) cx vc.1 (by decide) dX3_bitsOf_15 rfl ?_
        have vc := vc.2
        refine g_iaddZ (q := 17) cx dX3_bitsOf_16 rfl ?_
        refine g_istore_n (q := 18) (lv2 := [some (.int (iN set)), some (.int (iN (size + ((((set.toNat >>> k.toNat : Nat) : Int).toNat &&& 1 : Nat) : Int)))), some (.int (iN k))]) cx dX3_bitsOf_17 rfl (by decide) rfl rfl ?_
        refine g_iinc (q := 21) (v := iN (k + 1)) (lv2 := [some (.int (iN set)), some (.int (iN (size + ((((set.toNat >>> k.toNat : Nat) : Int).toNat &&& 1 : Nat) : Int)))), some (.int (iN (k + 1)))]) cx dX3_bitsOf_18 rfl (iN_add _ _) (by decide) rfl rfl ?_
        refine g_goto (q := 4) cx dX3_bitsOf_21 (by decide) ?_
        exact (ih _ vc.2) (size + ((((set.toNat >>> k.toNat : Nat) : Int).toNat &&& 1 : Nat) : Int)) (k + 1) vc.1 rfl
  have vc := v0_
  refine g_iconst (q := 1) (v := iN 0) cx dX3_bitsOf_0 rfl rfl ?_
  refine g_istore_n (q := 2) (lv2 := [some (.int (iN set)), some (.int (iN 0)), none]) cx dX3_bitsOf_1 rfl (by decide) rfl rfl ?_
  refine g_iconst (q := 3) (v := iN 0) cx dX3_bitsOf_2 rfl rfl ?_
  refine g_istore_n (q := 4) (lv2 := [some (.int (iN set)), some (.int (iN 0)), some (.int (iN 0))]) cx dX3_bitsOf_3 rfl (by decide) rfl rfl ?_
  exact (key _) 0 0 vc rfl

theorem k_X3_bitsOf (l : Launch) (hlt : l.stackTraces = false) (T : GT) (set : Int) (hp0 : 0 ≤ set ∧ set < 2147483648) : MR l T yX3_bitsOf cX3_bitsOf 3 (some .int) ({ frames := 0, cells := 0, slots := 0, locals := 0 }) [.int (iN set)] [] (fun v_ => ∃ (r : Int), v_ = some (.int (iN r)) ∧ r = ((bits9 set.toNat : Nat) : Int)) := by
  refine w_X3_bitsOf l hlt T set (I4 := fun size k => ∃ j : Nat, j ≤ 9 ∧ k = j ∧ size = (cntB (fun k => set.toNat.testBit k) j : Nat)) (M4 := fun _ k => (0, 0, 0, (9 - k).toNat)) _ ?_ ?_
  · exact ⟨0, by omega, rfl, rfl⟩
  · rintro size k ⟨j, hj, rfl, rfl⟩
    have hd : set.toNat >>> j ≤ set.toNat := by rw [Nat.shiftRight_eq_div_pow]; exact Nat.div_le_self _ _
    have e : set.toNat.testBit j = decide ((set.toNat >>> j) % 2 = 1) := by
      rw [Nat.testBit, Nat.and_comm 1, Nat.and_one_is_mod]
      rcases Nat.mod_two_eq_zero_or_one (set.toNat >>> j) with g | g <;> rw [g] <;> rfl
    have stp : cntB (fun k => set.toNat.testBit k) (j + 1) = cntB (fun k => set.toNat.testBit k) j + (set.toNat >>> j) % 2 := by
      rw [cntB]
      simp only [e]
      rcases Nat.mod_two_eq_zero_or_one (set.toNat >>> j) with g | g <;> rw [g] <;> rfl
    simp only [Int.toNat_natCast]
    generalize set.toNat >>> j = d at hd stp ⊢
    refine ⟨by omega, fun h => ?_, fun h => ⟨hp0, by omega, by omega, ?_, g_ltI (by omega)⟩⟩
    · rw [show j = 9 by omega]
      rfl
    · exact ⟨j + 1, by omega, rfl, by rw [stp, Nat.and_one_is_mod, Int.natCast_add]⟩
