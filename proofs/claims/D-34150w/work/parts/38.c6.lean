set_option maxRecDepth 100000 in
set_option maxHeartbeats 4000000 in
theorem w_X2_writesWays (l : Launch) (hlt : l.stackTraces = false) (T : GT) (bk : Nat) (be : Nat) (wy : Nat) (er : Nat) (bf : Nat) (ways : Nat → Int) (befo : Nat → Int) (mass : Int) (I20 : Int → (Nat → Int) → (Nat → Int) → Prop) (M20 : Int → (Nat → Int) → (Nat → Int) → g_mu) (post : (Nat → Int) → (Nat → Int) → Prop) (v0_ : (∀ i, i < 7001 → -32768 ≤ ways i ∧ ways i < 32768) ∧ (I20 0 ways (va_cpy ways befo 0 0 7001))) (v20 : ∀ (k : Int) (wa1 : Nat → Int) (bf1 : Nat → Int), I20 k wa1 bf1 → (-2147483648 ≤ k ∧ k < 2147483648) ∧ ((7001 ≤ k → (post wa1 bf1)) ∧ (k < 7001 → ((0 ≤ k ∧ k < 7001) ∧ ((-2147483648 ≤ (k - mass) ∧ (k - mass) < 2147483648) ∧ ((-2147483648 ≤ (k + mass) ∧ (k + mass) < 2147483648) ∧ ((-32768 ≤ ((ofF bf1 (k - mass) (0 : Int)) + (ofF bf1 (k + mass) (0 : Int))) ∧ ((ofF bf1 (k - mass) (0 : Int)) + (ofF bf1 (k + mass) (0 : Int))) < 32768) ∧ ((-32768 ≤ ((wa1 k.toNat) + ((ofF bf1 (k - mass) (0 : Int)) + (ofF bf1 (k + mass) (0 : Int)))) ∧ ((wa1 k.toNat) + ((ofF bf1 (k - mass) (0 : Int)) + (ofF bf1 (k + mass) (0 : Int)))) < 32768) ∧ ((-32768 ≤ ((wa1 k.toNat) + ((ofF bf1 (k - mass) (0 : Int)) + (ofF bf1 (k + mass) (0 : Int)))) ∧ ((wa1 k.toNat) + ((ofF bf1 (k - mass) (0 : Int)) + (ofF bf1 (k + mass) (0 : Int)))) < 32768) ∧ ((0 ≤ k ∧ k < 7001) ∧ (I20 (k + 1) (va_up wa1 k.toNat ((wa1 k.toNat) + ((ofF bf1 (k - mass) (0 : Int)) + (ofF bf1 (k + mass) (0 : Int))))) bf1 ∧ g_lt (M20 (k + 1) (va_up wa1 k.toNat ((wa1 k.toNat) + ((ofF bf1 (k - mass) (0 : Int)) + (ofF bf1 (k + mass) (0 : Int))))) bf1) (M20 k wa1 bf1)))))))))))) : MW l T yX2_writesWays cX2_writesWays 3 none ({ frames := 1, cells := 0, slots := 0, locals := 60 }) [.ref bk, .int (iN mass)] [(bk, .inr (1, [.ref be, .ref wy, .ref er, .ref bf])), (wy, .inl (T.2.1 2, 7001, .inl (zA ways))), (bf, .inl (T.2.1 2, 7001, .inl (zA befo)))] (fun v_ wn_ => ∃ (ways2 : Nat → Int), ∃ (befo2 : Nat → Int), v_ = none ∧ wn_ = [(bk, .inr (1, [.ref be, .ref wy, .ref er, .ref bf])), (wy, .inl (T.2.1 2, 7001, .inl (zA ways2))), (bf, .inl (T.2.1 2, 7001, .inl (zA befo2)))] ∧ post ways2 befo2) 0 0 := by
  refine MW.start hlt (by decide) (lv0 := [some (.ref bk), some (.int (iN mass)), none]) rfl (Nat.le_of_ble_eq_true rfl) rfl ?_
  intro p e R s m args below meth c A cx hr hnm hST hrw
  have key : ∀ μ : g_mu, (∀ (k : Int) (wa1 : Nat → Int) (bf1 : Nat → Int), I20 k wa1 bf1 → M20 k wa1 bf1 = μ → G p l e R s m args below meth c 3 T A A (MQ below (g_Q T (fun v_ wn_ => ∃ (ways2 : Nat → Int), ∃ (befo2 : Nat → Int), v_ = none ∧ wn_ = [(bk, .inr (1, [.ref be, .ref wy, .ref er, .ref bf])), (wy, .inl (T.2.1 2, 7001, .inl (zA ways2))), (bf, .inl (T.2.1 2, 7001, .inl (zA befo2)))] ∧ post ways2 befo2) A) args s 0 0 A) 0 0 [(bk, .inr (1, [.ref be, .ref wy, .ref er, .ref bf])), (wy, .inl (T.2.1 2, 7001, .inl (zA wa1))), (bf, .inl (T.2.1 2, 7001, .inl (zA bf1)))] [some (.ref bk), some (.int (iN mass)), some (.int (iN k))] 20 []) := by
    refine g_ind (fun μ ih => ?_)
    · intro k wa1 bf1 hI hM
      subst hM
      have vc := v20 k wa1 bf1 hI
      refine g_iload_n (q := 21) cx dX2_writesWays_20 rfl rfl ?_
      refine g_aload_n (q := 22) cx dX2_writesWays_21 rfl rfl ?_
      refine g_get (q := 25) cx k_cX2 0 rfl 1 (by decide) q127 (Or.inl rfl) rfl dX2_writesWays_22 rfl ?_
      refine g_alenZ (q := 26) cx 1 2 rfl rfl dX2_writesWays_25 rfl ?_
      refine g_st (st2 := [.int (iN 7001), .int (iN k)]) rfl ?_
      refine g_icmp_geZ (q := 29) (tg := 69) cx vc.1 (by decide) dX2_writesWays_26 (by decide) rfl (fun h_1 => ?_) (fun h_1 => ?_)
      · have vc := vc.2.1 h_1
        exact g_vretW cx hr ⟨wa1, bf1, rfl, rfl, vc⟩ (by first | exact Nat.le_of_ble_eq_true rfl | omega) (by first | exact Nat.le_of_ble_eq_true rfl | omega) dX2_writesWays_69
      · have vc := vc.2.2 h_1
        refine g_aload_n (q := 30) cx dX2_writesWays_29 rfl rfl ?_
        refine g_get (q := 33) cx k_cX2 0 rfl 1 (by decide) q127 (Or.inl rfl) rfl dX2_writesWays_30 rfl ?_
        refine g_iload_n (q := 34) cx dX2_writesWays_33 rfl rfl ?_
        refine g_dup2 (q := 35) cx dX2_writesWays_34 rfl rfl rfl ?_
        refine g_saldZ (q := 36) cx 1 (by decide) rfl vc.1 dX2_writesWays_35 rfl ?_
        have vc := vc.2
        refine g_aload_n (q := 37) cx dX2_writesWays_36 rfl rfl ?_
        refine g_get (q := 40) cx k_cX2 0 rfl 3 (by decide) q131 (Or.inl rfl) rfl dX2_writesWays_37 rfl ?_
        refine g_iload_n (q := 41) cx dX2_writesWays_40 rfl rfl ?_
        refine g_iload_n (q := 42) cx dX2_writesWays_41 rfl rfl ?_
        refine g_isubZ (q := 43) cx dX2_writesWays_42 rfl ?_
        refine g_iconst (q := 44) (v := iN 0) cx dX2_writesWays_43 rfl rfl ?_
        refine g_cSr (q := 47) (As := [.ref bf, .int (iN (k - mass)), .int (iN 0)]) (wr := [(bk, .inr (1, [.ref be, .ref wy, .ref er, .ref bf])), (wy, .inl (T.2.1 2, 7001, .inl (zA wa1)))]) (st := [.int (iN (wa1 k.toNat)), .int (iN k), .ref wy]) cx hST (k_X2_of l hlt T bf bf1 (k - mass) 0 (vc.1)) q363 s_X2_of rfl (g_perm [0, 1, 2] rfl rfl) (g_rmB rfl) (Nat.le_of_ble_eq_true rfl) dX2_writesWays_44 rfl (fun v_ hv_ => ?_)
        have vc := vc.2
        obtain ⟨r_2, rfl, e_3⟩ := hv_
        subst e_3
        refine g_st (st2 := [.int (iN (ofF bf1 (k - mass) (0 : Int))), .int (iN (wa1 k.toNat)), .int (iN k), .ref wy]) rfl ?_
        refine g_aload_n (q := 48) cx dX2_writesWays_47 rfl rfl ?_
        refine g_get (q := 51) cx k_cX2 0 rfl 3 (by decide) q131 (Or.inl rfl) rfl dX2_writesWays_48 rfl ?_
        refine g_iload_n (q := 52) cx dX2_writesWays_51 rfl rfl ?_
        refine g_iload_n (q := 53) cx dX2_writesWays_52 rfl rfl ?_
        refine g_iaddZ (q := 54) cx dX2_writesWays_53 rfl ?_
        refine g_iconst (q := 55) (v := iN 0) cx dX2_writesWays_54 rfl rfl ?_
        refine g_cSr (q := 58) (As := [.ref bf, .int (iN (k + mass)), .int (iN 0)]) (wr := [(bk, .inr (1, [.ref be, .ref wy, .ref er, .ref bf])), (wy, .inl (T.2.1 2, 7001, .inl (zA wa1)))]) (st := [.int (iN (ofF bf1 (k - mass) (0 : Int))), .int (iN (wa1 k.toNat)), .int (iN k), .ref wy]) cx hST (k_X2_of l hlt T bf bf1 (k + mass) 0 (vc.1)) q363 s_X2_of rfl (g_perm [0, 1, 2] rfl rfl) (g_rmB rfl) (Nat.le_of_ble_eq_true rfl) dX2_writesWays_55 rfl (fun v_ hv_ => ?_)
        have vc := vc.2
        obtain ⟨r_4, rfl, e_5⟩ := hv_
        subst e_5
        refine g_st (st2 := [.int (iN (ofF bf1 (k + mass) (0 : Int))), .int (iN (ofF bf1 (k - mass) (0 : Int))), .int (iN (wa1 k.toNat)), .int (iN k), .ref wy]) rfl ?_
        refine g_iaddZ (q := 59) cx dX2_writesWays_58 rfl ?_
        refine g_i2sZ (q := 60) cx vc.1 dX2_writesWays_59 rfl ?_
        have vc := vc.2
        refine g_iaddZ (q := 61) cx dX2_writesWays_60 rfl ?_
        refine g_i2sZ (q := 62) cx vc.1 dX2_writesWays_61 rfl ?_
        have vc := vc.2
        refine g_sastZ (q := 63) (ws2 := [(bk, .inr (1, [.ref be, .ref wy, .ref er, .ref bf])), (wy, .inl (T.2.1 2, 7001, .inl (zA (va_up wa1 k.toNat ((wa1 k.toNat) + ((ofF bf1 (k - mass) (0 : Int)) + (ofF bf1 (k + mass) (0 : Int)))))))), (bf, .inl (T.2.1 2, 7001, .inl (zA bf1)))]) cx hrw 1 vc.1 (by decide) rfl vc.2.1 rfl dX2_writesWays_62 rfl ?_
        have vc := vc.2
        have vc := vc.2
        refine g_iinc (q := 66) (v := iN (k + 1)) (lv2 := [some (.ref bk), some (.int (iN mass)), some (.int (iN (k + 1)))]) cx dX2_writesWays_63 rfl (iN_add _ _) (by decide) rfl rfl ?_
        refine g_goto (q := 20) cx dX2_writesWays_66 (by decide) ?_
        exact (ih _ vc.2) (k + 1) (va_up wa1 k.toNat ((wa1 k.toNat) + ((ofF bf1 (k - mass) (0 : Int)) + (ofF bf1 (k + mass) (0 : Int))))) bf1 vc.1 rfl
  have vc := v0_
  refine g_aload_n (q := 1) cx dX2_writesWays_0 rfl rfl ?_
  refine g_get (q := 4) cx k_cX2 0 rfl 1 (by decide) q127 (Or.inl rfl) rfl dX2_writesWays_1 rfl ?_
  refine g_iconst (q := 5) (v := iN 0) cx dX2_writesWays_4 rfl rfl ?_
  refine g_aload_n (q := 6) cx dX2_writesWays_5 rfl rfl ?_
  refine g_get (q := 9) cx k_cX2 0 rfl 3 (by decide) q131 (Or.inl rfl) rfl dX2_writesWays_6 rfl ?_
  refine g_iconst (q := 10) (v := iN 0) cx dX2_writesWays_9 rfl rfl ?_
  refine g_aload_n (q := 11) cx dX2_writesWays_10 rfl rfl ?_
  refine g_get (q := 14) cx k_cX2 0 rfl 1 (by decide) q127 (Or.inl rfl) rfl dX2_writesWays_11 rfl ?_
  refine g_alenZ (q := 15) cx 1 2 rfl rfl dX2_writesWays_14 rfl ?_
  refine g_st (st2 := [.int (iN 7001), .int (iN 0), .ref bf, .int (iN 0), .ref wy]) rfl ?_
  refine g_copyS (q := 18) (ws2 := [(bk, .inr (1, [.ref be, .ref wy, .ref er, .ref bf])), (wy, .inl (T.2.1 2, 7001, .inl (zA ways))), (bf, .inl (T.2.1 2, 7001, .inl (zA (va_cpy ways befo 0 0 7001))))]) cx hrw q360 1 2 (by decide) (by decide) rfl rfl (by decide) (by decide) (by decide) (by decide) (by decide) vc.1 (by decide) (Nat.le_of_ble_eq_true rfl) rfl dX2_writesWays_15 rfl ?_
  have vc := vc.2
  refine g_iconst (q := 19) (v := iN 0) cx dX2_writesWays_18 rfl rfl ?_
  refine g_istore_n (q := 20) (lv2 := [some (.ref bk), some (.int (iN mass)), some (.int (iN 0))]) cx dX2_writesWays_19 rfl (by decide) rfl rfl ?_
  exact (key _) 0 ways (va_cpy ways befo 0 0 7001) vc rfl

theorem k_X2_writesWays (l : Launch) (hlt : l.stackTraces = false) (T : GT) (bk : Nat) (be : Nat) (wy : Nat) (er : Nat) (bf : Nat) (ways : Nat → Int) (befo : Nat → Int) (mass : Int) (hp0 : 1 ≤ mass ∧ mass ≤ 500) (hp1 : ∀ i, i < 7001 → 0 ≤ ways i ∧ ways i ≤ 9000) : MW l T yX2_writesWays cX2_writesWays 3 none ({ frames := 1, cells := 0, slots := 0, locals := 60 }) [.ref bk, .int (iN mass)] [(bk, .inr (1, [.ref be, .ref wy, .ref er, .ref bf])), (wy, .inl (T.2.1 2, 7001, .inl (zA ways))), (bf, .inl (T.2.1 2, 7001, .inl (zA befo)))] (fun v_ wn_ => ∃ (ways2 : Nat → Int), ∃ (befo2 : Nat → Int), v_ = none ∧ wn_ = [(bk, .inr (1, [.ref be, .ref wy, .ref er, .ref bf])), (wy, .inl (T.2.1 2, 7001, .inl (zA ways2))), (bf, .inl (T.2.1 2, 7001, .inl (zA befo2)))] ∧ (∀ i, i < 7001 → ways2 i = ways i + (ofF ways (i - mass) 0 + ofF ways (i + mass) 0))) 0 0 := by
  refine w_X2_writesWays l hlt T bk be wy er bf ways befo mass (I20 := fun k wa1 bf1 => ∃ j : Nat, j ≤ 7001 ∧ k = j ∧ (∀ i, i < 7001 → bf1 i = ways i) ∧ (∀ i, i < 7001 → wa1 i = if i < j then ways i + (ofF ways (i - mass) 0 + ofF ways (i + mass) 0) else ways i)) (M20 := fun k _ _ => (0, 0, 0, (7001 - k).toNat)) _ ?_ ?_
  · exact ⟨fun i hi => by have := hp1 i hi; omega, 0, by omega, rfl, cpy_all, fun i hi => by rw [if_neg (Nat.not_lt_zero i)]⟩
  · rintro k wa1 bf1 ⟨j, hj, rfl, hb, hw⟩
    refine ⟨by omega, fun h => ?_, fun h => ?_⟩
    · intro i hi
      rw [hw i hi, if_pos (by omega)]
    · have hj' : j < 7001 := by omega
      have hwj := hw j hj'
      rw [if_neg (Nat.lt_irrefl j)] at hwj
      have b0 := hp1 j hj'
      have b1 := ofF_in hp1 ((j : Int) - mass) (o := 0) (by omega)
      have b2 := ofF_in hp1 ((j : Int) + mass) (o := 0) (by omega)
      simp only [Int.toNat_natCast, hwj, ofF_congr hb]
      refine ⟨by omega, by omega, by omega, by omega, by omega, by omega, by omega, ⟨j + 1, by omega, rfl, hb, fun i hi => ?_⟩, g_ltI (by omega)⟩
      by_cases g : i = j
      · rw [g, va_up_self, if_pos (by omega)]
      · rw [va_up_ne _ _ g, hw i hi]
        by_cases g2 : i < j
        · rw [if_pos g2, if_pos (by omega)]
        · rw [if_neg g2, if_neg (by omega)]

set_option maxRecDepth 100000 in
set_option maxHeartbeats 4000000 in
theorem w_X2_writesErrors (l : Launch) (hlt : l.stackTraces = false) (T : GT) (bk : Nat) (be : Nat) (wy : Nat) (er : Nat) (bf : Nat) (erro : Nat → Int) (befo : Nat → Int) (wa : Nat → Nat) (n : Nat) (ms : Nat → Int) (es : Nat → Int) (k : Nat) (I20 : Int → (Nat → Int) → (Nat → Int) → Prop) (M20 : Int → (Nat → Int) → (Nat → Int) → g_mu) (post : (Nat → Int) → (Nat → Int) → Prop) (v0_ : (∀ i, i < 7001 → -32768 ≤ erro i ∧ erro i < 32768) ∧ (I20 0 erro (va_cpy erro befo 0 0 7001))) (v20 : ∀ (x : Int) (er1 : Nat → Int) (bf1 : Nat → Int), I20 x er1 bf1 → (-2147483648 ≤ x ∧ x < 2147483648) ∧ ((7001 ≤ x → (post er1 bf1)) ∧ (x < 7001 → ((k < n) ∧ ((k < n) ∧ ((-2147483648 ≤ (x - (ms k)) ∧ (x - (ms k)) < 2147483648) ∧ ((k < n) ∧ ((-2147483648 ≤ (x + (ms k)) ∧ (x + (ms k)) < 2147483648) ∧ ((-2147483648 ≤ (ofF bf1 (x - (ms k)) (9999 : Int)) ∧ (ofF bf1 (x - (ms k)) (9999 : Int)) < 2147483648) ∧ ((-2147483648 ≤ (ofF bf1 (x + (ms k)) (9999 : Int)) ∧ (ofF bf1 (x + (ms k)) (9999 : Int)) < 2147483648) ∧ ((0 ≤ x ∧ x < 7001) ∧ ((-2147483648 ≤ ((es k) + (min (ofF bf1 (x - (ms k)) (9999 : Int)) (ofF bf1 (x + (ms k)) (9999 : Int)))) ∧ ((es k) + (min (ofF bf1 (x - (ms k)) (9999 : Int)) (ofF bf1 (x + (ms k)) (9999 : Int)))) < 2147483648) ∧ ((-2147483648 ≤ (er1 x.toNat) ∧ (er1 x.toNat) < 2147483648) ∧ ((-2147483648 ≤ (min 9999 ((es k) + (min (ofF bf1 (x - (ms k)) (9999 : Int)) (ofF bf1 (x + (ms k)) (9999 : Int))))) ∧ (min 9999 ((es k) + (min (ofF bf1 (x - (ms k)) (9999 : Int)) (ofF bf1 (x + (ms k)) (9999 : Int))))) < 2147483648) ∧ ((-32768 ≤ (min (er1 x.toNat) (min 9999 ((es k) + (min (ofF bf1 (x - (ms k)) (9999 : Int)) (ofF bf1 (x + (ms k)) (9999 : Int)))))) ∧ (min (er1 x.toNat) (min 9999 ((es k) + (min (ofF bf1 (x - (ms k)) (9999 : Int)) (ofF bf1 (x + (ms k)) (9999 : Int)))))) < 32768) ∧ ((-32768 ≤ (min (er1 x.toNat) (min 9999 ((es k) + (min (ofF bf1 (x - (ms k)) (9999 : Int)) (ofF bf1 (x + (ms k)) (9999 : Int)))))) ∧ (min (er1 x.toNat) (min 9999 ((es k) + (min (ofF bf1 (x - (ms k)) (9999 : Int)) (ofF bf1 (x + (ms k)) (9999 : Int)))))) < 32768) ∧ ((0 ≤ x ∧ x < 7001) ∧ (I20 (x + 1) (va_up er1 x.toNat (min (er1 x.toNat) (min 9999 ((es k) + (min (ofF bf1 (x - (ms k)) (9999 : Int)) (ofF bf1 (x + (ms k)) (9999 : Int))))))) bf1 ∧ g_lt (M20 (x + 1) (va_up er1 x.toNat (min (er1 x.toNat) (min 9999 ((es k) + (min (ofF bf1 (x - (ms k)) (9999 : Int)) (ofF bf1 (x + (ms k)) (9999 : Int))))))) bf1) (M20 x er1 bf1))))))))))))))))))) : MW l T yX2_writesErrors cX2_writesErrors 4 none ({ frames := 1, cells := 0, slots := 0, locals := 60 }) [.ref bk, .ref (wa k)] ((bk, .inr (1, [.ref be, .ref wy, .ref er, .ref bf])) :: ((er, .inl (T.2.1 2, 7001, .inl (zA erro))) :: ((bf, .inl (T.2.1 2, 7001, .inl (zA befo))) :: ((PW n wa ms es) ++ [])))) (fun v_ wn_ => ∃ (erro2 : Nat → Int), ∃ (befo2 : Nat → Int), v_ = none ∧ wn_ = ((bk, .inr (1, [.ref be, .ref wy, .ref er, .ref bf])) :: ((er, .inl (T.2.1 2, 7001, .inl (zA erro2))) :: ((bf, .inl (T.2.1 2, 7001, .inl (zA befo2))) :: ((PW n wa ms es) ++ [])))) ∧ post erro2 befo2) 0 0 := by
  refine MW.start hlt (by decide) (lv0 := [some (.ref bk), some (.ref (wa k)), none, none]) rfl (Nat.le_of_ble_eq_true rfl) rfl ?_
  intro p e R s m args below meth c A cx hr hnm hST hrw
  have key : ∀ μ : g_mu, (∀ (x : Int) (er1 : Nat → Int) (bf1 : Nat → Int), I20 x er1 bf1 → M20 x er1 bf1 = μ → G p l e R s m args below meth c 4 T A A (MQ below (g_Q T (fun v_ wn_ => ∃ (erro2 : Nat → Int), ∃ (befo2 : Nat → Int), v_ = none ∧ wn_ = ((bk, .inr (1, [.ref be, .ref wy, .ref er, .ref bf])) :: ((er, .inl (T.2.1 2, 7001, .inl (zA erro2))) :: ((bf, .inl (T.2.1 2, 7001, .inl (zA befo2))) :: ((PW n wa ms es) ++ [])))) ∧ post erro2 befo2) A) args s 0 0 A) 0 0 ((bk, .inr (1, [.ref be, .ref wy, .ref er, .ref bf])) :: ((er, .inl (T.2.1 2, 7001, .inl (zA er1))) :: ((bf, .inl (T.2.1 2, 7001, .inl (zA bf1))) :: ((PW n wa ms es) ++ [])))) [some (.ref bk), some (.ref (wa k)), some (.int (iN x)), none] 20 []) := by
    refine g_ind (fun μ ih => ?_)
    · intro x er1 bf1 hI hM
      subst hM
      have vc := v20 x er1 bf1 hI
      refine g_iload_n (q := 21) cx dX2_writesErrors_20 rfl rfl ?_
      refine g_aload_n (q := 22) cx dX2_writesErrors_21 rfl rfl ?_
      refine g_get (q := 25) cx k_cX2 0 rfl 2 (by decide) q129 (Or.inl rfl) rfl dX2_writesErrors_22 rfl ?_
      refine g_alenZ (q := 26) cx 1 2 rfl rfl dX2_writesErrors_25 rfl ?_
      refine g_st (st2 := [.int (iN 7001), .int (iN x)]) rfl ?_
      refine g_icmp_geZ (q := 29) (tg := 99) cx vc.1 (by decide) dX2_writesErrors_26 (by decide) rfl (fun h_1 => ?_) (fun h_1 => ?_)
      · have vc := vc.2.1 h_1
        exact g_vretW cx hr ⟨er1, bf1, rfl, rfl, vc⟩ (by first | exact Nat.le_of_ble_eq_true rfl | omega) (by first | exact Nat.le_of_ble_eq_true rfl | omega) dX2_writesErrors_99
      · have vc := vc.2.2 h_1
        refine g_aload_n (q := 30) cx dX2_writesErrors_29 rfl rfl ?_
        refine g_cVr1 (q := 33) (b := (wa k)) (As := []) (st := []) cx hST (k_X4_error l hlt T (wa k) (ms k) (es k)) q370 s_X4_error rfl (g_mh (g_mh (g_mh (g_ml (PW_mem vc.1))))) rfl (g_rmB rfl) (Nat.le_of_ble_eq_true rfl) dX2_writesErrors_30 rfl (fun v_ hv_ => ?_)
        have vc := vc.2
        obtain ⟨r_2, rfl, e_3⟩ := hv_
        subst e_3
        refine g_st (st2 := [.int (iN (es k))]) rfl ?_
        refine g_aload_n (q := 34) cx dX2_writesErrors_33 rfl rfl ?_
        refine g_get (q := 37) cx k_cX2 0 rfl 3 (by decide) q131 (Or.inl rfl) rfl dX2_writesErrors_34 rfl ?_
        refine g_iload_n (q := 38) cx dX2_writesErrors_37 rfl rfl ?_
        refine g_aload_n (q := 39) cx dX2_writesErrors_38 rfl rfl ?_
        refine g_cVr1 (q := 42) (b := (wa k)) (As := []) (st := [.int (iN x), .ref bf, .int (iN (es k))]) cx hST (k_X4_mass l hlt T (wa k) (ms k) (es k)) q228 s_X4_mass rfl (g_mh (g_mh (g_mh (g_ml (PW_mem vc.1))))) rfl (g_rmB rfl) (Nat.le_of_ble_eq_true rfl) dX2_writesErrors_39 rfl (fun v_ hv_ => ?_)
        have vc := vc.2
        obtain ⟨r_4, rfl, e_5⟩ := hv_
        subst e_5
        refine g_st (st2 := [.int (iN (ms k)), .int (iN x), .ref bf, .int (iN (es k))]) rfl ?_
        refine g_isubZ (q := 43) cx dX2_writesErrors_42 rfl ?_
        refine g_sipush (q := 46) (v := iN 9999) cx dX2_writesErrors_43 (by decide) rfl ?_
        refine g_cSr (q := 49) (As := [.ref bf, .int (iN (x - (ms k))), .int (iN 9999)]) (wr := ((bk, .inr (1, [.ref be, .ref wy, .ref er, .ref bf])) :: ((er, .inl (T.2.1 2, 7001, .inl (zA er1))) :: ((PW n wa ms es) ++ [])))) (st := [.int (iN (es k))]) cx hST (k_X2_of l hlt T bf bf1 (x - (ms k)) 9999 (vc.1)) q363 s_X2_of rfl (g_permB (α := Nat × va_E) (L := [[(bk, .inr (1, [.ref be, .ref wy, .ref er, .ref bf]))], [(er, .inl (T.2.1 2, 7001, .inl (zA er1)))], [(bf, .inl (T.2.1 2, 7001, .inl (zA bf1)))], (PW n wa ms es)]) (R := [[(bk, .inr (1, [.ref be, .ref wy, .ref er, .ref bf]))], [(er, .inl (T.2.1 2, 7001, .inl (zA er1)))], (PW n wa ms es)]) (C := [[(bf, .inl (T.2.1 2, 7001, .inl (zA bf1)))]]) [0, 1, 3, 2] rfl rfl rfl rfl rfl) (g_rmB rfl) (Nat.le_of_ble_eq_true rfl) dX2_writesErrors_46 rfl (fun v_ hv_ => ?_)
        have vc := vc.2
        obtain ⟨r_6, rfl, e_7⟩ := hv_
        subst e_7
        refine g_st (st2 := [.int (iN (ofF bf1 (x - (ms k)) (9999 : Int))), .int (iN (es k))]) rfl ?_
        refine g_aload_n (q := 50) cx dX2_writesErrors_49 rfl rfl ?_
        refine g_get (q := 53) cx k_cX2 0 rfl 3 (by decide) q131 (Or.inl rfl) rfl dX2_writesErrors_50 rfl ?_
        refine g_iload_n (q := 54) cx dX2_writesErrors_53 rfl rfl ?_
        refine g_aload_n (q := 55) cx dX2_writesErrors_54 rfl rfl ?_
        refine g_cVr1 (q := 58) (b := (wa k)) (As := []) (st := [.int (iN x), .ref bf, .int (iN (ofF bf1 (x - (ms k)) (9999 : Int))), .int (iN (es k))]) cx hST (k_X4_mass l hlt T (wa k) (ms k) (es k)) q228 s_X4_mass rfl (g_mh (g_mh (g_mh (g_ml (PW_mem vc.1))))) rfl (g_rmB rfl) (Nat.le_of_ble_eq_true rfl) dX2_writesErrors_55 rfl (fun v_ hv_ => ?_)
        have vc := vc.2
        obtain ⟨r_8, rfl, e_9⟩ := hv_
        subst e_9
        refine g_st (st2 := [.int (iN (ms k)), .int (iN x), .ref bf, .int (iN (ofF bf1 (x - (ms k)) (9999 : Int))), .int (iN (es k))]) rfl ?_
        refine g_iaddZ (q := 59) cx dX2_writesErrors_58 rfl ?_
        refine g_sipush (q := 62) (v := iN 9999) cx dX2_writesErrors_59 (by decide) rfl ?_
        refine g_cSr (q := 65) (As := [.ref bf, .int (iN (x + (ms k))), .int (iN 9999)]) (wr := ((bk, .inr (1, [.ref be, .ref wy, .ref er, .ref bf])) :: ((er, .inl (T.2.1 2, 7001, .inl (zA er1))) :: ((PW n wa ms es) ++ [])))) (st := [.int (iN (ofF bf1 (x - (ms k)) (9999 : Int))), .int (iN (es k))]) cx hST (k_X2_of l hlt T bf bf1 (x + (ms k)) 9999 (vc.1)) q363 s_X2_of rfl (g_permB (α := Nat × va_E) (L := [[(bk, .inr (1, [.ref be, .ref wy, .ref er, .ref bf]))], [(er, .inl (T.2.1 2, 7001, .inl (zA er1)))], [(bf, .inl (T.2.1 2, 7001, .inl (zA bf1)))], (PW n wa ms es)]) (R := [[(bk, .inr (1, [.ref be, .ref wy, .ref er, .ref bf]))], [(er, .inl (T.2.1 2, 7001, .inl (zA er1)))], (PW n wa ms es)]) (C := [[(bf, .inl (T.2.1 2, 7001, .inl (zA bf1)))]]) [0, 1, 3, 2] rfl rfl rfl rfl rfl) (g_rmB rfl) (Nat.le_of_ble_eq_true rfl) dX2_writesErrors_62 rfl (fun v_ hv_ => ?_)
        have vc := vc.2
        obtain ⟨r_10, rfl, e_11⟩ := hv_
        subst e_11
        refine g_st (st2 := [.int (iN (ofF bf1 (x + (ms k)) (9999 : Int))), .int (iN (ofF bf1 (x - (ms k)) (9999 : Int))), .int (iN (es k))]) rfl ?_
        refine g_mmin (q := 68) cx q236 vc.1 vc.2.1 (by decide) (Nat.le_of_ble_eq_true rfl) (Nat.le_of_ble_eq_true rfl) (Nat.le_of_ble_eq_true rfl) dX2_writesErrors_65 rfl ?_
        have vc := vc.2
        have vc := vc.2
        refine g_iaddZ (q := 69) cx dX2_writesErrors_68 rfl ?_
        refine g_istore_n (q := 70) (lv2 := [some (.ref bk), some (.ref (wa k)), some (.int (iN x)), some (.int (iN ((es k) + (min (ofF bf1 (x - (ms k)) (9999 : Int)) (ofF bf1 (x + (ms k)) (9999 : Int))))))]) cx dX2_writesErrors_69 rfl (by decide) rfl rfl ?_
        refine g_aload_n (q := 71) cx dX2_writesErrors_70 rfl rfl ?_
        refine g_get (q := 74) cx k_cX2 0 rfl 2 (by decide) q129 (Or.inl rfl) rfl dX2_writesErrors_71 rfl ?_
        refine g_iload_n (q := 75) cx dX2_writesErrors_74 rfl rfl ?_
        refine g_aload_n (q := 76) cx dX2_writesErrors_75 rfl rfl ?_
        refine g_get (q := 79) cx k_cX2 0 rfl 2 (by decide) q129 (Or.inl rfl) rfl dX2_writesErrors_76 rfl ?_
        refine g_iload_n (q := 80) cx dX2_writesErrors_79 rfl rfl ?_
        refine g_saldZ (q := 81) cx 1 (by decide) rfl vc.1 dX2_writesErrors_80 rfl ?_
        have vc := vc.2
        refine g_sipush (q := 84) (v := iN 9999) cx dX2_writesErrors_81 (by decide) rfl ?_
        refine g_iload_n (q := 85) cx dX2_writesErrors_84 rfl rfl ?_
        refine g_mmin (q := 88) cx q236 (by decide) vc.1 (by decide) (Nat.le_of_ble_eq_true rfl) (Nat.le_of_ble_eq_true rfl) (Nat.le_of_ble_eq_true rfl) dX2_writesErrors_85 rfl ?_
        have vc := vc.2
        refine g_mmin (q := 91) cx q236 vc.1 vc.2.1 (by decide) (Nat.le_of_ble_eq_true rfl) (Nat.le_of_ble_eq_true rfl) (Nat.le_of_ble_eq_true rfl) dX2_writesErrors_88 rfl ?_
        have vc := vc.2
        have vc := vc.2
        refine g_i2sZ (q := 92) cx vc.1 dX2_writesErrors_91 rfl ?_
        have vc := vc.2
        refine g_sastZ (q := 93) (ws2 := ((bk, .inr (1, [.ref be, .ref wy, .ref er, .ref bf])) :: ((er, .inl (T.2.1 2, 7001, .inl (zA (va_up er1 x.toNat (min (er1 x.toNat) (min 9999 ((es k) + (min (ofF bf1 (x - (ms k)) (9999 : Int)) (ofF bf1 (x + (ms k)) (9999 : Int)))))))))) :: ((bf, .inl (T.2.1 2, 7001, .inl (zA bf1))) :: ((PW n wa ms es) ++ []))))) cx hrw 1 vc.1 (by decide) rfl vc.2.1 rfl dX2_writesErrors_92 rfl ?_
        have vc := vc.2
        have vc := vc.2
        refine g_iinc (q := 96) (v := iN (x + 1)) (lv2 := [some (.ref bk), some (.ref (wa k)), some (.int (iN (x + 1))), some (.int (iN ((es k) + (min (ofF bf1 (x - (ms k)) (9999 : Int)) (ofF bf1 (x + (ms k)) (9999 : Int))))))]) cx dX2_writesErrors_93 rfl (iN_add _ _) (by decide) rfl rfl ?_
        refine g_goto (q := 20) cx dX2_writesErrors_96 (by decide) ?_
        refine g_wk (lv2 := [some (.ref bk), some (.ref (wa k)), some (.int (iN (x + 1))), none]) ⟨rfl, ⟨rfl, ⟨rfl, trivial⟩⟩⟩ ?_
        exact (ih _ vc.2) (x + 1) (va_up er1 x.toNat (min (er1 x.toNat) (min 9999 ((es k) + (min (ofF bf1 (x - (ms k)) (9999 : Int)) (ofF bf1 (x + (ms k)) (9999 : Int))))))) bf1 vc.1 rfl
  have vc := v0_
  refine g_aload_n (q := 1) cx dX2_writesErrors_0 rfl rfl ?_
  refine g_get (q := 4) cx k_cX2 0 rfl 2 (by decide) q129 (Or.inl rfl) rfl dX2_writesErrors_1 rfl ?_
  refine g_iconst (q := 5) (v := iN 0) cx dX2_writesErrors_4 rfl rfl ?_
  refine g_aload_n (q := 6) cx dX2_writesErrors_5 rfl rfl ?_
  refine g_get (q := 9) cx k_cX2 0 rfl 3 (by decide) q131 (Or.inl rfl) rfl dX2_writesErrors_6 rfl ?_
  refine g_iconst (q := 10) (v := iN 0) cx dX2_writesErrors_9 rfl rfl ?_
  refine g_aload_n (q := 11) cx dX2_writesErrors_10 rfl rfl ?_
  refine g_get (q := 14) cx k_cX2 0 rfl 2 (by decide) q129 (Or.inl rfl) rfl dX2_writesErrors_11 rfl ?_
  refine g_alenZ (q := 15) cx 1 2 rfl rfl dX2_writesErrors_14 rfl ?_
  refine g_st (st2 := [.int (iN 7001), .int (iN 0), .ref bf, .int (iN 0), .ref er]) rfl ?_
  refine g_copyS (q := 18) (ws2 := ((bk, .inr (1, [.ref be, .ref wy, .ref er, .ref bf])) :: ((er, .inl (T.2.1 2, 7001, .inl (zA erro))) :: ((bf, .inl (T.2.1 2, 7001, .inl (zA (va_cpy erro befo 0 0 7001)))) :: ((PW n wa ms es) ++ []))))) cx hrw q360 1 2 (by decide) (by decide) rfl rfl (by decide) (by decide) (by decide) (by decide) (by decide) vc.1 (by decide) (Nat.le_of_ble_eq_true rfl) rfl dX2_writesErrors_15 rfl ?_
  have vc := vc.2
  refine g_iconst (q := 19) (v := iN 0) cx dX2_writesErrors_18 rfl rfl ?_
  refine g_istore_n (q := 20) (lv2 := [some (.ref bk), some (.ref (wa k)), some (.int (iN 0)), none]) cx dX2_writesErrors_19 rfl (by decide) rfl rfl ?_
  exact (key _) 0 erro (va_cpy erro befo 0 0 7001) vc rfl

theorem k_X2_writesErrors (l : Launch) (hlt : l.stackTraces = false) (T : GT) (bk : Nat) (be : Nat) (wy : Nat) (er : Nat) (bf : Nat) (erro : Nat → Int) (befo : Nat → Int) (wa : Nat → Nat) (n : Nat) (ms : Nat → Int) (es : Nat → Int) (k : Nat) (hp0 : 1 ≤ ms k ∧ ms k ≤ 500) (hp1 : 0 ≤ es k ∧ es k ≤ 9) (hp2 : ∀ i, i < 7001 → 0 ≤ erro i ∧ erro i ≤ 9999) (hp3 : k < n) : MW l T yX2_writesErrors cX2_writesErrors 4 none ({ frames := 1, cells := 0, slots := 0, locals := 60 }) [.ref bk, .ref (wa k)] ((bk, .inr (1, [.ref be, .ref wy, .ref er, .ref bf])) :: ((er, .inl (T.2.1 2, 7001, .inl (zA erro))) :: ((bf, .inl (T.2.1 2, 7001, .inl (zA befo))) :: ((PW n wa ms es) ++ [])))) (fun v_ wn_ => ∃ (erro2 : Nat → Int), ∃ (befo2 : Nat → Int), v_ = none ∧ wn_ = ((bk, .inr (1, [.ref be, .ref wy, .ref er, .ref bf])) :: ((er, .inl (T.2.1 2, 7001, .inl (zA erro2))) :: ((bf, .inl (T.2.1 2, 7001, .inl (zA befo2))) :: ((PW n wa ms es) ++ [])))) ∧ (∀ i, i < 7001 → erro2 i = min (erro i) (min 9999 (es k + min (ofF erro (i - ms k) 9999) (ofF erro (i + ms k) 9999))))) 0 0 := by
  refine w_X2_writesErrors l hlt T bk be wy er bf erro befo wa n ms es k (I20 := fun x er1 bf1 => ∃ j : Nat, j ≤ 7001 ∧ x = j ∧ (∀ i, i < 7001 → bf1 i = erro i) ∧ (∀ i, i < 7001 → er1 i = if i < j then min (erro i) (min 9999 (es k + min (ofF erro (i - ms k) 9999) (ofF erro (i + ms k) 9999))) else erro i)) (M20 := fun x _ _ => (0, 0, 0, (7001 - x).toNat)) _ ?_ ?_
  · exact ⟨fun i hi => by have := hp2 i hi; omega, 0, by omega, rfl, cpy_all, fun i hi => by rw [if_neg (Nat.not_lt_zero i)]⟩
  · rintro x er1 bf1 ⟨j, hj, rfl, hb, hw⟩
    refine ⟨by omega, fun h => ?_, fun h => ?_⟩
    · intro i hi
      rw [hw i hi, if_pos (by omega)]
    · have hj' : j < 7001 := by omega
      have hwj := hw j hj'
      rw [if_neg (Nat.lt_irrefl j)] at hwj
      have b0 := hp2 j hj'
      have b1 := ofF_in hp2 ((j : Int) - ms k) (o := 9999) (by omega)
      have b2 := ofF_in hp2 ((j : Int) + ms k) (o := 9999) (by omega)
      simp only [Int.toNat_natCast, hwj, ofF_congr hb]
      refine ⟨hp3, hp3, by omega, hp3, by omega, by omega, by omega, by omega, by omega, by omega, by omega, by omega, by omega, by omega, ⟨j + 1, by omega, rfl, hb, fun i hi => ?_⟩, g_ltI (by omega)⟩
      by_cases g : i = j
      · rw [g, va_up_self, if_pos (by omega)]
      · rw [va_up_ne _ _ g, hw i hi]
        by_cases g2 : i < j
        · rw [if_pos g2, if_pos (by omega)]
        · rw [if_neg g2, if_neg (by omega)]

set_option maxRecDepth 100000 in
set_option maxHeartbeats 4000000 in
theorem w_X2_writesBest (l : Launch) (hlt : l.stackTraces = false) (T : GT) (bk : Nat) (be : Nat) (wy : Nat) (er : Nat) (bf : Nat) (ra : Nat → Nat) (rows : Nat → Nat → Int) (al : Nat) (da : Nat) (mcn : Int32) (cap : Nat) (el : Nat → Option Nat) (wa : Nat → Nat) (n : Nat) (ms : Nat → Int) (es : Nat → Int) (I14 : Int → (Nat → Nat → Int) → Prop) (M14 : Int → (Nat → Nat → Int) → g_mu) (I52 : Int → (Nat → Nat → Int) → Prop) (M52 : Int → (Nat → Nat → Int) → g_mu) (I76 : Int → Int → Int → (Nat → Nat → Int) → Prop) (M76 : Int → Int → Int → (Nat → Nat → Int) → g_mu) (post : (Nat → Nat → Int) → Prop) (v0_ : (0 ≤ ((n : Nat) : Int) ∧ ((n : Nat) : Int) < 8) ∧ (I14 0 rows)) (v14 : ∀ (k : Int) (rw : Nat → Nat → Int), I14 k rw → (((n : Nat) : Int).toNat < 8) ∧ ((-2147483648 ≤ k ∧ k < 2147483648) ∧ ((7001 ≤ k → (I52 (((n : Nat) : Int) - 1) rw ∧ g_lt (M52 (((n : Nat) : Int) - 1) rw) (M14 k rw))) ∧ (k < 7001 → ((-2147483648 ≤ k ∧ k < 2147483648) ∧ ((¬ k = 3500 → ((((n : Nat) : Int).toNat < 8) ∧ ((0 ≤ k ∧ k < 7001) ∧ (I14 (k + 1) (va_up rw ((n : Nat) : Int).toNat (va_up (rw ((n : Nat) : Int).toNat) k.toNat 9999)) ∧ g_lt (M14 (k + 1) (va_up rw ((n : Nat) : Int).toNat (va_up (rw ((n : Nat) : Int).toNat) k.toNat 9999))) (M14 k rw))))) ∧ (k = 3500 → ((((n : Nat) : Int).toNat < 8) ∧ ((0 ≤ k ∧ k < 7001) ∧ (I14 (k + 1) (va_up rw ((n : Nat) : Int).toNat (va_up (rw ((n : Nat) : Int).toNat) k.toNat 0)) ∧ g_lt (M14 (k + 1) (va_up rw ((n : Nat) : Int).toNat (va_up (rw ((n : Nat) : Int).toNat) k.toNat 0))) (M14 k rw))))))))))) (v52 : ∀ (wi : Int) (rw : Nat → Nat → Int), I52 wi rw → (-2147483648 ≤ wi ∧ wi < 2147483648) ∧ ((wi < 0 → (post rw)) ∧ (0 ≤ wi → ((0 ≤ wi ∧ wi < ((n : Nat) : Int)) ∧ ((-2147483648 ≤ ((n : Nat) : Int) ∧ ((n : Nat) : Int) < 2147483648) ∧ ((0 ≤ wi ∧ wi < cap) ∧ ((cap < 2147483648) ∧ ((el wi.toNat = some (wa wi.toNat)) ∧ ((wi.toNat < n) ∧ ((wi.toNat < n) ∧ (I76 wi (ms wi.toNat) (-3500) rw ∧ g_lt (M76 wi (ms wi.toNat) (-3500) rw) (M52 wi rw)))))))))))) (v76 : ∀ (wi : Int) (mass : Int) (sum : Int) (rw : Nat → Nat → Int), I76 wi mass sum rw → (-2147483648 ≤ sum ∧ sum < 2147483648) ∧ ((3500 < sum → (I52 (wi + (-1)) rw ∧ g_lt (M52 (wi + (-1)) rw) (M76 wi mass sum rw))) ∧ (sum ≤ 3500 → ((0 ≤ (wi + 1) ∧ (wi + 1) < 8) ∧ ((-2147483648 ≤ (sum - mass) ∧ (sum - mass) < 2147483648) ∧ ((0 ≤ (wi + 1) ∧ (wi + 1) < 8) ∧ ((-2147483648 ≤ (sum + mass) ∧ (sum + mass) < 2147483648) ∧ ((0 ≤ wi ∧ wi < 8) ∧ ((0 ≤ (wi + 1) ∧ (wi + 1) < 8) ∧ ((-2147483648 ≤ sum ∧ sum < 2147483648) ∧ ((-2147483648 ≤ (16 + (costF rw (wi + 1).toNat (sum - mass))) ∧ (16 + (costF rw (wi + 1).toNat (sum - mass))) < 2147483648) ∧ ((-2147483648 ≤ (17 + (costF rw (wi + 1).toNat (sum + mass))) ∧ (17 + (costF rw (wi + 1).toNat (sum + mass))) < 2147483648) ∧ ((-2147483648 ≤ (costF rw (wi + 1).toNat sum) ∧ (costF rw (wi + 1).toNat sum) < 2147483648) ∧ ((-2147483648 ≤ (min (16 + (costF rw (wi + 1).toNat (sum - mass))) (17 + (costF rw (wi + 1).toNat (sum + mass)))) ∧ (min (16 + (costF rw (wi + 1).toNat (sum - mass))) (17 + (costF rw (wi + 1).toNat (sum + mass)))) < 2147483648) ∧ ((wi.toNat < 8) ∧ ((0 ≤ (3500 + sum) ∧ (3500 + sum) < 7001) ∧ (I76 wi mass (sum + 1) (va_up rw wi.toNat (va_up (rw wi.toNat) (3500 + sum).toNat (min (costF rw (wi + 1).toNat sum) (min (16 + (costF rw (wi + 1).toNat (sum - mass))) (17 + (costF rw (wi + 1).toNat (sum + mass))))))) ∧ g_lt (M76 wi mass (sum + 1) (va_up rw wi.toNat (va_up (rw wi.toNat) (3500 + sum).toNat (min (costF rw (wi + 1).toNat sum) (min (16 + (costF rw (wi + 1).toNat (sum - mass))) (17 + (costF rw (wi + 1).toNat (sum + mass)))))))) (M76 wi mass sum rw)))))))))))))))))) : MW l T yX2_writesBest cX2_writesBest 8 none ({ frames := 3, cells := 0, slots := 0, locals := 64 }) [.ref bk, .ref al] ((bk, .inr (1, [.ref be, .ref wy, .ref er, .ref bf])) :: ((be, .inl (T.2.1 6, 8, .inr (.inr (.inr (.inr (fun k => some (ra k))))))) :: ((al, .inr (4, [.int mcn, .ref da, .int (iN ((n : Nat) : Int))])) :: ((da, .inl (T.2.1 5, cap, .inr (.inr (.inr (.inr el))))) :: ((PI (T.2.1 0) 8 7001 ra rows) ++ ((PW n wa ms es) ++ [])))))) (fun v_ wn_ => ∃ (rows2 : Nat → Nat → Int), v_ = none ∧ wn_ = ((bk, .inr (1, [.ref be, .ref wy, .ref er, .ref bf])) :: ((be, .inl (T.2.1 6, 8, .inr (.inr (.inr (.inr (fun k => some (ra k))))))) :: ((al, .inr (4, [.int mcn, .ref da, .int (iN ((n : Nat) : Int))])) :: ((da, .inl (T.2.1 5, cap, .inr (.inr (.inr (.inr el))))) :: ((PI (T.2.1 0) 8 7001 ra rows2) ++ ((PW n wa ms es) ++ [])))))) ∧ post rows2) 0 0 := by
  refine MW.start hlt (by decide) (lv0 := [some (.ref bk), some (.ref al), none, none, none, none, none, none]) rfl (Nat.le_of_ble_eq_true rfl) rfl ?_
  intro p e R s m args below meth c A cx hr hnm hST hrw
  have key : ∀ μ : g_mu, (∀ (k : Int) (rw : Nat → Nat → Int), I14 k rw → M14 k rw = μ → G p l e R s m args below meth c 8 T A A (MQ below (g_Q T (fun v_ wn_ => ∃ (rows2 : Nat → Nat → Int), v_ = none ∧ wn_ = ((bk, .inr (1, [.ref be, .ref wy, .ref er, .ref bf])) :: ((be, .inl (T.2.1 6, 8, .inr (.inr (.inr (.inr (fun k => some (ra k))))))) :: ((al, .inr (4, [.int mcn, .ref da, .int (iN ((n : Nat) : Int))])) :: ((da, .inl (T.2.1 5, cap, .inr (.inr (.inr (.inr el))))) :: ((PI (T.2.1 0) 8 7001 ra rows2) ++ ((PW n wa ms es) ++ [])))))) ∧ post rows2) A) args s 0 0 A) 0 0 ((bk, .inr (1, [.ref be, .ref wy, .ref er, .ref bf])) :: ((be, .inl (T.2.1 6, 8, .inr (.inr (.inr (.inr (fun k => some (ra k))))))) :: ((al, .inr (4, [.int mcn, .ref da, .int (iN ((n : Nat) : Int))])) :: ((da, .inl (T.2.1 5, cap, .inr (.inr (.inr (.inr el))))) :: ((PI (T.2.1 0) 8 7001 ra rw) ++ ((PW n wa ms es) ++ [])))))) [some (.ref bk), some (.ref al), some (.ref (ra ((n : Nat) : Int).toNat)), some (.int (iN k)), none, none, none, none] 14 []) ∧ (∀ (wi : Int) (rw : Nat → Nat → Int), I52 wi rw → M52 wi rw = μ → G p l e R s m args below meth c 8 T A A (MQ below (g_Q T (fun v_ wn_ => ∃ (rows2 : Nat → Nat → Int), v_ = none ∧ wn_ = ((bk, .inr (1, [.ref be, .ref wy, .ref er, .ref bf])) :: ((be, .inl (T.2.1 6, 8, .inr (.inr (.inr (.inr (fun k => some (ra k))))))) :: ((al, .inr (4, [.int mcn, .ref da, .int (iN ((n : Nat) : Int))])) :: ((da, .inl (T.2.1 5, cap, .inr (.inr (.inr (.inr el))))) :: ((PI (T.2.1 0) 8 7001 ra rows2) ++ ((PW n wa ms es) ++ [])))))) ∧ post rows2) A) args s 0 0 A) 0 0 ((bk, .inr (1, [.ref be, .ref wy, .ref er, .ref bf])) :: ((be, .inl (T.2.1 6, 8, .inr (.inr (.inr (.inr (fun k => some (ra k))))))) :: ((al, .inr (4, [.int mcn, .ref da, .int (iN ((n : Nat) : Int))])) :: ((da, .inl (T.2.1 5, cap, .inr (.inr (.inr (.inr el))))) :: ((PI (T.2.1 0) 8 7001 ra rw) ++ ((PW n wa ms es) ++ [])))))) [some (.ref bk), some (.ref al), none, some (.int (iN wi)), none, none, none, none] 52 []) ∧ (∀ (wi : Int) (mass : Int) (sum : Int) (rw : Nat → Nat → Int), I76 wi mass sum rw → M76 wi mass sum rw = μ → G p l e R s m args below meth c 8 T A A (MQ below (g_Q T (fun v_ wn_ => ∃ (rows2 : Nat → Nat → Int), v_ = none ∧ wn_ = ((bk, .inr (1, [.ref be, .ref wy, .ref er, .ref bf])) :: ((be, .inl (T.2.1 6, 8, .inr (.inr (.inr (.inr (fun k => some (ra k))))))) :: ((al, .inr (4, [.int mcn, .ref da, .int (iN ((n : Nat) : Int))])) :: ((da, .inl (T.2.1 5, cap, .inr (.inr (.inr (.inr el))))) :: ((PI (T.2.1 0) 8 7001 ra rows2) ++ ((PW n wa ms es) ++ [])))))) ∧ post rows2) A) args s 0 0 A) 0 0 ((bk, .inr (1, [.ref be, .ref wy, .ref er, .ref bf])) :: ((be, .inl (T.2.1 6, 8, .inr (.inr (.inr (.inr (fun k => some (ra k))))))) :: ((al, .inr (4, [.int mcn, .ref da, .int (iN ((n : Nat) : Int))])) :: ((da, .inl (T.2.1 5, cap, .inr (.inr (.inr (.inr el))))) :: ((PI (T.2.1 0) 8 7001 ra rw) ++ ((PW n wa ms es) ++ [])))))) [some (.ref bk), some (.ref al), none, some (.int (iN wi)), some (.int (iN mass)), some (.int (iN sum)), none, none] 76 []) := by
    refine g_ind (fun μ ih => ⟨?_, ?_, ?_⟩)
    · intro k rw hI hM
      subst hM
      have vc := v14 k rw hI
      refine g_iload_n (q := 15) cx dX2_writesBest_14 rfl rfl ?_
      refine g_aload_n (q := 16) cx dX2_writesBest_15 rfl rfl ?_
      refine g_alenM (q := 17) cx 0 (g_mh (g_mh (g_mh (g_mh (g_ml (PI_mem vc.1)))))) rfl dX2_writesBest_16 rfl ?_
      refine g_st (st2 := [.int (iN 7001), .int (iN k)]) rfl ?_
      have vc := vc.2
      refine g_icmp_geZ (q := 20) (tg := 43) cx vc.1 (by decide) dX2_writesBest_17 (by decide) rfl (fun h_1 => ?_) (fun h_1 => ?_)
      · have vc := vc.2.1 h_1
        refine g_aload_n (q := 44) cx dX2_writesBest_43 rfl rfl ?_
        refine g_cFr (q := 49) (b := al) (As := []) (wr := ((bk, .inr (1, [.ref be, .ref wy, .ref er, .ref bf])) :: ((be, .inl (T.2.1 6, 8, .inr (.inr (.inr (.inr (fun k => some (ra k))))))) :: ((PI (T.2.1 0) 8 7001 ra rw) ++ ((PW n wa ms es) ++ []))))) (st := []) cx hST (k_J2_size l hlt T al da mcn ((n : Nat) : Int) cap el) q207 f_J2_size rfl 2 rfl rfl (g_permB (α := Nat × va_E) (L := [[(bk, .inr (1, [.ref be, .ref wy, .ref er, .ref bf]))], [(be, .inl (T.2.1 6, 8, .inr (.inr (.inr (.inr (fun k => some (ra k)))))))], [(al, .inr (4, [.int mcn, .ref da, .int (iN ((n : Nat) : Int))]))], [(da, .inl (T.2.1 5, cap, .inr (.inr (.inr (.inr el)))))], (PI (T.2.1 0) 8 7001 ra rw), (PW n wa ms es)]) (R := [[(bk, .inr (1, [.ref be, .ref wy, .ref er, .ref bf]))], [(be, .inl (T.2.1 6, 8, .inr (.inr (.inr (.inr (fun k => some (ra k)))))))], (PI (T.2.1 0) 8 7001 ra rw), (PW n wa ms es)]) (C := [[(al, .inr (4, [.int mcn, .ref da, .int (iN ((n : Nat) : Int))]))], [(da, .inl (T.2.1 5, cap, .inr (.inr (.inr (.inr el)))))]]) [0, 1, 4, 5, 2, 3] rfl rfl rfl rfl rfl) (g_rmB rfl) (Nat.le_of_ble_eq_true rfl) dX2_writesBest_44 rfl (fun v_ hv_ => ?_)
        obtain ⟨r_2, rfl, e_3⟩ := hv_
        subst e_3
        refine g_st (st2 := [.int (iN ((n : Nat) : Int))]) rfl ?_
        refine g_iconst (q := 50) (v := iN 1) cx dX2_writesBest_49 rfl rfl ?_
        refine g_isubZ (q := 51) cx dX2_writesBest_50 rfl ?_
        refine g_istore_n (q := 52) (lv2 := [some (.ref bk), some (.ref al), some (.ref (ra ((n : Nat) : Int).toNat)), some (.int (iN (((n : Nat) : Int) - 1))), none, none, none, none]) cx dX2_writesBest_51 rfl (by decide) rfl rfl ?_
        refine g_wk (lv2 := [some (.ref bk), some (.ref al), none, some (.int (iN (((n : Nat) : Int) - 1))), none, none, none, none]) ⟨rfl, ⟨rfl, ⟨rfl, trivial⟩⟩⟩ ?_
        exact ((ih _ vc.2).2.1) (((n : Nat) : Int) - 1) rw vc.1 rfl
      · have vc := vc.2.2 h_1
        refine g_aload_n (q := 21) cx dX2_writesBest_20 rfl rfl ?_
        refine g_iload_n (q := 22) cx dX2_writesBest_21 rfl rfl ?_
        refine g_iload_n (q := 23) cx dX2_writesBest_22 rfl rfl ?_
        refine g_sipush (q := 26) (v := iN 3500) cx dX2_writesBest_23 (by decide) rfl ?_
        refine g_icmp_neZ (q := 29) (tg := 33) cx vc.1 (by decide) dX2_writesBest_26 (by decide) rfl (fun h_4 => ?_) (fun h_4 => ?_)
        · have vc := vc.2.1 h_4
          refine g_sipush (q := 36) (v := iN 9999) cx dX2_writesBest_33 (by decide) rfl ?_
          refine g_iastM (q := 37) (ws2 := ((bk, .inr (1, [.ref be, .ref wy, .ref er, .ref bf])) :: ((be, .inl (T.2.1 6, 8, .inr (.inr (.inr (.inr (fun k => some (ra k))))))) :: ((al, .inr (4, [.int mcn, .ref da, .int (iN ((n : Nat) : Int))])) :: ((da, .inl (T.2.1 5, cap, .inr (.inr (.inr (.inr el))))) :: ((PI (T.2.1 0) 8 7001 ra (va_up rw ((n : Nat) : Int).toNat (va_up (rw ((n : Nat) : Int).toNat) k.toNat 9999))) ++ ((PW n wa ms es) ++ []))))))) cx hrw (by decide) (g_at_h (g_at_h (g_at_h (g_at_h ((g_at_PI vc.1)))))) vc.2.1 dX2_writesBest_36 rfl ?_
          have vc := vc.2
          have vc := vc.2
          refine g_iinc (q := 40) (v := iN (k + 1)) (lv2 := [some (.ref bk), some (.ref al), some (.ref (ra ((n : Nat) : Int).toNat)), some (.int (iN (k + 1))), none, none, none, none]) cx dX2_writesBest_37 rfl (iN_add _ _) (by decide) rfl rfl ?_
          refine g_goto (q := 14) cx dX2_writesBest_40 (by decide) ?_
          exact ((ih _ vc.2).1) (k + 1) (va_up rw ((n : Nat) : Int).toNat (va_up (rw ((n : Nat) : Int).toNat) k.toNat 9999)) vc.1 rfl
        · have vc := vc.2.2 h_4
          refine g_iconst (q := 30) (v := iN 0) cx dX2_writesBest_29 rfl rfl ?_
          refine g_goto (q := 36) cx dX2_writesBest_30 (by decide) ?_
          refine g_iastM (q := 37) (ws2 := ((bk, .inr (1, [.ref be, .ref wy, .ref er, .ref bf])) :: ((be, .inl (T.2.1 6, 8, .inr (.inr (.inr (.inr (fun k => some (ra k))))))) :: ((al, .inr (4, [.int mcn, .ref da, .int (iN ((n : Nat) : Int))])) :: ((da, .inl (T.2.1 5, cap, .inr (.inr (.inr (.inr el))))) :: ((PI (T.2.1 0) 8 7001 ra (va_up rw ((n : Nat) : Int).toNat (va_up (rw ((n : Nat) : Int).toNat) k.toNat 0))) ++ ((PW n wa ms es) ++ []))))))) cx hrw (by decide) (g_at_h (g_at_h (g_at_h (g_at_h ((g_at_PI vc.1)))))) vc.2.1 dX2_writesBest_36 rfl ?_
          have vc := vc.2
          have vc := vc.2
          refine g_iinc (q := 40) (v := iN (k + 1)) (lv2 := [some (.ref bk), some (.ref al), some (.ref (ra ((n : Nat) : Int).toNat)), some (.int (iN (k + 1))), none, none, none, none]) cx dX2_writesBest_37 rfl (iN_add _ _) (by decide) rfl rfl ?_
          refine g_goto (q := 14) cx dX2_writesBest_40 (by decide) ?_
          exact ((ih _ vc.2).1) (k + 1) (va_up rw ((n : Nat) : Int).toNat (va_up (rw ((n : Nat) : Int).toNat) k.toNat 0)) vc.1 rfl
    · intro wi rw hI hM
      subst hM
      have vc := v52 wi rw hI
      refine g_iload_n (q := 53) cx dX2_writesBest_52 rfl rfl ?_
      refine g_if_ltZ (q := 56) (tg := 162) cx vc.1 dX2_writesBest_53 (by decide) rfl (fun h_5 => ?_) (fun h_5 => ?_)
      · have vc := vc.2.1 h_5
        exact g_vretW cx hr ⟨rw, rfl, rfl, vc⟩ (by first | exact Nat.le_of_ble_eq_true rfl | omega) (by first | exact Nat.le_of_ble_eq_true rfl | omega) dX2_writesBest_162
      · have vc := vc.2.2 h_5
        refine g_aload_n (q := 57) cx dX2_writesBest_56 rfl rfl ?_
        refine g_iload_n (q := 58) cx dX2_writesBest_57 rfl rfl ?_
        refine g_cFr (q := 63) (b := al) (As := [.int (iN wi)]) (wr := ((bk, .inr (1, [.ref be, .ref wy, .ref er, .ref bf])) :: ((be, .inl (T.2.1 6, 8, .inr (.inr (.inr (.inr (fun k => some (ra k))))))) :: ((PI (T.2.1 0) 8 7001 ra rw) ++ ((PW n wa ms es) ++ []))))) (st := []) cx hST (k_J2_get l hlt T al da mcn ((n : Nat) : Int) cap el wi (wa wi.toNat) (vc.1) (vc.2.1) (vc.2.2.1) (vc.2.2.2.1) (vc.2.2.2.2.1)) q209 f_J2_get rfl 2 rfl rfl (g_permB (α := Nat × va_E) (L := [[(bk, .inr (1, [.ref be, .ref wy, .ref er, .ref bf]))], [(be, .inl (T.2.1 6, 8, .inr (.inr (.inr (.inr (fun k => some (ra k)))))))], [(al, .inr (4, [.int mcn, .ref da, .int (iN ((n : Nat) : Int))]))], [(da, .inl (T.2.1 5, cap, .inr (.inr (.inr (.inr el)))))], (PI (T.2.1 0) 8 7001 ra rw), (PW n wa ms es)]) (R := [[(bk, .inr (1, [.ref be, .ref wy, .ref er, .ref bf]))], [(be, .inl (T.2.1 6, 8, .inr (.inr (.inr (.inr (fun k => some (ra k)))))))], (PI (T.2.1 0) 8 7001 ra rw), (PW n wa ms es)]) (C := [[(al, .inr (4, [.int mcn, .ref da, .int (iN ((n : Nat) : Int))]))], [(da, .inl (T.2.1 5, cap, .inr (.inr (.inr (.inr el)))))]]) [0, 1, 4, 5, 2, 3] rfl rfl rfl rfl rfl) (g_rmB rfl) (Nat.le_of_ble_eq_true rfl) dX2_writesBest_58 rfl (fun v_ hv_ => ?_)
        have vc := vc.2
        have vc := vc.2
        have vc := vc.2
        have vc := vc.2
        have vc := vc.2
        obtain ⟨v_6, rfl, e_7⟩ := hv_
        subst e_7
        refine g_st (st2 := [.ref (wa wi.toNat)]) rfl ?_
        refine g_castS (q := 66) cx 3 (g_mh (g_mh (g_mh (g_mh (g_mr (g_ml (PW_mem vc.1))))))) rfl q227 dX2_writesBest_63 rfl ?_
        have vc := vc.2
        refine g_cVr1 (q := 69) (b := (wa wi.toNat)) (As := []) (st := []) cx hST (k_X4_mass l hlt T (wa wi.toNat) (ms wi.toNat) (es wi.toNat)) q228 s_X4_mass rfl (g_mh (g_mh (g_mh (g_mh (g_mr (g_ml (PW_mem vc.1))))))) rfl (g_rmB rfl) (Nat.le_of_ble_eq_true rfl) dX2_writesBest_66 rfl (fun v_ hv_ => ?_)
        have vc := vc.2
        obtain ⟨r_8, rfl, e_9⟩ := hv_
        subst e_9
        refine g_st (st2 := [.int (iN (ms wi.toNat))]) rfl ?_
        refine g_istore (q := 71) (lv2 := [some (.ref bk), some (.ref al), none, some (.int (iN wi)), some (.int (iN (ms wi.toNat))), none, none, none]) cx dX2_writesBest_69 (by decide) rfl rfl ?_
        refine g_sipush (q := 74) (v := iN (-3500)) cx dX2_writesBest_71 (by decide) rfl ?_
        refine g_istore (q := 76) (lv2 := [some (.ref bk), some (.ref al), none, some (.int (iN wi)), some (.int (iN (ms wi.toNat))), some (.int (iN (-3500))), none, none]) cx dX2_writesBest_74 (by decide) rfl rfl ?_
        exact ((ih _ vc.2).2.2) wi (ms wi.toNat) (-3500) rw vc.1 rfl
    · intro wi mass sum rw hI hM
      subst hM
      have vc := v76 wi mass sum rw hI
      refine g_iload (q := 78) cx dX2_writesBest_76 rfl rfl ?_
      refine g_sipush (q := 81) (v := iN 3500) cx dX2_writesBest_78 (by decide) rfl ?_
      refine g_icmp_gtZ (q := 84) (tg := 156) cx vc.1 (by decide) dX2_writesBest_81 (by decide) rfl (fun h_10 => ?_) (fun h_10 => ?_)
      · have vc := vc.2.1 h_10
        refine g_iinc (q := 159) (v := iN (wi + (-1))) (lv2 := [some (.ref bk), some (.ref al), none, some (.int (iN (wi + (-1)))), some (.int (iN mass)), some (.int (iN sum)), none, none]) cx dX2_writesBest_156 rfl (iN_add _ _) (by decide) rfl rfl ?_
        refine g_goto (q := 52) cx dX2_writesBest_159 (by decide) ?_
        refine g_wk (lv2 := [some (.ref bk), some (.ref al), none, some (.int (iN (wi + (-1)))), none, none, none, none]) ⟨rfl, ⟨rfl, ⟨rfl, trivial⟩⟩⟩ ?_
        exact ((ih _ vc.2).2.1) (wi + (-1)) rw vc.1 rfl
      · have vc := vc.2.2 h_10
        refine g_bipush (q := 86) (v := iN 16) cx dX2_writesBest_84 (by decide) rfl ?_
        refine g_aload_n (q := 87) cx dX2_writesBest_86 rfl rfl ?_
        refine g_iload_n (q := 88) cx dX2_writesBest_87 rfl rfl ?_
        refine g_iconst (q := 89) (v := iN 1) cx dX2_writesBest_88 rfl rfl ?_
        refine g_iaddZ (q := 90) cx dX2_writesBest_89 rfl ?_
        refine g_iload (q := 92) cx dX2_writesBest_90 rfl rfl ?_
        refine g_iload (q := 94) cx dX2_writesBest_92 rfl rfl ?_
        refine g_isubZ (q := 95) cx dX2_writesBest_94 rfl ?_
        refine g_cVr (q := 98) (b := bk) (As := [.int (iN (wi + 1)), .int (iN (sum - mass))]) (wr := ((al, .inr (4, [.int mcn, .ref da, .int (iN ((n : Nat) : Int))])) :: ((da, .inl (T.2.1 5, cap, .inr (.inr (.inr (.inr el))))) :: ((PW n wa ms es) ++ [])))) (st := [.int (iN 16)]) cx hST (k_X2_cost l hlt T bk be wy er bf ra rw (wi + 1) (sum - mass) (vc.1) (vc.2.1)) q232 s_X2_cost rfl 0 rfl rfl (g_permB (α := Nat × va_E) (L := [[(bk, .inr (1, [.ref be, .ref wy, .ref er, .ref bf]))], [(be, .inl (T.2.1 6, 8, .inr (.inr (.inr (.inr (fun k => some (ra k)))))))], [(al, .inr (4, [.int mcn, .ref da, .int (iN ((n : Nat) : Int))]))], [(da, .inl (T.2.1 5, cap, .inr (.inr (.inr (.inr el)))))], (PI (T.2.1 0) 8 7001 ra rw), (PW n wa ms es)]) (R := [[(al, .inr (4, [.int mcn, .ref da, .int (iN ((n : Nat) : Int))]))], [(da, .inl (T.2.1 5, cap, .inr (.inr (.inr (.inr el)))))], (PW n wa ms es)]) (C := [[(bk, .inr (1, [.ref be, .ref wy, .ref er, .ref bf]))], [(be, .inl (T.2.1 6, 8, .inr (.inr (.inr (.inr (fun k => some (ra k)))))))], (PI (T.2.1 0) 8 7001 ra rw)]) [2, 3, 5, 0, 1, 4] rfl rfl rfl rfl rfl) (g_rmB rfl) (Nat.le_of_ble_eq_true rfl) dX2_writesBest_95 rfl (fun v_ hv_ => ?_)
        have vc := vc.2
        have vc := vc.2
        obtain ⟨r_11, rfl, e_12⟩ := hv_
        subst e_12
        refine g_st (st2 := [.int (iN (costF rw (wi + 1).toNat (sum - mass))), .int (iN 16)]) rfl ?_
        refine g_iaddZ (q := 99) cx dX2_writesBest_98 rfl ?_
        refine g_istore (q := 101) (lv2 := [some (.ref bk), some (.ref al), none, some (.int (iN wi)), some (.int (iN mass)), some (.int (iN sum)), some (.int (iN (16 + (costF rw (wi + 1).toNat (sum - mass))))), none]) cx dX2_writesBest_99 (by decide) rfl rfl ?_
        refine g_bipush (q := 103) (v := iN 17) cx dX2_writesBest_101 (by decide) rfl ?_
        refine g_aload_n (q := 104) cx dX2_writesBest_103 rfl rfl ?_
        refine g_iload_n (q := 105) cx dX2_writesBest_104 rfl rfl ?_
        refine g_iconst (q := 106) (v := iN 1) cx dX2_writesBest_105 rfl rfl ?_
        refine g_iaddZ (q := 107) cx dX2_writesBest_106 rfl ?_
        refine g_iload (q := 109) cx dX2_writesBest_107 rfl rfl ?_
        refine g_iload (q := 111) cx dX2_writesBest_109 rfl rfl ?_
        refine g_iaddZ (q := 112) cx dX2_writesBest_111 rfl ?_
        refine g_cVr (q := 115) (b := bk) (As := [.int (iN (wi + 1)), .int (iN (sum + mass))]) (wr := ((al, .inr (4, [.int mcn, .ref da, .int (iN ((n : Nat) : Int))])) :: ((da, .inl (T.2.1 5, cap, .inr (.inr (.inr (.inr el))))) :: ((PW n wa ms es) ++ [])))) (st := [.int (iN 17)]) cx hST (k_X2_cost l hlt T bk be wy er bf ra rw (wi + 1) (sum + mass) (vc.1) (vc.2.1)) q232 s_X2_cost rfl 0 rfl rfl (g_permB (α := Nat × va_E) (L := [[(bk, .inr (1, [.ref be, .ref wy, .ref er, .ref bf]))], [(be, .inl (T.2.1 6, 8, .inr (.inr (.inr (.inr (fun k => some (ra k)))))))], [(al, .inr (4, [.int mcn, .ref da, .int (iN ((n : Nat) : Int))]))], [(da, .inl (T.2.1 5, cap, .inr (.inr (.inr (.inr el)))))], (PI (T.2.1 0) 8 7001 ra rw), (PW n wa ms es)]) (R := [[(al, .inr (4, [.int mcn, .ref da, .int (iN ((n : Nat) : Int))]))], [(da, .inl (T.2.1 5, cap, .inr (.inr (.inr (.inr el)))))], (PW n wa ms es)]) (C := [[(bk, .inr (1, [.ref be, .ref wy, .ref er, .ref bf]))], [(be, .inl (T.2.1 6, 8, .inr (.inr (.inr (.inr (fun k => some (ra k)))))))], (PI (T.2.1 0) 8 7001 ra rw)]) [2, 3, 5, 0, 1, 4] rfl rfl rfl rfl rfl) (g_rmB rfl) (Nat.le_of_ble_eq_true rfl) dX2_writesBest_112 rfl (fun v_ hv_ => ?_)
        have vc := vc.2
        have vc := vc.2
        obtain ⟨r_13, rfl, e_14⟩ := hv_
        subst e_14
        refine g_st (st2 := [.int (iN (costF rw (wi + 1).toNat (sum + mass))), .int (iN 17)]) rfl ?_
        refine g_iaddZ (q := 116) cx dX2_writesBest_115 rfl ?_
        refine g_istore (q := 118) (lv2 := [some (.ref bk), some (.ref al), none, some (.int (iN wi)), some (.int (iN mass)), some (.int (iN sum)), some (.int (iN (16 + (costF rw (wi + 1).toNat (sum - mass))))), some (.int (iN (17 + (costF rw (wi + 1).toNat (sum + mass)))))]) cx dX2_writesBest_116 (by decide) rfl rfl ?_
        refine g_aload_n (q := 119) cx dX2_writesBest_118 rfl rfl ?_
        refine g_get (q := 122) cx k_cX2 0 rfl 0 (by decide) q126 (Or.inl rfl) rfl dX2_writesBest_119 rfl ?_
        refine g_iload_n (q := 123) cx dX2_writesBest_122 rfl rfl ?_
        refine g_aaldM (q := 124) (y := (ra wi.toNat)) cx 6 (by decide) (List.mem_of_getElem? (i := 1) rfl) rfl (Or.inr ⟨_, rfl⟩) vc.1 rfl dX2_writesBest_123 rfl ?_
        have vc := vc.2
        refine g_sipush (q := 127) (v := iN 3500) cx dX2_writesBest_124 (by decide) rfl ?_
        refine g_iload (q := 129) cx dX2_writesBest_127 rfl rfl ?_
        refine g_iaddZ (q := 130) cx dX2_writesBest_129 rfl ?_
        refine g_aload_n (q := 131) cx dX2_writesBest_130 rfl rfl ?_
        refine g_iload_n (q := 132) cx dX2_writesBest_131 rfl rfl ?_
        refine g_iconst (q := 133) (v := iN 1) cx dX2_writesBest_132 rfl rfl ?_
        refine g_iaddZ (q := 134) cx dX2_writesBest_133 rfl ?_
        refine g_iload (q := 136) cx dX2_writesBest_134 rfl rfl ?_
        refine g_cVr (q := 139) (b := bk) (As := [.int (iN (wi + 1)), .int (iN sum)]) (wr := ((al, .inr (4, [.int mcn, .ref da, .int (iN ((n : Nat) : Int))])) :: ((da, .inl (T.2.1 5, cap, .inr (.inr (.inr (.inr el))))) :: ((PW n wa ms es) ++ [])))) (st := [.int (iN (3500 + sum)), .ref (ra wi.toNat)]) cx hST (k_X2_cost l hlt T bk be wy er bf ra rw (wi + 1) sum (vc.1) (vc.2.1)) q232 s_X2_cost rfl 0 rfl rfl (g_permB (α := Nat × va_E) (L := [[(bk, .inr (1, [.ref be, .ref wy, .ref er, .ref bf]))], [(be, .inl (T.2.1 6, 8, .inr (.inr (.inr (.inr (fun k => some (ra k)))))))], [(al, .inr (4, [.int mcn, .ref da, .int (iN ((n : Nat) : Int))]))], [(da, .inl (T.2.1 5, cap, .inr (.inr (.inr (.inr el)))))], (PI (T.2.1 0) 8 7001 ra rw), (PW n wa ms es)]) (R := [[(al, .inr (4, [.int mcn, .ref da, .int (iN ((n : Nat) : Int))]))], [(da, .inl (T.2.1 5, cap, .inr (.inr (.inr (.inr el)))))], (PW n wa ms es)]) (C := [[(bk, .inr (1, [.ref be, .ref wy, .ref er, .ref bf]))], [(be, .inl (T.2.1 6, 8, .inr (.inr (.inr (.inr (fun k => some (ra k)))))))], (PI (T.2.1 0) 8 7001 ra rw)]) [2, 3, 5, 0, 1, 4] rfl rfl rfl rfl rfl) (g_rmB rfl) (Nat.le_of_ble_eq_true rfl) dX2_writesBest_136 rfl (fun v_ hv_ => ?_)
        have vc := vc.2
        have vc := vc.2
        obtain ⟨r_15, rfl, e_16⟩ := hv_
        subst e_16
        refine g_st (st2 := [.int (iN (costF rw (wi + 1).toNat sum)), .int (iN (3500 + sum)), .ref (ra wi.toNat)]) rfl ?_
        refine g_iload (q := 141) cx dX2_writesBest_139 rfl rfl ?_
        refine g_iload (q := 143) cx dX2_writesBest_141 rfl rfl ?_
        refine g_mmin (q := 146) cx q236 vc.1 vc.2.1 (by decide) (Nat.le_of_ble_eq_true rfl) (Nat.le_of_ble_eq_true rfl) (Nat.le_of_ble_eq_true rfl) dX2_writesBest_143 rfl ?_
        have vc := vc.2
        have vc := vc.2
        refine g_mmin (q := 149) cx q236 vc.1 vc.2.1 (by decide) (Nat.le_of_ble_eq_true rfl) (Nat.le_of_ble_eq_true rfl) (Nat.le_of_ble_eq_true rfl) dX2_writesBest_146 rfl ?_
        have vc := vc.2
        have vc := vc.2
        refine g_iastM (q := 150) (ws2 := ((bk, .inr (1, [.ref be, .ref wy, .ref er, .ref bf])) :: ((be, .inl (T.2.1 6, 8, .inr (.inr (.inr (.inr (fun k => some (ra k))))))) :: ((al, .inr (4, [.int mcn, .ref da, .int (iN ((n : Nat) : Int))])) :: ((da, .inl (T.2.1 5, cap, .inr (.inr (.inr (.inr el))))) :: ((PI (T.2.1 0) 8 7001 ra (va_up rw wi.toNat (va_up (rw wi.toNat) (3500 + sum).toNat (min (costF rw (wi + 1).toNat sum) (min (16 + (costF rw (wi + 1).toNat (sum - mass))) (17 + (costF rw (wi + 1).toNat (sum + mass)))))))) ++ ((PW n wa ms es) ++ []))))))) cx hrw (by decide) (g_at_h (g_at_h (g_at_h (g_at_h ((g_at_PI vc.1)))))) vc.2.1 dX2_writesBest_149 rfl ?_
        have vc := vc.2
        have vc := vc.2
        refine g_iinc (q := 153) (v := iN (sum + 1)) (lv2 := [some (.ref bk), some (.ref al), none, some (.int (iN wi)), some (.int (iN mass)), some (.int (iN (sum + 1))), some (.int (iN (16 + (costF rw (wi + 1).toNat (sum - mass))))), some (.int (iN (17 + (costF rw (wi + 1).toNat (sum + mass)))))]) cx dX2_writesBest_150 rfl (iN_add _ _) (by decide) rfl rfl ?_
        refine g_goto (q := 76) cx dX2_writesBest_153 (by decide) ?_
        refine g_wk (lv2 := [some (.ref bk), some (.ref al), none, some (.int (iN wi)), some (.int (iN mass)), some (.int (iN (sum + 1))), none, none]) ⟨rfl, ⟨rfl, ⟨rfl, ⟨rfl, ⟨rfl, trivial⟩⟩⟩⟩⟩ ?_
        exact ((ih _ vc.2).2.2) wi mass (sum + 1) (va_up rw wi.toNat (va_up (rw wi.toNat) (3500 + sum).toNat (min (costF rw (wi + 1).toNat sum) (min (16 + (costF rw (wi + 1).toNat (sum - mass))) (17 + (costF rw (wi + 1).toNat (sum + mass))))))) vc.1 rfl
  have vc := v0_
  refine g_aload_n (q := 1) cx dX2_writesBest_0 rfl rfl ?_
  refine g_get (q := 4) cx k_cX2 0 rfl 0 (by decide) q126 (Or.inl rfl) rfl dX2_writesBest_1 rfl ?_
  refine g_aload_n (q := 5) cx dX2_writesBest_4 rfl rfl ?_
  refine g_cFr (q := 10) (b := al) (As := []) (wr := ((bk, .inr (1, [.ref be, .ref wy, .ref er, .ref bf])) :: ((be, .inl (T.2.1 6, 8, .inr (.inr (.inr (.inr (fun k => some (ra k))))))) :: ((PI (T.2.1 0) 8 7001 ra rows) ++ ((PW n wa ms es) ++ []))))) (st := [.ref be]) cx hST (k_J2_size l hlt T al da mcn ((n : Nat) : Int) cap el) q207 f_J2_size rfl 2 rfl rfl (g_permB (α := Nat × va_E) (L := [[(bk, .inr (1, [.ref be, .ref wy, .ref er, .ref bf]))], [(be, .inl (T.2.1 6, 8, .inr (.inr (.inr (.inr (fun k => some (ra k)))))))], [(al, .inr (4, [.int mcn, .ref da, .int (iN ((n : Nat) : Int))]))], [(da, .inl (T.2.1 5, cap, .inr (.inr (.inr (.inr el)))))], (PI (T.2.1 0) 8 7001 ra rows), (PW n wa ms es)]) (R := [[(bk, .inr (1, [.ref be, .ref wy, .ref er, .ref bf]))], [(be, .inl (T.2.1 6, 8, .inr (.inr (.inr (.inr (fun k => some (ra k)))))))], (PI (T.2.1 0) 8 7001 ra rows), (PW n wa ms es)]) (C := [[(al, .inr (4, [.int mcn, .ref da, .int (iN ((n : Nat) : Int))]))], [(da, .inl (T.2.1 5, cap, .inr (.inr (.inr (.inr el)))))]]) [0, 1, 4, 5, 2, 3] rfl rfl rfl rfl rfl) (g_rmB rfl) (Nat.le_of_ble_eq_true rfl) dX2_writesBest_5 rfl (fun v_ hv_ => ?_)
  obtain ⟨r_17, rfl, e_18⟩ := hv_
  subst e_18
  refine g_st (st2 := [.int (iN ((n : Nat) : Int)), .ref be]) rfl ?_
  refine g_aaldM (q := 11) (y := (ra ((n : Nat) : Int).toNat)) cx 6 (by decide) (List.mem_of_getElem? (i := 1) rfl) rfl (Or.inr ⟨_, rfl⟩) vc.1 rfl dX2_writesBest_10 rfl ?_
  have vc := vc.2
  refine g_astore_n (q := 12) (lv2 := [some (.ref bk), some (.ref al), some (.ref (ra ((n : Nat) : Int).toNat)), none, none, none, none, none]) cx dX2_writesBest_11 rfl (by decide) rfl rfl ?_
  refine g_iconst (q := 13) (v := iN 0) cx dX2_writesBest_12 rfl rfl ?_
  refine g_istore_n (q := 14) (lv2 := [some (.ref bk), some (.ref al), some (.ref (ra ((n : Nat) : Int).toNat)), some (.int (iN 0)), none, none, none, none]) cx dX2_writesBest_13 rfl (by decide) rfl rfl ?_
  exact ((key _).1) 0 rows vc rfl

theorem k_X2_writesBest (l : Launch) (hlt : l.stackTraces = false) (T : GT) (bk : Nat) (be : Nat) (wy : Nat) (er : Nat) (bf : Nat) (ra : Nat → Nat) (rows : Nat → Nat → Int) (al : Nat) (da : Nat) (mcn : Int32) (cap : Nat) (el : Nat → Option Nat) (wa : Nat → Nat) (n : Nat) (ms : Nat → Int) (es : Nat → Int) (hp0 : n ≤ 7) (hp1 : n ≤ cap ∧ cap < 2147483648) (hp2 : ∀ k, k < n → el k = some (wa k)) (hp3 : ∀ k, k < n → 1 ≤ ms k ∧ ms k ≤ 500) : MW l T yX2_writesBest cX2_writesBest 8 none ({ frames := 3, cells := 0, slots := 0, locals := 64 }) [.ref bk, .ref al] ((bk, .inr (1, [.ref be, .ref wy, .ref er, .ref bf])) :: ((be, .inl (T.2.1 6, 8, .inr (.inr (.inr (.inr (fun k => some (ra k))))))) :: ((al, .inr (4, [.int mcn, .ref da, .int (iN ((n : Nat) : Int))])) :: ((da, .inl (T.2.1 5, cap, .inr (.inr (.inr (.inr el))))) :: ((PI (T.2.1 0) 8 7001 ra rows) ++ ((PW n wa ms es) ++ [])))))) (fun v_ wn_ => ∃ (rows2 : Nat → Nat → Int), v_ = none ∧ wn_ = ((bk, .inr (1, [.ref be, .ref wy, .ref er, .ref bf])) :: ((be, .inl (T.2.1 6, 8, .inr (.inr (.inr (.inr (fun k => some (ra k))))))) :: ((al, .inr (4, [.int mcn, .ref da, .int (iN ((n : Nat) : Int))])) :: ((da, .inl (T.2.1 5, cap, .inr (.inr (.inr (.inr el))))) :: ((PI (T.2.1 0) 8 7001 ra rows2) ++ ((PW n wa ms es) ++ [])))))) ∧ (∀ w, w ≤ n → ∀ i, i < 7001 → rows2 w i = bst ms n (n - w) ((i : Int) - 3500))) 0 0 := by
  refine w_X2_writesBest l hlt T bk be wy er bf ra rows al da mcn cap el wa n ms es (I14 := fun k rw => ∃ j : Nat, j ≤ 7001 ∧ k = j ∧ ∀ i, i < j → rw n i = bst ms n 0 ((i : Int) - 3500)) (M14 := fun k _ => (9, 1, 0, (7001 - k).toNat))
    (I52 := fun wi rw => ∃ d : Nat, d ≤ n ∧ wi = (n : Int) - 1 - d ∧ ∀ d', d' ≤ d → ∀ i, i < 7001 → rw (n - d') i = bst ms n d' ((i : Int) - 3500)) (M52 := fun wi _ => ((wi + 1).toNat, 2, 0, 0))
    (I76 := fun wi mass sum rw => ∃ d j : Nat, d < n ∧ j ≤ 7001 ∧ wi = (n : Int) - 1 - d ∧ mass = ms (n - (d + 1)) ∧ sum = (j : Int) - 3500 ∧ (∀ d', d' ≤ d → ∀ i, i < 7001 → rw (n - d') i = bst ms n d' ((i : Int) - 3500)) ∧ ∀ i, i < j → rw (n - (d + 1)) i = bst ms n (d + 1) ((i : Int) - 3500)) (M76 := fun wi mass sum _ => ((wi + 1).toNat, 1, 0, (3501 - sum).toNat)) _ ?_ ?_ ?_ ?_
  · exact ⟨by omega, 0, by omega, rfl, fun i hi => absurd hi (Nat.not_lt_zero _)⟩
  · rintro k rw ⟨j, hj, rfl, hr⟩
    simp only [Int.toNat_natCast]
    have up : ∀ v : Int, v = bst ms n 0 ((j : Int) - 3500) → ∀ i, i < j + 1 → va_up rw n (va_up (rw n) j v) n i = bst ms n 0 ((i : Int) - 3500) := by
      intro v hv i hi
      rw [va_up_self]
      by_cases g : i = j
      · rw [g, va_up_self, hv]
      · rw [va_up_ne _ _ g]
        exact hr i (by omega)
    refine ⟨by omega, by omega, fun h => ⟨⟨0, by omega, by omega, fun d' hd i hi => ?_⟩, g_ltI (by omega)⟩, fun h => ⟨by omega, fun h2 => ⟨by omega, by omega, ⟨j + 1, by omega, rfl, up _ ?_⟩, g_ltI (by omega)⟩, fun h2 => ⟨by omega, by omega, ⟨j + 1, by omega, rfl, up _ ?_⟩, g_ltI (by omega)⟩⟩⟩
    · have e : d' = 0 := by omega
      subst e
      exact hr i (by omega)
    · unfold bst; rw [if_neg (by omega)]
    · unfold bst; rw [if_pos (by omega)]
  · rintro wi rw ⟨d, hd, rfl, hr⟩
    refine ⟨by omega, fun h => ?_, fun h => ⟨by omega, by omega, by omega, hp1.2, hp2 _ (by omega), by omega, by omega, ⟨d, 0, by omega, by omega, rfl, ?_, by omega, hr, fun i hi => absurd hi (Nat.not_lt_zero _)⟩, g_ltI (by omega)⟩⟩
    · intro w hw i hi
      have := hr (n - w) (by omega) i hi
      rw [show n - (n - w) = w by omega] at this
      exact this
    · rw [show ((n : Int) - 1 - d).toNat = n - (d + 1) by omega]
  · rintro wi mass sum rw ⟨d, j, hd, hj, rfl, rfl, rfl, hr, hn⟩
    have hm := hp3 (n - (d + 1)) (by omega)
    have ew : ((n : Int) - 1 - d + 1).toNat = n - d := by omega
    have ew2 : ((n : Int) - 1 - d).toNat = n - (d + 1) := by omega
    have ei : (3500 + ((j : Int) - 3500)).toNat = j := by omega
    have ec : ∀ s, costF rw (n - d) s = bstC (bst ms n d) s := costF_bst (hr d (Nat.le_refl d))
    simp only [ew, ew2, ei, ec]
    have c0 := bstC_in ms n d ((j : Int) - 3500)
    have c1 := bstC_in ms n d ((j : Int) - 3500 - ms (n - (d + 1)))
    have c2 := bstC_in ms n d ((j : Int) - 3500 + ms (n - (d + 1)))
    refine ⟨by omega, fun h => ⟨⟨d + 1, by omega, by omega, fun d' hd' i hi => ?_⟩, g_ltI (by omega)⟩, fun h => ⟨by omega, by omega, by omega, by omega, by omega, by omega, by omega, by omega, by omega, by omega, by omega, by omega, by omega, ⟨d, j + 1, hd, by omega, rfl, rfl, by omega, fun d' hd' i hi => ?_, fun i hi => ?_⟩, g_ltI (by omega)⟩⟩
    · rcases Nat.lt_or_ge d d' with g | g
      · have e : d' = d + 1 := by omega
        subst e
        exact hn i (by omega)
      · exact hr d' g i hi
    · rw [va_up_ne _ _ (by omega)]
      exact hr d' hd' i hi
    · rw [va_up_self]
      by_cases g : i = j
      · rw [g, va_up_self]
        show _ = min (bst ms n d ((j : Int) - 3500)) _
        rw [show bstC (bst ms n d) ((j : Int) - 3500) = bst ms n d ((j : Int) - 3500) from if_pos (by omega)]
      · rw [va_up_ne _ _ g]
        exact hn i (by omega)
