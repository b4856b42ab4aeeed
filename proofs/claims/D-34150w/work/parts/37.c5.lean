set_option maxRecDepth 100000 in
set_option maxHeartbeats 4000000 in
theorem w_X2_cost (l : Launch) (hlt : l.stackTraces = false) (T : GT) (bk : Nat) (be : Nat) (wy : Nat) (er : Nat) (bf : Nat) (ra : Nat → Nat) (rows : Nat → Nat → Int) (w : Int) (sum : Int)  (post : Int → Prop) (v0_ : (-2147483648 ≤ sum ∧ sum < 2147483648) ∧ ((sum < (-3500) → (post 9999)) ∧ ((-3500) ≤ sum → ((-2147483648 ≤ sum ∧ sum < 2147483648) ∧ ((sum ≤ 3500 → ((0 ≤ w ∧ w < 8) ∧ ((w.toNat < 8) ∧ ((0 ≤ (3500 + sum) ∧ (3500 + sum) < 7001) ∧ (post (rows w.toNat (3500 + sum).toNat)))))) ∧ (3500 < sum → (post 9999)))))))  : MR l T yX2_cost cX2_cost 3 (some .int) ({ frames := 0, cells := 0, slots := 0, locals := 0 }) [.ref bk, .int (iN w), .int (iN sum)] ((bk, .inr (1, [.ref be, .ref wy, .ref er, .ref bf])) :: ((be, .inl (T.2.1 6, 8, .inr (.inr (.inr (.inr (fun k => some (ra k))))))) :: ((PI (T.2.1 0) 8 7001 ra rows) ++ []))) (fun v_ => ∃ (r : Int), v_ = some (.int (iN r)) ∧ post r) := by
  refine MR.start hlt (by decide) (lv0 := [some (.ref bk), some (.int (iN w)), some (.int (iN sum))]) rfl (Nat.le_of_ble_eq_true rfl) rfl ?_
  intro p e R s m args below meth c cx hr hST
  have vc := v0_
  refine g_iload_n (q := 1) cx dX2_cost_0 rfl rfl ?_
  refine g_sipush (q := 4) (v := iN (-3500)) cx dX2_cost_1 (by decide) rfl ?_
  refine g_icmp_ltZ (q := 7) (tg := 14) cx vc.1 (by decide) dX2_cost_4 (by decide) rfl (fun h_1 => ?_) (fun h_1 => ?_)
  · have vc := vc.2.1 h_1
    refine g_sipush (q := 17) (v := iN 9999) cx dX2_cost_14 (by decide) rfl ?_
    refine g_goto (q := 32) cx dX2_cost_17 (by decide) ?_
    exact g_iretR cx hr rfl ⟨9999, rfl, vc⟩ dX2_cost_32
  · have vc := vc.2.2 h_1
    refine g_iload_n (q := 8) cx dX2_cost_7 rfl rfl ?_
    refine g_sipush (q := 11) (v := iN 3500) cx dX2_cost_8 (by decide) rfl ?_
    refine g_icmp_leZ (q := 14) (tg := 20) cx vc.1 (by decide) dX2_cost_11 (by decide) rfl (fun h_2 => ?_) (fun h_2 => ?_)
    · have vc := vc.2.1 h_2
      refine g_aload_n (q := 21) cx dX2_cost_20 rfl rfl ?_
      refine g_get (q := 24) cx k_cX2 0 rfl 0 (by decide) q126 (Or.inl rfl) rfl dX2_cost_21 rfl ?_
      refine g_iload_n (q := 25) cx dX2_cost_24 rfl rfl ?_
      refine g_aaldM (q := 26) (y := (ra w.toNat)) cx 6 (by decide) (List.mem_of_getElem? (i := 1) rfl) rfl (Or.inr ⟨_, rfl⟩) vc.1 rfl dX2_cost_25 rfl ?_
      have vc := vc.2
      refine g_sipush (q := 29) (v := iN 3500) cx dX2_cost_26 (by decide) rfl ?_
      refine g_iload_n (q := 30) cx dX2_cost_29 rfl rfl ?_
      refine g_iaddZ (q := 31) cx dX2_cost_30 rfl ?_
      refine g_ialdM (q := 32) cx (by decide) (g_mh (g_mh (g_ml (PI_mem vc.1)))) vc.2.1 dX2_cost_31 rfl ?_
      have vc := vc.2
      have vc := vc.2
      exact g_iretR cx hr rfl ⟨(rows w.toNat (3500 + sum).toNat), rfl, vc⟩ dX2_cost_32
    · have vc := vc.2.2 h_2
      refine g_sipush (q := 17) (v := iN 9999) cx dX2_cost_14 (by decide) rfl ?_
      refine g_goto (q := 32) cx dX2_cost_17 (by decide) ?_
      exact g_iretR cx hr rfl ⟨9999, rfl, vc⟩ dX2_cost_32

theorem k_X2_cost (l : Launch) (hlt : l.stackTraces = false) (T : GT) (bk : Nat) (be : Nat) (wy : Nat) (er : Nat) (bf : Nat) (ra : Nat → Nat) (rows : Nat → Nat → Int) (w : Int) (sum : Int) (hp0 : 0 ≤ w ∧ w < 8) (hp1 : -2147483648 ≤ sum ∧ sum < 2147483648) : MR l T yX2_cost cX2_cost 3 (some .int) ({ frames := 0, cells := 0, slots := 0, locals := 0 }) [.ref bk, .int (iN w), .int (iN sum)] ((bk, .inr (1, [.ref be, .ref wy, .ref er, .ref bf])) :: ((be, .inl (T.2.1 6, 8, .inr (.inr (.inr (.inr (fun k => some (ra k))))))) :: ((PI (T.2.1 0) 8 7001 ra rows) ++ []))) (fun v_ => ∃ (r : Int), v_ = some (.int (iN r)) ∧ r = (costF rows w.toNat sum)) := by
  refine w_X2_cost l hlt T bk be wy er bf ra rows w sum _ ⟨hp1, fun h => ?_, fun h => ⟨hp1, fun h2 => ⟨hp0, by omega, by omega, ?_⟩, fun h2 => ?_⟩⟩
  · unfold costF; rw [if_neg (by omega)]
  · unfold costF; rw [if_pos (by omega)]
  · unfold costF; rw [if_neg (by omega)]

set_option maxRecDepth 100000 in
set_option maxHeartbeats 4000000 in
theorem w_X2_has (l : Launch) (hlt : l.stackTraces = false) (T : GT) (bk : Nat) (be : Nat) (wy : Nat) (er : Nat) (bf : Nat) (ra : Nat → Nat) (rows : Nat → Nat → Int) (sum : Int)  (post : Bool → Prop) (v0_ : (-2147483648 ≤ sum ∧ sum < 2147483648) ∧ ((-2147483648 ≤ (costF rows 0 sum) ∧ (costF rows 0 sum) < 2147483648) ∧ ((9999 ≤ (costF rows 0 sum) → (post false)) ∧ ((costF rows 0 sum) < 9999 → (post true)))))  : MR l T yX2_has cX2_has 2 (some .boolean) ({ frames := 1, cells := 0, slots := 0, locals := 22 }) [.ref bk, .int (iN sum)] ((bk, .inr (1, [.ref be, .ref wy, .ref er, .ref bf])) :: ((be, .inl (T.2.1 6, 8, .inr (.inr (.inr (.inr (fun k => some (ra k))))))) :: ((PI (T.2.1 0) 8 7001 ra rows) ++ []))) (fun v_ => ∃ (b : Bool), v_ = some (.int (bI b)) ∧ post b) := by
  refine MR.start hlt (by decide) (lv0 := [some (.ref bk), some (.int (iN sum))]) rfl (Nat.le_of_ble_eq_true rfl) rfl ?_
  intro p e R s m args below meth c cx hr hST
  have vc := v0_
  refine g_aload_n (q := 1) cx dX2_has_0 rfl rfl ?_
  refine g_iconst (q := 2) (v := iN 0) cx dX2_has_1 rfl rfl ?_
  refine g_iload_n (q := 3) cx dX2_has_2 rfl rfl ?_
  refine g_cVr (q := 6) (b := bk) (As := [.int (iN 0), .int (iN sum)]) (wr := []) (st := []) cx hST (k_X2_cost l hlt T bk be wy er bf ra rows 0 sum (by decide) (vc.1)) q232 s_X2_cost rfl 0 rfl rfl g_perm1 (g_rmB rfl) (Nat.le_of_ble_eq_true rfl) dX2_has_3 rfl (fun v_ hv_ => ?_)
  have vc := vc.2
  obtain ⟨r_1, rfl, e_2⟩ := hv_
  subst e_2
  refine g_st (st2 := [.int (iN (costF rows 0 sum))]) rfl ?_
  refine g_sipush (q := 9) (v := iN 9999) cx dX2_has_6 (by decide) rfl ?_
  refine g_icmp_geZ (q := 12) (tg := 16) cx vc.1 (by decide) dX2_has_9 (by decide) rfl (fun h_3 => ?_) (fun h_3 => ?_)
  · have vc := vc.2.1 h_3
    refine g_iconst (q := 17) (v := iN 0) cx dX2_has_16 rfl rfl ?_
    exact g_iretR cx hr (by decide) ⟨false, rfl, vc⟩ dX2_has_17
  · have vc := vc.2.2 h_3
    refine g_iconst (q := 13) (v := iN 1) cx dX2_has_12 rfl rfl ?_
    refine g_goto (q := 17) cx dX2_has_13 (by decide) ?_
    exact g_iretR cx hr (by decide) ⟨true, rfl, vc⟩ dX2_has_17

theorem k_X2_has (l : Launch) (hlt : l.stackTraces = false) (T : GT) (bk : Nat) (be : Nat) (wy : Nat) (er : Nat) (bf : Nat) (ra : Nat → Nat) (rows : Nat → Nat → Int) (sum : Int) (hp0 : -2147483648 ≤ sum ∧ sum < 2147483648) (hp1 : rowsOK rows 0) : MR l T yX2_has cX2_has 2 (some .boolean) ({ frames := 1, cells := 0, slots := 0, locals := 22 }) [.ref bk, .int (iN sum)] ((bk, .inr (1, [.ref be, .ref wy, .ref er, .ref bf])) :: ((be, .inl (T.2.1 6, 8, .inr (.inr (.inr (.inr (fun k => some (ra k))))))) :: ((PI (T.2.1 0) 8 7001 ra rows) ++ []))) (fun v_ => ∃ (b : Bool), v_ = some (.int (bI b)) ∧ b = (hasF rows sum)) := by
  have h := costF_in hp1 sum
  refine w_X2_has l hlt T bk be wy er bf ra rows sum _ ⟨hp0, by omega, fun h => ?_, fun h => ?_⟩
  · unfold hasF; rw [decide_eq_false (by omega)]
  · unfold hasF; rw [decide_eq_true (by omega)]

set_option maxRecDepth 100000 in
set_option maxHeartbeats 4000000 in
theorem w_X2_of (l : Launch) (hlt : l.stackTraces = false) (T : GT) (ro : Nat) (f : Nat → Int) (at_ : Int) (other : Int)  (post : Int → Prop) (v0_ : (-2147483648 ≤ at_ ∧ at_ < 2147483648) ∧ ((at_ < 0 → (post other)) ∧ (0 ≤ at_ → ((-2147483648 ≤ at_ ∧ at_ < 2147483648) ∧ ((at_ < 7001 → ((0 ≤ at_ ∧ at_ < 7001) ∧ (post (f at_.toNat)))) ∧ (7001 ≤ at_ → (post other)))))))  : MR l T yX2_of cX2_of 3 (some .int) ({ frames := 0, cells := 0, slots := 0, locals := 0 }) [.ref ro, .int (iN at_), .int (iN other)] [(ro, .inl (T.2.1 2, 7001, .inl (zA f)))] (fun v_ => ∃ (r : Int), v_ = some (.int (iN r)) ∧ post r) := by
  refine MR.start hlt (by decide) (lv0 := [some (.ref ro), some (.int (iN at_)), some (.int (iN other))]) rfl (Nat.le_of_ble_eq_true rfl) rfl ?_
  intro p e R s m args below meth c cx hr hST
  have vc := v0_
  refine g_iload_n (q := 1) cx dX2_of_0 rfl rfl ?_
  refine g_if_ltZ (q := 4) (tg := 10) cx vc.1 dX2_of_1 (by decide) rfl (fun h_1 => ?_) (fun h_1 => ?_)
  · have vc := vc.2.1 h_1
    refine g_iload_n (q := 11) cx dX2_of_10 rfl rfl ?_
    refine g_goto (q := 17) cx dX2_of_11 (by decide) ?_
    exact g_iretR cx hr rfl ⟨other, rfl, vc⟩ dX2_of_17
  · have vc := vc.2.2 h_1
    refine g_iload_n (q := 5) cx dX2_of_4 rfl rfl ?_
    refine g_aload_n (q := 6) cx dX2_of_5 rfl rfl ?_
    refine g_alenZ (q := 7) cx 0 2 rfl rfl dX2_of_6 rfl ?_
    refine g_st (st2 := [.int (iN 7001), .int (iN at_)]) rfl ?_
    refine g_icmp_ltZ (q := 10) (tg := 14) cx vc.1 (by decide) dX2_of_7 (by decide) rfl (fun h_2 => ?_) (fun h_2 => ?_)
    · have vc := vc.2.1 h_2
      refine g_aload_n (q := 15) cx dX2_of_14 rfl rfl ?_
      refine g_iload_n (q := 16) cx dX2_of_15 rfl rfl ?_
      refine g_saldZ (q := 17) cx 0 (by decide) rfl vc.1 dX2_of_16 rfl ?_
      have vc := vc.2
      exact g_iretR cx hr rfl ⟨(f at_.toNat), rfl, vc⟩ dX2_of_17
    · have vc := vc.2.2 h_2
      refine g_iload_n (q := 11) cx dX2_of_10 rfl rfl ?_
      refine g_goto (q := 17) cx dX2_of_11 (by decide) ?_
      exact g_iretR cx hr rfl ⟨other, rfl, vc⟩ dX2_of_17

theorem k_X2_of (l : Launch) (hlt : l.stackTraces = false) (T : GT) (ro : Nat) (f : Nat → Int) (at_ : Int) (other : Int) (hp0 : -2147483648 ≤ at_ ∧ at_ < 2147483648) : MR l T yX2_of cX2_of 3 (some .int) ({ frames := 0, cells := 0, slots := 0, locals := 0 }) [.ref ro, .int (iN at_), .int (iN other)] [(ro, .inl (T.2.1 2, 7001, .inl (zA f)))] (fun v_ => ∃ (r : Int), v_ = some (.int (iN r)) ∧ r = (ofF f at_ other)) := by
  refine w_X2_of l hlt T ro f at_ other _ ⟨hp0, fun h => ?_, fun h => ⟨hp0, fun h2 => ⟨by omega, ?_⟩, fun h2 => ?_⟩⟩
  · unfold ofF; rw [if_neg (by omega)]
  · unfold ofF; rw [if_pos (by omega)]
  · unfold ofF; rw [if_neg (by omega)]

set_option maxRecDepth 100000 in
set_option maxHeartbeats 4000000 in
theorem w_X2_gap (l : Launch) (hlt : l.stackTraces = false) (T : GT) (bk : Nat) (be : Nat) (wy : Nat) (er : Nat) (bf : Nat) (ra : Nat → Nat) (rows : Nat → Nat → Int) (mass : Int) (I2 : Int → Prop) (M2 : Int → g_mu) (post : Int → Prop) (v0_ : I2 1) (v2 : ∀ (k : Int), I2 k → (-2147483648 ≤ k ∧ k < 2147483648) ∧ ((rowsOK rows 0) ∧ (((hasF rows k) = true → (I2 (k + 1) ∧ g_lt (M2 (k + 1)) (M2 k))) ∧ ((hasF rows k) = false → ((-2147483648 ≤ (k - mass) ∧ (k - mass) < 2147483648) ∧ ((rowsOK rows 0) ∧ (((hasF rows (k - mass)) = true → (I2 (k + 1) ∧ g_lt (M2 (k + 1)) (M2 k))) ∧ ((hasF rows (k - mass)) = false → ((-2147483648 ≤ (k + mass) ∧ (k + mass) < 2147483648) ∧ ((rowsOK rows 0) ∧ (((hasF rows (k + mass)) = false → (post k)) ∧ ((hasF rows (k + mass)) = true → (I2 (k + 1) ∧ g_lt (M2 (k + 1)) (M2 k)))))))))))))) : MR l T yX2_gap cX2_gap 3 (some .int) ({ frames := 2, cells := 0, slots := 0, locals := 43 }) [.ref bk, .int (iN mass)] ((bk, .inr (1, [.ref be, .ref wy, .ref er, .ref bf])) :: ((be, .inl (T.2.1 6, 8, .inr (.inr (.inr (.inr (fun k => some (ra k))))))) :: ((PI (T.2.1 0) 8 7001 ra rows) ++ []))) (fun v_ => ∃ (r : Int), v_ = some (.int (iN r)) ∧ post r) := by
  refine MR.start hlt (by decide) (lv0 := [some (.ref bk), some (.int (iN mass)), none]) rfl (Nat.le_of_ble_eq_true rfl) rfl ?_
  intro p e R s m args below meth c cx hr hST
  have key : ∀ μ : g_mu, (∀ (k : Int), I2 k → M2 k = μ → G p l e R s m args below meth c 3 T (fun _ => False) (fun _ => True) (MQ below (g_Qr (fun v_ => ∃ (r : Int), v_ = some (.int (iN r)) ∧ post r)) args s 0 0 (fun _ => False)) 0 0 ((bk, .inr (1, [.ref be, .ref wy, .ref er, .ref bf])) :: ((be, .inl (T.2.1 6, 8, .inr (.inr (.inr (.inr (fun k => some (ra k))))))) :: ((PI (T.2.1 0) 8 7001 ra rows) ++ []))) [some (.ref bk), some (.int (iN mass)), some (.int (iN k))] 2 []) := by
    refine g_ind (fun μ ih => ?_)
    · intro k hI hM
      subst hM
      have vc := v2 k hI
      refine g_aload_n (q := 3) cx dX2_gap_2 rfl rfl ?_
      refine g_iload_n (q := 4) cx dX2_gap_3 rfl rfl ?_
      refine g_cVr (q := 7) (b := bk) (As := [.int (iN k)]) (wr := []) (st := []) cx hST (k_X2_has l hlt T bk be wy er bf ra rows k (vc.1) (vc.2.1)) q378 s_X2_has rfl 0 rfl rfl g_perm1 (g_rmB rfl) (Nat.le_of_ble_eq_true rfl) dX2_gap_4 rfl (fun v_ hv_ => ?_)
      have vc := vc.2
      have vc := vc.2
      obtain ⟨b_1, rfl, e_2⟩ := hv_
      subst e_2
      refine g_st (st2 := [.int (bI (hasF rows k))]) rfl ?_
      refine g_if_ne (q := 10) (tg := 30) cx dX2_gap_7 (by decide) rfl (fun h_3 => ?_) (fun h_3 => ?_)
      · have vc := vc.1 (bI_n0.mp h_3)
        refine g_iinc (q := 33) (v := iN (k + 1)) (lv2 := [some (.ref bk), some (.int (iN mass)), some (.int (iN (k + 1)))]) cx dX2_gap_30 rfl (iN_add _ _) (by decide) rfl rfl ?_
        refine g_goto (q := 2) cx dX2_gap_33 (by decide) ?_
        exact (ih _ vc.2) (k + 1) vc.1 rfl
      · have vc := vc.2 (bI_0.mp h_3)
        refine g_aload_n (q := 11) cx dX2_gap_10 rfl rfl ?_
        refine g_iload_n (q := 12) cx dX2_gap_11 rfl rfl ?_
        refine g_iload_n (q := 13) cx dX2_gap_12 rfl rfl ?_
        refine g_isubZ (q := 14) cx dX2_gap_13 rfl ?_
        refine g_cVr (q := 17) (b := bk) (As := [.int (iN (k - mass))]) (wr := []) (st := []) cx hST (k_X2_has l hlt T bk be wy er bf ra rows (k - mass) (vc.1) (vc.2.1)) q378 s_X2_has rfl 0 rfl rfl g_perm1 (g_rmB rfl) (Nat.le_of_ble_eq_true rfl) dX2_gap_14 rfl (fun v_ hv_ => ?_)
        have vc := vc.2
        have vc := vc.2
        obtain ⟨b_4, rfl, e_5⟩ := hv_
        subst e_5
        refine g_st (st2 := [.int (bI (hasF rows (k - mass)))]) rfl ?_
        refine g_if_ne (q := 20) (tg := 30) cx dX2_gap_17 (by decide) rfl (fun h_6 => ?_) (fun h_6 => ?_)
        · have vc := vc.1 (bI_n0.mp h_6)
          refine g_iinc (q := 33) (v := iN (k + 1)) (lv2 := [some (.ref bk), some (.int (iN mass)), some (.int (iN (k + 1)))]) cx dX2_gap_30 rfl (iN_add _ _) (by decide) rfl rfl ?_
          refine g_goto (q := 2) cx dX2_gap_33 (by decide) ?_
          exact (ih _ vc.2) (k + 1) vc.1 rfl
        · have vc := vc.2 (bI_0.mp h_6)
          refine g_aload_n (q := 21) cx dX2_gap_20 rfl rfl ?_
          refine g_iload_n (q := 22) cx dX2_gap_21 rfl rfl ?_
          refine g_iload_n (q := 23) cx dX2_gap_22 rfl rfl ?_
          refine g_iaddZ (q := 24) cx dX2_gap_23 rfl ?_
          refine g_cVr (q := 27) (b := bk) (As := [.int (iN (k + mass))]) (wr := []) (st := []) cx hST (k_X2_has l hlt T bk be wy er bf ra rows (k + mass) (vc.1) (vc.2.1)) q378 s_X2_has rfl 0 rfl rfl g_perm1 (g_rmB rfl) (Nat.le_of_ble_eq_true rfl) dX2_gap_24 rfl (fun v_ hv_ => ?_)
          have vc := vc.2
          have vc := vc.2
          obtain ⟨b_7, rfl, e_8⟩ := hv_
          subst e_8
          refine g_st (st2 := [.int (bI (hasF rows (k + mass)))]) rfl ?_
          refine g_if_eq (q := 30) (tg := 36) cx dX2_gap_27 (by decide) rfl (fun h_9 => ?_) (fun h_9 => ?_)
          · have vc := vc.1 (bI_0.mp h_9)
            refine g_iload_n (q := 37) cx dX2_gap_36 rfl rfl ?_
            exact g_iretR cx hr rfl ⟨k, rfl, vc⟩ dX2_gap_37
          · have vc := vc.2 (bI_n0.mp h_9)
            refine g_iinc (q := 33) (v := iN (k + 1)) (lv2 := [some (.ref bk), some (.int (iN mass)), some (.int (iN (k + 1)))]) cx dX2_gap_30 rfl (iN_add _ _) (by decide) rfl rfl ?_
            refine g_goto (q := 2) cx dX2_gap_33 (by decide) ?_
            exact (ih _ vc.2) (k + 1) vc.1 rfl
  have vc := v0_
  refine g_iconst (q := 1) (v := iN 1) cx dX2_gap_0 rfl rfl ?_
  refine g_istore_n (q := 2) (lv2 := [some (.ref bk), some (.int (iN mass)), some (.int (iN 1))]) cx dX2_gap_1 rfl (by decide) rfl rfl ?_
  exact (key _) 1 vc rfl

theorem k_X2_gap (l : Launch) (hlt : l.stackTraces = false) (T : GT) (bk : Nat) (be : Nat) (wy : Nat) (er : Nat) (bf : Nat) (ra : Nat → Nat) (rows : Nat → Nat → Int) (mass : Int) (hp0 : 0 ≤ mass ∧ mass ≤ 500) (hp1 : rowsOK rows 0) : MR l T yX2_gap cX2_gap 3 (some .int) ({ frames := 2, cells := 0, slots := 0, locals := 43 }) [.ref bk, .int (iN mass)] ((bk, .inr (1, [.ref be, .ref wy, .ref er, .ref bf])) :: ((be, .inl (T.2.1 6, 8, .inr (.inr (.inr (.inr (fun k => some (ra k))))))) :: ((PI (T.2.1 0) 8 7001 ra rows) ++ []))) (fun v_ => ∃ (r : Int), v_ = some (.int (iN r)) ∧ r = ((firstF (gapP rows mass) 4000 1 : Nat) : Int)) := by
  refine w_X2_gap l hlt T bk be wy er bf ra rows mass (I2 := fun k => ∃ j : Nat, 1 ≤ j ∧ j ≤ 4001 ∧ k = j ∧ firstF (gapP rows mass) (4001 - j) j = firstF (gapP rows mass) 4000 1) (M2 := fun k => (0, 0, 0, (4002 - k).toNat)) _ ?_ ?_
  · exact ⟨1, by omega, by omega, rfl, rfl⟩
  · rintro k ⟨j, h1, h2, rfl, hf⟩
    have stop : gapP rows mass j = false → firstF (gapP rows mass) (4001 - j) j = j := by
      intro h
      cases hq : 4001 - j with
      | zero => rfl
      | succ q =>
        show (if gapP rows mass j = true then firstF (gapP rows mass) q (j + 1) else j) = j
        rw [h, if_neg (by decide)]
    have go : gapP rows mass j = true → j < 4001 ∧ firstF (gapP rows mass) (4001 - (j + 1)) (j + 1) = firstF (gapP rows mass) 4000 1 := by
      intro h
      have hj : j < 4001 := by
        rcases Nat.lt_or_ge j 4001 with g | g
        · exact g
        · unfold gapP at h
          rw [hasF_out (by omega), hasF_out (by omega), hasF_out (by omega)] at h
          exact absurd h (by decide)
      refine ⟨hj, ?_⟩
      rw [← hf, show 4001 - j = (4001 - (j + 1)) + 1 by omega]
      show _ = if gapP rows mass j = true then firstF (gapP rows mass) (4001 - (j + 1)) (j + 1) else j
      rw [if_pos h]
    have fin : gapP rows mass j = true → (∃ j_1 : Nat, 1 ≤ j_1 ∧ j_1 ≤ 4001 ∧ (j : Int) + 1 = j_1 ∧ firstF (gapP rows mass) (4001 - j_1) j_1 = firstF (gapP rows mass) 4000 1) ∧ g_lt (0, 0, 0, (4002 - ((j : Int) + 1)).toNat) (0, 0, 0, (4002 - (j : Int)).toNat) :=
      fun h => ⟨⟨j + 1, by omega, (go h).1, rfl, (go h).2⟩, g_ltI (by omega)⟩
    refine ⟨by omega, hp1, fun h => fin ?_, fun h => ⟨by omega, hp1, fun h3 => fin ?_, fun h3 => ⟨by omega, hp1, fun h4 => ?_, fun h4 => fin ?_⟩⟩⟩
    · unfold gapP; rw [h]; rfl
    · unfold gapP; rw [h, h3]; rfl
    · rw [← hf, stop (by unfold gapP; rw [h, h3, h4]; rfl)]
    · unfold gapP; rw [h, h3, h4]; rfl
