def nofZ (f : Nat → Int) (b h l : Int) : Int := if 2 * b + h + l = 0 then 0 else f (100 * b + 10 * h + l).toNat
def rngO (both heavy light : Nat → Int) : Prop := ∀ i, i < 3 → (0 ≤ both i ∧ both i ≤ 9) ∧ (0 ≤ heavy i ∧ heavy i ≤ 9) ∧ (0 ≤ light i ∧ light i ≤ 9)
def rngN (f : Nat → Int) : Prop := ∀ k, k < 1000 → 0 ≤ f k ∧ f k ≤ 99
theorem nofZ_in {f : Nat → Int} {b h l : Int} (hf : rngN f) (hb : 0 ≤ b ∧ b ≤ 9) (hh : 0 ≤ h ∧ h ≤ 9) (hl : 0 ≤ l ∧ l ≤ 9) : 0 ≤ nofZ f b h l ∧ nofZ f b h l ≤ 99 := by
  unfold nofZ
  split
  · omega
  · exact hf _ (by omega)
theorem nofZ_N {f : Nat → Int} {b h l : Nat} : nofZ f b h l = nofN f b h l := by
  unfold nofZ nofN
  by_cases g : 2 * b + h + l = 0
  · rw [if_pos g, if_pos (by omega)]
  · rw [if_neg g, if_neg (by omega), show (100 * (b : Int) + 10 * (h : Int) + (l : Int)).toNat = 100 * b + 10 * h + l by omega]
def spB (b left right : Int) (f : Nat → Int) : Nat → Int := va_up (va_up (va_up f 0 0) 1 (b - left / 100 - right / 100)) 2 0
def spH (h left right : Int) (f : Nat → Int) : Nat → Int := va_up (va_up (va_up f 0 (right / 100 + right / 10 % 10)) 1 (h - left / 10 % 10 - right / 10 % 10)) 2 (left / 100 + left / 10 % 10)
def spL (l left right : Int) (f : Nat → Int) : Nat → Int := va_up (va_up (va_up f 0 (left / 100 + left % 10)) 1 (l - left % 10 - right % 10)) 2 (right / 100 + right % 10)

set_option maxRecDepth 100000 in
set_option maxHeartbeats 4000000 in
theorem w_X3_at (l : Launch) (hlt : l.stackTraces = false) (T : GT) (bb : Int) (hh : Int) (ll : Int)  (post : Int → Prop) (v0_ : post (((100 * bb) + (10 * hh)) + ll))  : MR l T yX3_at cX3_at 3 (some .int) ({ frames := 0, cells := 0, slots := 0, locals := 0 }) [.int (iN bb), .int (iN hh), .int (iN ll)] [] (fun v_ => ∃ (r : Int), v_ = some (.int (iN r)) ∧ post r) := by
  refine MR.start hlt (by decide) (lv0 := [some (.int (iN bb)), some (.int (iN hh)), some (.int (iN ll))]) rfl (Nat.le_of_ble_eq_true rfl) rfl ?_
  intro p e R s m args below meth c cx hr hST
  have vc := v0_
  refine g_bipush (q := 2) (v := iN 100) cx dX3_at_0 (by decide) rfl ?_
  refine g_iload_n (q := 3) cx dX3_at_2 rfl rfl ?_
  refine g_imulZ (q := 4) cx dX3_at_3 rfl ?_
  refine g_bipush (q := 6) (v := iN 10) cx dX3_at_4 (by decide) rfl ?_
  refine g_iload_n (q := 7) cx dX3_at_6 rfl rfl ?_
  refine g_imulZ (q := 8) cx dX3_at_7 rfl ?_
  refine g_iaddZ (q := 9) cx dX3_at_8 rfl ?_
  refine g_iload_n (q := 10) cx dX3_at_9 rfl rfl ?_
  refine g_iaddZ (q := 11) cx dX3_at_10 rfl ?_
  exact g_iretR cx hr rfl ⟨(((100 * bb) + (10 * hh)) + ll), rfl, vc⟩ dX3_at_11

theorem k_X3_at (l : Launch) (hlt : l.stackTraces = false) (T : GT) (bb : Int) (hh : Int) (ll : Int)  : MR l T yX3_at cX3_at 3 (some .int) ({ frames := 0, cells := 0, slots := 0, locals := 0 }) [.int (iN bb), .int (iN hh), .int (iN ll)] [] (fun v_ => ∃ (r : Int), v_ = some (.int (iN r)) ∧ r = (100 * bb + 10 * hh + ll)) := by
  exact w_X3_at l hlt T bb hh ll _ rfl

set_option maxRecDepth 100000 in
set_option maxHeartbeats 4000000 in
theorem w_X3_pairsOf (l : Launch) (hlt : l.stackTraces = false) (T : GT) (mo : Nat) (am : Nat) (ae : Nat) (ap : Nat) (ab : Nat) (aw : Nat) (ac : Nat) (an : Nat) (a0 : Nat) (a1 : Nat) (a2 : Nat) (th : Int) (many : Int) (coins : Int) (both : Nat → Int) (heavy : Nat → Int) (light : Nat → Int) (o : Int)  (post : Int → Prop) (v0_ : (0 ≤ o ∧ o < 3) ∧ ((0 ≤ o ∧ o < 3) ∧ ((0 ≤ o ∧ o < 3) ∧ (post (((2 * (both o.toNat)) + (heavy o.toNat)) + (light o.toNat))))))  : MR l T yX3_pairsOf cX3_pairsOf 2 (some .int) ({ frames := 0, cells := 0, slots := 0, locals := 0 }) [.ref mo, .int (iN o)] [(mo, .inr (2, [.int (iN th), .ref am, .ref ae, .int (iN many), .ref ap, .ref ab, .ref aw, .int (iN coins), .ref ac, .ref an, .ref a0, .ref a1, .ref a2])), (a0, .inl (T.2.1 0, 3, .inl (zA both))), (a1, .inl (T.2.1 0, 3, .inl (zA heavy))), (a2, .inl (T.2.1 0, 3, .inl (zA light)))] (fun v_ => ∃ (r : Int), v_ = some (.int (iN r)) ∧ post r) := by
  refine MR.start hlt (by decide) (lv0 := [some (.ref mo), some (.int (iN o))]) rfl (Nat.le_of_ble_eq_true rfl) rfl ?_
  intro p e R s m args below meth c cx hr hST
  have vc := v0_
  refine g_iconst (q := 1) (v := iN 2) cx dX3_pairsOf_0 rfl rfl ?_
  refine g_aload_n (q := 2) cx dX3_pairsOf_1 rfl rfl ?_
  refine g_get (q := 5) cx k_cX3 0 rfl 10 (by decide) q1080 (Or.inl rfl) rfl dX3_pairsOf_2 rfl ?_
  refine g_iload_n (q := 6) cx dX3_pairsOf_5 rfl rfl ?_
  refine g_ialdZ (q := 7) cx 1 (by decide) rfl vc.1 dX3_pairsOf_6 rfl ?_
  have vc := vc.2
  refine g_imulZ (q := 8) cx dX3_pairsOf_7 rfl ?_
  refine g_aload_n (q := 9) cx dX3_pairsOf_8 rfl rfl ?_
  refine g_get (q := 12) cx k_cX3 0 rfl 11 (by decide) q1081 (Or.inl rfl) rfl dX3_pairsOf_9 rfl ?_
  refine g_iload_n (q := 13) cx dX3_pairsOf_12 rfl rfl ?_
  refine g_ialdZ (q := 14) cx 2 (by decide) rfl vc.1 dX3_pairsOf_13 rfl ?_
  have vc := vc.2
  refine g_iaddZ (q := 15) cx dX3_pairsOf_14 rfl ?_
  refine g_aload_n (q := 16) cx dX3_pairsOf_15 rfl rfl ?_
  refine g_get (q := 19) cx k_cX3 0 rfl 12 (by decide) q1082 (Or.inl rfl) rfl dX3_pairsOf_16 rfl ?_
  refine g_iload_n (q := 20) cx dX3_pairsOf_19 rfl rfl ?_
  refine g_ialdZ (q := 21) cx 3 (by decide) rfl vc.1 dX3_pairsOf_20 rfl ?_
  have vc := vc.2
  refine g_iaddZ (q := 22) cx dX3_pairsOf_21 rfl ?_
  exact g_iretR cx hr rfl ⟨(((2 * (both o.toNat)) + (heavy o.toNat)) + (light o.toNat)), rfl, vc⟩ dX3_pairsOf_22

theorem k_X3_pairsOf (l : Launch) (hlt : l.stackTraces = false) (T : GT) (mo : Nat) (am : Nat) (ae : Nat) (ap : Nat) (ab : Nat) (aw : Nat) (ac : Nat) (an : Nat) (a0 : Nat) (a1 : Nat) (a2 : Nat) (th : Int) (many : Int) (coins : Int) (both : Nat → Int) (heavy : Nat → Int) (light : Nat → Int) (o : Int) (hp0 : 0 ≤ o ∧ o < 3) : MR l T yX3_pairsOf cX3_pairsOf 2 (some .int) ({ frames := 0, cells := 0, slots := 0, locals := 0 }) [.ref mo, .int (iN o)] [(mo, .inr (2, [.int (iN th), .ref am, .ref ae, .int (iN many), .ref ap, .ref ab, .ref aw, .int (iN coins), .ref ac, .ref an, .ref a0, .ref a1, .ref a2])), (a0, .inl (T.2.1 0, 3, .inl (zA both))), (a1, .inl (T.2.1 0, 3, .inl (zA heavy))), (a2, .inl (T.2.1 0, 3, .inl (zA light)))] (fun v_ => ∃ (r : Int), v_ = some (.int (iN r)) ∧ r = (2 * both o.toNat + heavy o.toNat + light o.toNat)) := by
  exact w_X3_pairsOf l hlt T mo am ae ap ab aw ac an a0 a1 a2 th many coins both heavy light o _ ⟨hp0, hp0, hp0, rfl⟩

set_option maxRecDepth 100000 in
set_option maxHeartbeats 4000000 in
theorem w_X3_needOf (l : Launch) (hlt : l.stackTraces = false) (T : GT) (mo : Nat) (am : Nat) (ae : Nat) (ap : Nat) (ab : Nat) (aw : Nat) (ac : Nat) (an : Nat) (a0 : Nat) (a1 : Nat) (a2 : Nat) (th : Int) (many : Int) (coins : Int) (needs : Nat → Int) (both : Nat → Int) (heavy : Nat → Int) (light : Nat → Int) (o : Int)  (post : Int → Prop) (v0_ : (0 ≤ o ∧ o < 3) ∧ ((-2147483648 ≤ (2 * both o.toNat + heavy o.toNat + light o.toNat) ∧ (2 * both o.toNat + heavy o.toNat + light o.toNat) < 2147483648) ∧ ((¬ (2 * both o.toNat + heavy o.toNat + light o.toNat) = 0 → ((0 ≤ o ∧ o < 3) ∧ ((0 ≤ o ∧ o < 3) ∧ ((0 ≤ o ∧ o < 3) ∧ ((0 ≤ (100 * (both o.toNat) + 10 * (heavy o.toNat) + (light o.toNat)) ∧ (100 * (both o.toNat) + 10 * (heavy o.toNat) + (light o.toNat)) < 1000) ∧ (post (needs (100 * (both o.toNat) + 10 * (heavy o.toNat) + (light o.toNat)).toNat))))))) ∧ ((2 * both o.toNat + heavy o.toNat + light o.toNat) = 0 → (post 0)))))  : MR l T yX3_needOf cX3_needOf 2 (some .int) ({ frames := 1, cells := 0, slots := 0, locals := 22 }) [.ref mo, .int (iN o)] [(mo, .inr (2, [.int (iN th), .ref am, .ref ae, .int (iN many), .ref ap, .ref ab, .ref aw, .int (iN coins), .ref ac, .ref an, .ref a0, .ref a1, .ref a2])), (an, .inl (T.2.1 0, 1000, .inl (zA needs))), (a0, .inl (T.2.1 0, 3, .inl (zA both))), (a1, .inl (T.2.1 0, 3, .inl (zA heavy))), (a2, .inl (T.2.1 0, 3, .inl (zA light)))] (fun v_ => ∃ (r : Int), v_ = some (.int (iN r)) ∧ post r) := by
  refine MR.start hlt (by decide) (lv0 := [some (.ref mo), some (.int (iN o))]) rfl (Nat.le_of_ble_eq_true rfl) rfl ?_
  intro p e R s m args below meth c cx hr hST
  have vc := v0_
  refine g_aload_n (q := 1) cx dX3_needOf_0 rfl rfl ?_
  refine g_iload_n (q := 2) cx dX3_needOf_1 rfl rfl ?_
  refine g_cVr (q := 5) (b := mo) (As := [.int (iN o)]) (wr := [(an, .inl (T.2.1 0, 1000, .inl (zA needs)))]) (st := []) cx hST (k_X3_pairsOf l hlt T mo am ae ap ab aw ac an a0 a1 a2 th many coins both heavy light o (vc.1)) q1066 s_X3_pairsOf rfl 0 rfl rfl (g_perm [1, 0, 2, 3, 4] rfl rfl) (g_rmB rfl) (Nat.le_of_ble_eq_true rfl) dX3_needOf_2 rfl (fun v_ hv_ => ?_)
  have vc := vc.2
  obtain ⟨r_1, rfl, e_2⟩ := hv_
  subst e_2
  refine g_st (st2 := [.int (iN (2 * both o.toNat + heavy o.toNat + light o.toNat))]) rfl ?_
  refine g_if_neZ (q := 8) (tg := 12) cx vc.1 dX3_needOf_5 (by decide) rfl (fun h_3 => ?_) (fun h_3 => ?_)
  · have vc := vc.2.1 h_3
    refine g_aload_n (q := 13) cx dX3_needOf_12 rfl rfl ?_
    refine g_get (q := 16) cx k_cX3 0 rfl 9 (by decide) q1079 (Or.inl rfl) rfl dX3_needOf_13 rfl ?_
    refine g_aload_n (q := 17) cx dX3_needOf_16 rfl rfl ?_
    refine g_get (q := 20) cx k_cX3 0 rfl 10 (by decide) q1080 (Or.inl rfl) rfl dX3_needOf_17 rfl ?_
    refine g_iload_n (q := 21) cx dX3_needOf_20 rfl rfl ?_
    refine g_ialdZ (q := 22) cx 2 (by decide) rfl vc.1 dX3_needOf_21 rfl ?_
    have vc := vc.2
    refine g_aload_n (q := 23) cx dX3_needOf_22 rfl rfl ?_
    refine g_get (q := 26) cx k_cX3 0 rfl 11 (by decide) q1081 (Or.inl rfl) rfl dX3_needOf_23 rfl ?_
    refine g_iload_n (q := 27) cx dX3_needOf_26 rfl rfl ?_
    refine g_ialdZ (q := 28) cx 3 (by decide) rfl vc.1 dX3_needOf_27 rfl ?_
    have vc := vc.2
    refine g_aload_n (q := 29) cx dX3_needOf_28 rfl rfl ?_
    refine g_get (q := 32) cx k_cX3 0 rfl 12 (by decide) q1082 (Or.inl rfl) rfl dX3_needOf_29 rfl ?_
    refine g_iload_n (q := 33) cx dX3_needOf_32 rfl rfl ?_
    refine g_ialdZ (q := 34) cx 4 (by decide) rfl vc.1 dX3_needOf_33 rfl ?_
    have vc := vc.2
    refine g_cSr (q := 37) (As := [.int (iN (both o.toNat)), .int (iN (heavy o.toNat)), .int (iN (light o.toNat))]) (wr := [(mo, .inr (2, [.int (iN th), .ref am, .ref ae, .int (iN many), .ref ap, .ref ab, .ref aw, .int (iN coins), .ref ac, .ref an, .ref a0, .ref a1, .ref a2])), (an, .inl (T.2.1 0, 1000, .inl (zA needs))), (a0, .inl (T.2.1 0, 3, .inl (zA both))), (a1, .inl (T.2.1 0, 3, .inl (zA heavy))), (a2, .inl (T.2.1 0, 3, .inl (zA light)))]) (st := [.ref an]) cx hST (k_X3_at l hlt T (both o.toNat) (heavy o.toNat) (light o.toNat)) q1041 s_X3_at rfl g_perm0 (g_rmB rfl) (Nat.le_of_ble_eq_true rfl) dX3_needOf_34 rfl (fun v_ hv_ => ?_)
    obtain ⟨r_4, rfl, e_5⟩ := hv_
    subst e_5
    refine g_st (st2 := [.int (iN (100 * (both o.toNat) + 10 * (heavy o.toNat) + (light o.toNat))), .ref an]) rfl ?_
    refine g_ialdZ (q := 38) cx 1 (by decide) rfl vc.1 dX3_needOf_37 rfl ?_
    have vc := vc.2
    exact g_iretR cx hr rfl ⟨(needs (100 * (both o.toNat) + 10 * (heavy o.toNat) + (light o.toNat)).toNat), rfl, vc⟩ dX3_needOf_38
  · have vc := vc.2.2 h_3
    refine g_iconst (q := 9) (v := iN 0) cx dX3_needOf_8 rfl rfl ?_
    refine g_goto (q := 38) cx dX3_needOf_9 (by decide) ?_
    exact g_iretR cx hr rfl ⟨0, rfl, vc⟩ dX3_needOf_38

theorem k_X3_needOf (l : Launch) (hlt : l.stackTraces = false) (T : GT) (mo : Nat) (am : Nat) (ae : Nat) (ap : Nat) (ab : Nat) (aw : Nat) (ac : Nat) (an : Nat) (a0 : Nat) (a1 : Nat) (a2 : Nat) (th : Int) (many : Int) (coins : Int) (needs : Nat → Int) (both : Nat → Int) (heavy : Nat → Int) (light : Nat → Int) (o : Int) (hp0 : 0 ≤ o ∧ o < 3) (hp1 : rngO both heavy light) : MR l T yX3_needOf cX3_needOf 2 (some .int) ({ frames := 1, cells := 0, slots := 0, locals := 22 }) [.ref mo, .int (iN o)] [(mo, .inr (2, [.int (iN th), .ref am, .ref ae, .int (iN many), .ref ap, .ref ab, .ref aw, .int (iN coins), .ref ac, .ref an, .ref a0, .ref a1, .ref a2])), (an, .inl (T.2.1 0, 1000, .inl (zA needs))), (a0, .inl (T.2.1 0, 3, .inl (zA both))), (a1, .inl (T.2.1 0, 3, .inl (zA heavy))), (a2, .inl (T.2.1 0, 3, .inl (zA light)))] (fun v_ => ∃ (r : Int), v_ = some (.int (iN r)) ∧ r = (nofZ needs (both o.toNat) (heavy o.toNat) (light o.toNat))) := by
  refine w_X3_needOf l hlt T mo am ae ap ab aw ac an a0 a1 a2 th many coins needs both heavy light o _ ?_
  have h := hp1 o.toNat (by omega)
  refine ⟨hp0, by omega, fun h1 => ⟨hp0, hp0, hp0, by omega, ?_⟩, fun h1 => ?_⟩
  · unfold nofZ; rw [if_neg h1]
  · unfold nofZ; rw [if_pos h1]

set_option maxRecDepth 100000 in
set_option maxHeartbeats 4000000 in
theorem w_X3_worst (l : Launch) (hlt : l.stackTraces = false) (T : GT) (mo : Nat) (am : Nat) (ae : Nat) (ap : Nat) (ab : Nat) (aw : Nat) (ac : Nat) (an : Nat) (a0 : Nat) (a1 : Nat) (a2 : Nat) (th : Int) (many : Int) (coins : Int) (needs : Nat → Int) (both : Nat → Int) (heavy : Nat → Int) (light : Nat → Int)  (post : Int → Prop) (v0_ : (rngO both heavy light) ∧ ((rngO both heavy light) ∧ ((-2147483648 ≤ (nofZ needs (both 1) (heavy 1) (light 1)) ∧ (nofZ needs (both 1) (heavy 1) (light 1)) < 2147483648) ∧ ((-2147483648 ≤ (nofZ needs (both 0) (heavy 0) (light 0)) ∧ (nofZ needs (both 0) (heavy 0) (light 0)) < 2147483648) ∧ (((nofZ needs (both 1) (heavy 1) (light 1)) ≤ (nofZ needs (both 0) (heavy 0) (light 0)) → ((rngO both heavy light) ∧ ((-2147483648 ≤ (nofZ needs (both 2) (heavy 2) (light 2)) ∧ (nofZ needs (both 2) (heavy 2) (light 2)) < 2147483648) ∧ ((-2147483648 ≤ (nofZ needs (both 0) (heavy 0) (light 0)) ∧ (nofZ needs (both 0) (heavy 0) (light 0)) < 2147483648) ∧ (((nofZ needs (both 2) (heavy 2) (light 2)) ≤ (nofZ needs (both 0) (heavy 0) (light 0)) → (post (nofZ needs (both 0) (heavy 0) (light 0)))) ∧ ((nofZ needs (both 0) (heavy 0) (light 0)) < (nofZ needs (both 2) (heavy 2) (light 2)) → ((rngO both heavy light) ∧ (post (nofZ needs (both 2) (heavy 2) (light 2)))))))))) ∧ ((nofZ needs (both 0) (heavy 0) (light 0)) < (nofZ needs (both 1) (heavy 1) (light 1)) → ((rngO both heavy light) ∧ ((rngO both heavy light) ∧ ((-2147483648 ≤ (nofZ needs (both 2) (heavy 2) (light 2)) ∧ (nofZ needs (both 2) (heavy 2) (light 2)) < 2147483648) ∧ ((-2147483648 ≤ (nofZ needs (both 1) (heavy 1) (light 1)) ∧ (nofZ needs (both 1) (heavy 1) (light 1)) < 2147483648) ∧ (((nofZ needs (both 2) (heavy 2) (light 2)) ≤ (nofZ needs (both 1) (heavy 1) (light 1)) → (post (nofZ needs (both 1) (heavy 1) (light 1)))) ∧ ((nofZ needs (both 1) (heavy 1) (light 1)) < (nofZ needs (both 2) (heavy 2) (light 2)) → ((rngO both heavy light) ∧ (post (nofZ needs (both 2) (heavy 2) (light 2))))))))))))))))  : MR l T yX3_worst cX3_worst 2 (some .int) ({ frames := 2, cells := 0, slots := 0, locals := 43 }) [.ref mo] [(mo, .inr (2, [.int (iN th), .ref am, .ref ae, .int (iN many), .ref ap, .ref ab, .ref aw, .int (iN coins), .ref ac, .ref an, .ref a0, .ref a1, .ref a2])), (an, .inl (T.2.1 0, 1000, .inl (zA needs))), (a0, .inl (T.2.1 0, 3, .inl (zA both))), (a1, .inl (T.2.1 0, 3, .inl (zA heavy))), (a2, .inl (T.2.1 0, 3, .inl (zA light)))] (fun v_ => ∃ (r : Int), v_ = some (.int (iN r)) ∧ post r) := by
  refine MR.start hlt (by decide) (lv0 := [some (.ref mo), none]) rfl (Nat.le_of_ble_eq_true rfl) rfl ?_
  intro p e R s m args below meth c cx hr hST
  have vc := v0_
  refine g_aload_n (q := 1) cx dX3_worst_0 rfl rfl ?_
  refine g_iconst (q := 2) (v := iN 0) cx dX3_worst_1 rfl rfl ?_
  refine g_cVr (q := 5) (b := mo) (As := [.int (iN 0)]) (wr := []) (st := []) cx hST (k_X3_needOf l hlt T mo am ae ap ab aw ac an a0 a1 a2 th many coins needs both heavy light 0 (by decide) (vc.1)) q1062 s_X3_needOf rfl 0 rfl rfl g_perm1 (g_rmB rfl) (Nat.le_of_ble_eq_true rfl) dX3_worst_2 rfl (fun v_ hv_ => ?_)
  have vc := vc.2
  obtain ⟨r_1, rfl, e_2⟩ := hv_
  subst e_2
  refine g_st (st2 := [.int (iN (nofZ needs (both 0) (heavy 0) (light 0)))]) rfl ?_
  refine g_istore_n (q := 6) (lv2 := [some (.ref mo), some (.int (iN (nofZ needs (both 0) (heavy 0) (light 0))))]) cx dX3_worst_5 rfl (by decide) rfl rfl ?_
  refine g_aload_n (q := 7) cx dX3_worst_6 rfl rfl ?_
  refine g_iconst (q := 8) (v := iN 1) cx dX3_worst_7 rfl rfl ?_
  refine g_cVr (q := 11) (b := mo) (As := [.int (iN 1)]) (wr := []) (st := []) cx hST (k_X3_needOf l hlt T mo am ae ap ab aw ac an a0 a1 a2 th many coins needs both heavy light 1 (by decide) (vc.1)) q1062 s_X3_needOf rfl 0 rfl rfl g_perm1 (g_rmB rfl) (Nat.le_of_ble_eq_true rfl) dX3_worst_8 rfl (fun v_ hv_ => ?_)
  have vc := vc.2
  obtain ⟨r_3, rfl, e_4⟩ := hv_
  subst e_4
  refine g_st (st2 := [.int (iN (nofZ needs (both 1) (heavy 1) (light 1)))]) rfl ?_
  refine g_iload_n (q := 12) cx dX3_worst_11 rfl rfl ?_
  refine g_icmp_leZ (q := 15) (tg := 23) cx vc.1 vc.2.1 dX3_worst_12 (by decide) rfl (fun h_5 => ?_) (fun h_5 => ?_)
  · have vc := vc.2.2.1 h_5
    refine g_iload_n (q := 24) cx dX3_worst_23 rfl rfl ?_
    refine g_istore_n (q := 25) (lv2 := [some (.ref mo), some (.int (iN (nofZ needs (both 0) (heavy 0) (light 0))))]) cx dX3_worst_24 rfl (by decide) rfl rfl ?_
    refine g_aload_n (q := 26) cx dX3_worst_25 rfl rfl ?_
    refine g_iconst (q := 27) (v := iN 2) cx dX3_worst_26 rfl rfl ?_
    refine g_cVr (q := 30) (b := mo) (As := [.int (iN 2)]) (wr := []) (st := []) cx hST (k_X3_needOf l hlt T mo am ae ap ab aw ac an a0 a1 a2 th many coins needs both heavy light 2 (by decide) (vc.1)) q1062 s_X3_needOf rfl 0 rfl rfl g_perm1 (g_rmB rfl) (Nat.le_of_ble_eq_true rfl) dX3_worst_27 rfl (fun v_ hv_ => ?_)
    have vc := vc.2
    obtain ⟨r_6, rfl, e_7⟩ := hv_
    subst e_7
    refine g_st (st2 := [.int (iN (nofZ needs (both 2) (heavy 2) (light 2)))]) rfl ?_
    refine g_iload_n (q := 31) cx dX3_worst_30 rfl rfl ?_
    refine g_icmp_leZ (q := 34) (tg := 42) cx vc.1 vc.2.1 dX3_worst_31 (by decide) rfl (fun h_8 => ?_) (fun h_8 => ?_)
    · have vc := vc.2.2.1 h_8
      refine g_iload_n (q := 43) cx dX3_worst_42 rfl rfl ?_
      exact g_iretR cx hr rfl ⟨(nofZ needs (both 0) (heavy 0) (light 0)), rfl, vc⟩ dX3_worst_43
    · have vc := vc.2.2.2 h_8
      refine g_aload_n (q := 35) cx dX3_worst_34 rfl rfl ?_
      refine g_iconst (q := 36) (v := iN 2) cx dX3_worst_35 rfl rfl ?_
      refine g_cVr (q := 39) (b := mo) (As := [.int (iN 2)]) (wr := []) (st := []) cx hST (k_X3_needOf l hlt T mo am ae ap ab aw ac an a0 a1 a2 th many coins needs both heavy light 2 (by decide) (vc.1)) q1062 s_X3_needOf rfl 0 rfl rfl g_perm1 (g_rmB rfl) (Nat.le_of_ble_eq_true rfl) dX3_worst_36 rfl (fun v_ hv_ => ?_)
      have vc := vc.2
      obtain ⟨r_9, rfl, e_10⟩ := hv_
      subst e_10
      refine g_st (st2 := [.int (iN (nofZ needs (both 2) (heavy 2) (light 2)))]) rfl ?_
      refine g_goto (q := 43) cx dX3_worst_39 (by decide) ?_
      exact g_iretR cx hr rfl ⟨(nofZ needs (both 2) (heavy 2) (light 2)), rfl, vc⟩ dX3_worst_43
  · have vc := vc.2.2.2 h_5
    refine g_aload_n (q := 16) cx dX3_worst_15 rfl rfl ?_
    refine g_iconst (q := 17) (v := iN 1) cx dX3_worst_16 rfl rfl ?_
    refine g_cVr (q := 20) (b := mo) (As := [.int (iN 1)]) (wr := []) (st := []) cx hST (k_X3_needOf l hlt T mo am ae ap ab aw ac an a0 a1 a2 th many coins needs both heavy light 1 (by decide) (vc.1)) q1062 s_X3_needOf rfl 0 rfl rfl g_perm1 (g_rmB rfl) (Nat.le_of_ble_eq_true rfl) dX3_worst_17 rfl (fun v_ hv_ => ?_)
    have vc := vc.2
    obtain ⟨r_11, rfl, e_12⟩ := hv_
    subst e_12
    refine g_st (st2 := [.int (iN (nofZ needs (both 1) (heavy 1) (light 1)))]) rfl ?_
    refine g_goto (q := 24) cx dX3_worst_20 (by decide) ?_
    refine g_istore_n (q := 25) (lv2 := [some (.ref mo), some (.int (iN (nofZ needs (both 1) (heavy 1) (light 1))))]) cx dX3_worst_24 rfl (by decide) rfl rfl ?_
    refine g_aload_n (q := 26) cx dX3_worst_25 rfl rfl ?_
    refine g_iconst (q := 27) (v := iN 2) cx dX3_worst_26 rfl rfl ?_
    refine g_cVr (q := 30) (b := mo) (As := [.int (iN 2)]) (wr := []) (st := []) cx hST (k_X3_needOf l hlt T mo am ae ap ab aw ac an a0 a1 a2 th many coins needs both heavy light 2 (by decide) (vc.1)) q1062 s_X3_needOf rfl 0 rfl rfl g_perm1 (g_rmB rfl) (Nat.le_of_ble_eq_true rfl) dX3_worst_27 rfl (fun v_ hv_ => ?_)
    have vc := vc.2
    obtain ⟨r_13, rfl, e_14⟩ := hv_
    subst e_14
    refine g_st (st2 := [.int (iN (nofZ needs (both 2) (heavy 2) (light 2)))]) rfl ?_
    refine g_iload_n (q := 31) cx dX3_worst_30 rfl rfl ?_
    refine g_icmp_leZ (q := 34) (tg := 42) cx vc.1 vc.2.1 dX3_worst_31 (by decide) rfl (fun h_15 => ?_) (fun h_15 => ?_)
    · have vc := vc.2.2.1 h_15
      refine g_iload_n (q := 43) cx dX3_worst_42 rfl rfl ?_
      exact g_iretR cx hr rfl ⟨(nofZ needs (both 1) (heavy 1) (light 1)), rfl, vc⟩ dX3_worst_43
    · have vc := vc.2.2.2 h_15
      refine g_aload_n (q := 35) cx dX3_worst_34 rfl rfl ?_
      refine g_iconst (q := 36) (v := iN 2) cx dX3_worst_35 rfl rfl ?_
      refine g_cVr (q := 39) (b := mo) (As := [.int (iN 2)]) (wr := []) (st := []) cx hST (k_X3_needOf l hlt T mo am ae ap ab aw ac an a0 a1 a2 th many coins needs both heavy light 2 (by decide) (vc.1)) q1062 s_X3_needOf rfl 0 rfl rfl g_perm1 (g_rmB rfl) (Nat.le_of_ble_eq_true rfl) dX3_worst_36 rfl (fun v_ hv_ => ?_)
      have vc := vc.2
      obtain ⟨r_16, rfl, e_17⟩ := hv_
      subst e_17
      refine g_st (st2 := [.int (iN (nofZ needs (both 2) (heavy 2) (light 2)))]) rfl ?_
      refine g_goto (q := 43) cx dX3_worst_39 (by decide) ?_
      exact g_iretR cx hr rfl ⟨(nofZ needs (both 2) (heavy 2) (light 2)), rfl, vc⟩ dX3_worst_43

theorem k_X3_worst (l : Launch) (hlt : l.stackTraces = false) (T : GT) (mo : Nat) (am : Nat) (ae : Nat) (ap : Nat) (ab : Nat) (aw : Nat) (ac : Nat) (an : Nat) (a0 : Nat) (a1 : Nat) (a2 : Nat) (th : Int) (many : Int) (coins : Int) (needs : Nat → Int) (both : Nat → Int) (heavy : Nat → Int) (light : Nat → Int) (hp0 : rngO both heavy light) (hp1 : rngN needs) : MR l T yX3_worst cX3_worst 2 (some .int) ({ frames := 2, cells := 0, slots := 0, locals := 43 }) [.ref mo] [(mo, .inr (2, [.int (iN th), .ref am, .ref ae, .int (iN many), .ref ap, .ref ab, .ref aw, .int (iN coins), .ref ac, .ref an, .ref a0, .ref a1, .ref a2])), (an, .inl (T.2.1 0, 1000, .inl (zA needs))), (a0, .inl (T.2.1 0, 3, .inl (zA both))), (a1, .inl (T.2.1 0, 3, .inl (zA heavy))), (a2, .inl (T.2.1 0, 3, .inl (zA light)))] (fun v_ => ∃ (r : Int), v_ = some (.int (iN r)) ∧ r = (mx (mx (nofZ needs (both 0) (heavy 0) (light 0)) (nofZ needs (both 1) (heavy 1) (light 1))) (nofZ needs (both 2) (heavy 2) (light 2)))) := by
  refine w_X3_worst l hlt T mo am ae ap ab aw ac an a0 a1 a2 th many coins needs both heavy light _ ?_
  have a0 := nofZ_in hp1 (hp0 0 (by omega)).1 (hp0 0 (by omega)).2.1 (hp0 0 (by omega)).2.2
  have a1 := nofZ_in hp1 (hp0 1 (by omega)).1 (hp0 1 (by omega)).2.1 (hp0 1 (by omega)).2.2
  have a2 := nofZ_in hp1 (hp0 2 (by omega)).1 (hp0 2 (by omega)).2.1 (hp0 2 (by omega)).2.2
  generalize nofZ needs (both 0) (heavy 0) (light 0) = x0 at a0 ⊢
  generalize nofZ needs (both 1) (heavy 1) (light 1) = x1 at a1 ⊢
  generalize nofZ needs (both 2) (heavy 2) (light 2) = x2 at a2 ⊢
  refine ⟨hp0, hp0, by omega, by omega, fun h => ⟨hp0, by omega, by omega, fun h2 => ?_, fun h2 => ⟨hp0, ?_⟩⟩, fun h => ⟨hp0, hp0, by omega, by omega, fun h2 => ?_, fun h2 => ⟨hp0, ?_⟩⟩⟩
  all_goals (unfold mx; repeat' split)
  all_goals omega

set_option maxRecDepth 100000 in
set_option maxHeartbeats 4000000 in
theorem w_X3_split (l : Launch) (hlt : l.stackTraces = false) (T : GT) (mo : Nat) (am : Nat) (ae : Nat) (ap : Nat) (ab : Nat) (aw : Nat) (ac : Nat) (an : Nat) (a0 : Nat) (a1 : Nat) (a2 : Nat) (th : Int) (many : Int) (coins : Int) (both : Nat → Int) (heavy : Nat → Int) (light : Nat → Int) (bb : Int) (hh : Int) (ll : Int) (left : Int) (right : Int)  (post : (Nat → Int) → (Nat → Int) → (Nat → Int) → Prop) (v0_ : (0 ≤ left ∧ left < 2147483648) ∧ ((0 ≤ left ∧ left < 2147483648) ∧ ((0 ≤ (left / 10) ∧ (left / 10) < 2147483648) ∧ ((0 ≤ left ∧ left < 2147483648) ∧ ((0 ≤ right ∧ right < 2147483648) ∧ ((0 ≤ right ∧ right < 2147483648) ∧ ((0 ≤ (right / 10) ∧ (right / 10) < 2147483648) ∧ ((0 ≤ right ∧ right < 2147483648) ∧ (post (va_up (va_up (va_up both 0 0) 1 ((bb - (left / 100)) - (right / 100))) 2 0) (va_up (va_up (va_up heavy 0 ((right / 100) + ((right / 10) % 10))) 1 ((hh - ((left / 10) % 10)) - ((right / 10) % 10))) 2 ((left / 100) + ((left / 10) % 10))) (va_up (va_up (va_up light 0 ((left / 100) + (left % 10))) 1 ((ll - (left % 10)) - (right % 10))) 2 ((right / 100) + (right % 10))))))))))))  : MW l T yX3_split cX3_split 12 none ({ frames := 0, cells := 0, slots := 0, locals := 0 }) [.ref mo, .int (iN bb), .int (iN hh), .int (iN ll), .int (iN left), .int (iN right)] [(mo, .inr (2, [.int (iN th), .ref am, .ref ae, .int (iN many), .ref ap, .ref ab, .ref aw, .int (iN coins), .ref ac, .ref an, .ref a0, .ref a1, .ref a2])), (a0, .inl (T.2.1 0, 3, .inl (zA both))), (a1, .inl (T.2.1 0, 3, .inl (zA heavy))), (a2, .inl (T.2.1 0, 3, .inl (zA light)))] (fun v_ wn_ => ∃ (both2 : Nat → Int), ∃ (heavy2 : Nat → Int), ∃ (light2 : Nat → Int), v_ = none ∧ wn_ = [(mo, .inr (2, [.int (iN th), .ref am, .ref ae, .int (iN many), .ref ap, .ref ab, .ref aw, .int (iN coins), .ref ac, .ref an, .ref a0, .ref a1, .ref a2])), (a0, .inl (T.2.1 0, 3, .inl (zA both2))), (a1, .inl (T.2.1 0, 3, .inl (zA heavy2))), (a2, .inl (T.2.1 0, 3, .inl (zA light2)))] ∧ post both2 heavy2 light2) 0 0 := by
  refine MW.start hlt (by decide) (lv0 := [some (.ref mo), some (.int (iN bb)), some (.int (iN hh)), some (.int (iN ll)), some (.int (iN left)), some (.int (iN right)), none, none, none, none, none, none]) rfl (Nat.le_of_ble_eq_true rfl) rfl ?_
  intro p e R s m args below meth c A cx hr hnm hST hrw
  have vc := v0_
  refine g_iload (q := 2) cx dX3_split_0 rfl rfl ?_
  refine g_bipush (q := 4) (v := iN 100) cx dX3_split_2 (by decide) rfl ?_
  refine g_idivZ (q := 5) cx vc.1 (by decide) dX3_split_4 rfl ?_
  have vc := vc.2
  refine g_istore (q := 7) (lv2 := [some (.ref mo), some (.int (iN bb)), some (.int (iN hh)), some (.int (iN ll)), some (.int (iN left)), some (.int (iN right)), some (.int (iN (left / 100))), none, none, none, none, none]) cx dX3_split_5 (by decide) rfl rfl ?_
  refine g_iload (q := 9) cx dX3_split_7 rfl rfl ?_
  refine g_bipush (q := 11) (v := iN 10) cx dX3_split_9 (by decide) rfl ?_
  refine g_idivZ (q := 12) cx vc.1 (by decide) dX3_split_11 rfl ?_
  have vc := vc.2
  refine g_bipush (q := 14) (v := iN 10) cx dX3_split_12 (by decide) rfl ?_
  refine g_iremZ (q := 15) cx vc.1 (by decide) dX3_split_14 rfl ?_
  have vc := vc.2
  refine g_istore (q := 17) (lv2 := [some (.ref mo), some (.int (iN bb)), some (.int (iN hh)), some (.int (iN ll)), some (.int (iN left)), some (.int (iN right)), some (.int (iN (left / 100))), some (.int (iN ((left / 10) % 10))), none, none, none, none]) cx dX3_split_15 (by decide) rfl rfl ?_
  refine g_iload (q := 19) cx dX3_split_17 rfl rfl ?_
  refine g_bipush (q := 21) (v := iN 10) cx dX3_split_19 (by decide) rfl ?_
  refine g_iremZ (q := 22) cx vc.1 (by decide) dX3_split_21 rfl ?_
  have vc := vc.2
  refine g_istore (q := 24) (lv2 := [some (.ref mo), some (.int (iN bb)), some (.int (iN hh)), some (.int (iN ll)), some (.int (iN left)), some (.int (iN right)), some (.int (iN (left / 100))), some (.int (iN ((left / 10) % 10))), some (.int (iN (left % 10))), none, none, none]) cx dX3_split_22 (by decide) rfl rfl ?_
  refine g_iload (q := 26) cx dX3_split_24 rfl rfl ?_
  refine g_bipush (q := 28) (v := iN 100) cx dX3_split_26 (by decide) rfl ?_
  refine g_idivZ (q := 29) cx vc.1 (by decide) dX3_split_28 rfl ?_
  have vc := vc.2
  refine g_istore (q := 31) (lv2 := [some (.ref mo), some (.int (iN bb)), some (.int (iN hh)), some (.int (iN ll)), some (.int (iN left)), some (.int (iN right)), some (.int (iN (left / 100))), some (.int (iN ((left / 10) % 10))), some (.int (iN (left % 10))), some (.int (iN (right / 100))), none, none]) cx dX3_split_29 (by decide) rfl rfl ?_
  refine g_iload (q := 33) cx dX3_split_31 rfl rfl ?_
  refine g_bipush (q := 35) (v := iN 10) cx dX3_split_33 (by decide) rfl ?_
  refine g_idivZ (q := 36) cx vc.1 (by decide) dX3_split_35 rfl ?_
  have vc := vc.2
  refine g_bipush (q := 38) (v := iN 10) cx dX3_split_36 (by decide) rfl ?_
  refine g_iremZ (q := 39) cx vc.1 (by decide) dX3_split_38 rfl ?_
  have vc := vc.2
  refine g_istore (q := 41) (lv2 := [some (.ref mo), some (.int (iN bb)), some (.int (iN hh)), some (.int (iN ll)), some (.int (iN left)), some (.int (iN right)), some (.int (iN (left / 100))), some (.int (iN ((left / 10) % 10))), some (.int (iN (left % 10))), some (.int (iN (right / 100))), some (.int (iN ((right / 10) % 10))), none]) cx dX3_split_39 (by decide) rfl rfl ?_
  refine g_iload (q := 43) cx dX3_split_41 rfl rfl ?_
  refine g_bipush (q := 45) (v := iN 10) cx dX3_split_43 (by decide) rfl ?_
  refine g_iremZ (q := 46) cx vc.1 (by decide) dX3_split_45 rfl ?_
  have vc := vc.2
  refine g_istore (q := 48) (lv2 := [some (.ref mo), some (.int (iN bb)), some (.int (iN hh)), some (.int (iN ll)), some (.int (iN left)), some (.int (iN right)), some (.int (iN (left / 100))), some (.int (iN ((left / 10) % 10))), some (.int (iN (left % 10))), some (.int (iN (right / 100))), some (.int (iN ((right / 10) % 10))), some (.int (iN (right % 10)))]) cx dX3_split_46 (by decide) rfl rfl ?_
  refine g_aload_n (q := 49) cx dX3_split_48 rfl rfl ?_
  refine g_get (q := 52) cx k_cX3 0 rfl 10 (by decide) q1080 (Or.inl rfl) rfl dX3_split_49 rfl ?_
  refine g_iconst (q := 53) (v := iN 0) cx dX3_split_52 rfl rfl ?_
  refine g_iconst (q := 54) (v := iN 0) cx dX3_split_53 rfl rfl ?_
  refine g_iastZ (q := 55) (ws2 := [(mo, .inr (2, [.int (iN th), .ref am, .ref ae, .int (iN many), .ref ap, .ref ab, .ref aw, .int (iN coins), .ref ac, .ref an, .ref a0, .ref a1, .ref a2])), (a0, .inl (T.2.1 0, 3, .inl (zA (va_up both 0 0)))), (a1, .inl (T.2.1 0, 3, .inl (zA heavy))), (a2, .inl (T.2.1 0, 3, .inl (zA light)))]) cx hrw 1 (by decide) rfl (by decide) rfl dX3_split_54 rfl ?_
  refine g_aload_n (q := 56) cx dX3_split_55 rfl rfl ?_
  refine g_get (q := 59) cx k_cX3 0 rfl 11 (by decide) q1081 (Or.inl rfl) rfl dX3_split_56 rfl ?_
  refine g_iconst (q := 60) (v := iN 0) cx dX3_split_59 rfl rfl ?_
  refine g_iload (q := 62) cx dX3_split_60 rfl rfl ?_
  refine g_iload (q := 64) cx dX3_split_62 rfl rfl ?_
  refine g_iaddZ (q := 65) cx dX3_split_64 rfl ?_
  refine g_iastZ (q := 66) (ws2 := [(mo, .inr (2, [.int (iN th), .ref am, .ref ae, .int (iN many), .ref ap, .ref ab, .ref aw, .int (iN coins), .ref ac, .ref an, .ref a0, .ref a1, .ref a2])), (a0, .inl (T.2.1 0, 3, .inl (zA (va_up both 0 0)))), (a1, .inl (T.2.1 0, 3, .inl (zA (va_up heavy 0 ((right / 100) + ((right / 10) % 10)))))), (a2, .inl (T.2.1 0, 3, .inl (zA light)))]) cx hrw 2 (by decide) rfl (by decide) rfl dX3_split_65 rfl ?_
  refine g_aload_n (q := 67) cx dX3_split_66 rfl rfl ?_
  refine g_get (q := 70) cx k_cX3 0 rfl 12 (by decide) q1082 (Or.inl rfl) rfl dX3_split_67 rfl ?_
  refine g_iconst (q := 71) (v := iN 0) cx dX3_split_70 rfl rfl ?_
  refine g_iload (q := 73) cx dX3_split_71 rfl rfl ?_
  refine g_iload (q := 75) cx dX3_split_73 rfl rfl ?_
  refine g_iaddZ (q := 76) cx dX3_split_75 rfl ?_
  refine g_iastZ (q := 77) (ws2 := [(mo, .inr (2, [.int (iN th), .ref am, .ref ae, .int (iN many), .ref ap, .ref ab, .ref aw, .int (iN coins), .ref ac, .ref an, .ref a0, .ref a1, .ref a2])), (a0, .inl (T.2.1 0, 3, .inl (zA (va_up both 0 0)))), (a1, .inl (T.2.1 0, 3, .inl (zA (va_up heavy 0 ((right / 100) + ((right / 10) % 10)))))), (a2, .inl (T.2.1 0, 3, .inl (zA (va_up light 0 ((left / 100) + (left % 10))))))]) cx hrw 3 (by decide) rfl (by decide) rfl dX3_split_76 rfl ?_
  refine g_aload_n (q := 78) cx dX3_split_77 rfl rfl ?_
  refine g_get (q := 81) cx k_cX3 0 rfl 10 (by decide) q1080 (Or.inl rfl) rfl dX3_split_78 rfl ?_
  refine g_iconst (q := 82) (v := iN 1) cx dX3_split_81 rfl rfl ?_
  refine g_iload_n (q := 83) cx dX3_split_82 rfl rfl ?_
  refine g_iload (q := 85) cx dX3_split_83 rfl rfl ?_
  refine g_isubZ (q := 86) cx dX3_split_85 rfl ?_
  refine g_iload (q := 88) cx dX3_split_86 rfl rfl ?_
  refine g_isubZ (q := 89) cx dX3_split_88 rfl ?_
  refine g_iastZ (q := 90) (ws2 := [(mo, .inr (2, [.int (iN th), .ref am, .ref ae, .int (iN many), .ref ap, .ref ab, .ref aw, .int (iN coins), .ref ac, .ref an, .ref a0, .ref a1, .ref a2])), (a0, .inl (T.2.1 0, 3, .inl (zA (va_up (va_up both 0 0) 1 ((bb - (left / 100)) - (right / 100)))))), (a1, .inl (T.2.1 0, 3, .inl (zA (va_up heavy 0 ((right / 100) + ((right / 10) % 10)))))), (a2, .inl (T.2.1 0, 3, .inl (zA (va_up light 0 ((left / 100) + (left % 10))))))]) cx hrw 1 (by decide) rfl (by decide) rfl dX3_split_89 rfl ?_
  refine g_aload_n (q := 91) cx dX3_split_90 rfl rfl ?_
  refine g_get (q := 94) cx k_cX3 0 rfl 11 (by decide) q1081 (Or.inl rfl) rfl dX3_split_91 rfl ?_
  refine g_iconst (q := 95) (v := iN 1) cx dX3_split_94 rfl rfl ?_
  refine g_iload_n (q := 96) cx dX3_split_95 rfl rfl ?_
  refine g_iload (q := 98) cx dX3_split_96 rfl rfl ?_
  refine g_isubZ (q := 99) cx dX3_split_98 rfl ?_
  refine g_iload (q := 101) cx dX3_split_99 rfl rfl ?_
  refine g_isubZ (q := 102) cx dX3_split_101 rfl ?_
  refine g_iastZ (q := 103) (ws2 := [(mo, .inr (2, [.int (iN th), .ref am, .ref ae, .int (iN many), .ref ap, .ref ab, .ref aw, .int (iN coins), .ref ac, .ref an, .ref a0, .ref a1, .ref a2])), (a0, .inl (T.2.1 0, 3, .inl (zA (va_up (va_up both 0 0) 1 ((bb - (left / 100)) - (right / 100)))))), (a1, .inl (T.2.1 0, 3, .inl (zA (va_up (va_up heavy 0 ((right / 100) + ((right / 10) % 10))) 1 ((hh - ((left / 10) % 10)) - ((right / 10) % 10)))))), (a2, .inl (T.2.1 0, 3, .inl (zA (va_up light 0 ((left / 100) + (left % 10))))))]) cx hrw 2 (by decide) rfl (by decide) rfl dX3_split_102 rfl ?_
  refine g_aload_n (q := 104) cx dX3_split_103 rfl rfl ?_
  refine g_get (q := 107) cx k_cX3 0 rfl 12 (by decide) q1082 (Or.inl rfl) rfl dX3_split_104 rfl ?_
  refine g_iconst (q := 108) (v := iN 1) cx dX3_split_107 rfl rfl ?_
  refine g_iload_n (q := 109) cx dX3_split_108 rfl rfl ?_
  refine g_iload (q := 111) cx dX3_split_109 rfl rfl ?_
  refine g_isubZ (q := 112) cx dX3_split_111 rfl ?_
  refine g_iload (q := 114) cx dX3_split_112 rfl rfl ?_
  refine g_isubZ (q := 115) cx dX3_split_114 rfl ?_
  refine g_iastZ (q := 116) (ws2 := [(mo, .inr (2, [.int (iN th), .ref am, .ref ae, .int (iN many), .ref ap, .ref ab, .ref aw, .int (iN coins), .ref ac, .ref an, .ref a0, .ref a1, .ref a2])), (a0, .inl (T.2.1 0, 3, .inl (zA (va_up (va_up both 0 0) 1 ((bb - (left / 100)) - (right / 100)))))), (a1, .inl (T.2.1 0, 3, .inl (zA (va_up (va_up heavy 0 ((right / 100) + ((right / 10) % 10))) 1 ((hh - ((left / 10) % 10)) - ((right / 10) % 10)))))), (a2, .inl (T.2.1 0, 3, .inl (zA (va_up (va_up light 0 ((left / 100) + (left % 10))) 1 ((ll - (left % 10)) - (right % 10))))))]) cx hrw 3 (by decide) rfl (by decide) rfl dX3_split_115 rfl ?_
  refine g_aload_n (q := 117) cx dX3_split_116 rfl rfl ?_
  refine g_get (q := 120) cx k_cX3 0 rfl 10 (by decide) q1080 (Or.inl rfl) rfl dX3_split_117 rfl ?_
  refine g_iconst (q := 121) (v := iN 2) cx dX3_split_120 rfl rfl ?_
  refine g_iconst (q := 122) (v := iN 0) cx dX3_split_121 rfl rfl ?_
  refine g_iastZ (q := 123) (ws2 := [(mo, .inr (2, [.int (iN th), .ref am, .ref ae, .int (iN many), .ref ap, .ref ab, .ref aw, .int (iN coins), .ref ac, .ref an, .ref a0, .ref a1, .ref a2])), (a0, .inl (T.2.1 0, 3, .inl (zA (va_up (va_up (va_up both 0 0) 1 ((bb - (left / 100)) - (right / 100))) 2 0)))), (a1, .inl (T.2.1 0, 3, .inl (zA (va_up (va_up heavy 0 ((right / 100) + ((right / 10) % 10))) 1 ((hh - ((left / 10) % 10)) - ((right / 10) % 10)))))), (a2, .inl (T.2.1 0, 3, .inl (zA (va_up (va_up light 0 ((left / 100) + (left % 10))) 1 ((ll - (left % 10)) - (right % 10))))))]) cx hrw 1 (by decide) rfl (by decide) rfl dX3_split_122 rfl ?_
  refine g_aload_n (q := 124) cx dX3_split_123 rfl rfl ?_
  refine g_get (q := 127) cx k_cX3 0 rfl 11 (by decide) q1081 (Or.inl rfl) rfl dX3_split_124 rfl ?_
  refine g_iconst (q := 128) (v := iN 2) cx dX3_split_127 rfl rfl ?_
  refine g_iload (q := 130) cx dX3_split_128 rfl rfl ?_
  refine g_iload (q := 132) cx dX3_split_130 rfl rfl ?_
  refine g_iaddZ (q := 133) cx dX3_split_132 rfl ?_
  refine g_iastZ (q := 134) (ws2 := [(mo, .inr (2, [.int (iN th), .ref am, .ref ae, .int (iN many), .ref ap, .ref ab, .ref aw, .int (iN coins), .ref ac, .ref an, .ref a0, .ref a1, .ref a2])), (a0, .inl (T.2.1 0, 3, .inl (zA (va_up (va_up (va_up both 0 0) 1 ((bb - (left / 100)) - (right / 100))) 2 0)))), (a1, .inl (T.2.1 0, 3, .inl (zA (va_up (va_up (va_up heavy 0 ((right / 100) + ((right / 10) % 10))) 1 ((hh - ((left / 10) % 10)) - ((right / 10) % 10))) 2 ((left / 100) + ((left / 10) % 10)))))), (a2, .inl (T.2.1 0, 3, .inl (zA (va_up (va_up light 0 ((left / 100) + (left % 10))) 1 ((ll - (left % 10)) - (right % 10))))))]) cx hrw 2 (by decide) rfl (by decide) rfl dX3_split_133 rfl ?_
  refine g_aload_n (q := 135) cx dX3_split_134 rfl rfl ?_
  refine g_get (q := 138) cx k_cX3 0 rfl 12 (by decide) q1082 (Or.inl rfl) rfl dX3_split_135 rfl ?_
  refine g_iconst (q := 139) (v := iN 2) cx dX3_split_138 rfl rfl ?_
  refine g_iload (q := 141) cx dX3_split_139 rfl rfl ?_
  refine g_iload (q := 143) cx dX3_split_141 rfl rfl ?_
  refine g_iaddZ (q := 144) cx dX3_split_143 rfl ?_
  refine g_iastZ (q := 145) (ws2 := [(mo, .inr (2, [.int (iN th), .ref am, .ref ae, .int (iN many), .ref ap, .ref ab, .ref aw, .int (iN coins), .ref ac, .ref an, .ref a0, .ref a1, .ref a2])), (a0, .inl (T.2.1 0, 3, .inl (zA (va_up (va_up (va_up both 0 0) 1 ((bb - (left / 100)) - (right / 100))) 2 0)))), (a1, .inl (T.2.1 0, 3, .inl (zA (va_up (va_up (va_up heavy 0 ((right / 100) + ((right / 10) % 10))) 1 ((hh - ((left / 10) % 10)) - ((right / 10) % 10))) 2 ((left / 100) + ((left / 10) % 10)))))), (a2, .inl (T.2.1 0, 3, .inl (zA (va_up (va_up (va_up light 0 ((left / 100) + (left % 10))) 1 ((ll - (left % 10)) - (right % 10))) 2 ((right / 100) + (right % 10))))))]) cx hrw 3 (by decide) rfl (by decide) rfl dX3_split_144 rfl ?_
  exact g_vretW cx hr ⟨(va_up (va_up (va_up both 0 0) 1 ((bb - (left / 100)) - (right / 100))) 2 0), (va_up (va_up (va_up heavy 0 ((right / 100) + ((right / 10) % 10))) 1 ((hh - ((left / 10) % 10)) - ((right / 10) % 10))) 2 ((left / 100) + ((left / 10) % 10))), (va_up (va_up (va_up light 0 ((left / 100) + (left % 10))) 1 ((ll - (left % 10)) - (right % 10))) 2 ((right / 100) + (right % 10))), rfl, rfl, vc⟩ (by first | exact Nat.le_of_ble_eq_true rfl | omega) (by first | exact Nat.le_of_ble_eq_true rfl | omega) dX3_split_145

theorem k_X3_split (l : Launch) (hlt : l.stackTraces = false) (T : GT) (mo : Nat) (am : Nat) (ae : Nat) (ap : Nat) (ab : Nat) (aw : Nat) (ac : Nat) (an : Nat) (a0 : Nat) (a1 : Nat) (a2 : Nat) (th : Int) (many : Int) (coins : Int) (both : Nat → Int) (heavy : Nat → Int) (light : Nat → Int) (bb : Int) (hh : Int) (ll : Int) (left : Int) (right : Int) (hp0 : 0 ≤ left ∧ left < 1000) (hp1 : 0 ≤ right ∧ right < 1000) : MW l T yX3_split cX3_split 12 none ({ frames := 0, cells := 0, slots := 0, locals := 0 }) [.ref mo, .int (iN bb), .int (iN hh), .int (iN ll), .int (iN left), .int (iN right)] [(mo, .inr (2, [.int (iN th), .ref am, .ref ae, .int (iN many), .ref ap, .ref ab, .ref aw, .int (iN coins), .ref ac, .ref an, .ref a0, .ref a1, .ref a2])), (a0, .inl (T.2.1 0, 3, .inl (zA both))), (a1, .inl (T.2.1 0, 3, .inl (zA heavy))), (a2, .inl (T.2.1 0, 3, .inl (zA light)))] (fun v_ wn_ => ∃ (both2 : Nat → Int), ∃ (heavy2 : Nat → Int), ∃ (light2 : Nat → Int), v_ = none ∧ wn_ = [(mo, .inr (2, [.int (iN th), .ref am, .ref ae, .int (iN many), .ref ap, .ref ab, .ref aw, .int (iN coins), .ref ac, .ref an, .ref a0, .ref a1, .ref a2])), (a0, .inl (T.2.1 0, 3, .inl (zA both2))), (a1, .inl (T.2.1 0, 3, .inl (zA heavy2))), (a2, .inl (T.2.1 0, 3, .inl (zA light2)))] ∧ both2 = (spB bb left right both) ∧ heavy2 = (spH hh left right heavy) ∧ light2 = (spL ll left right light)) 0 0 := by
  exact w_X3_split l hlt T mo am ae ap ab aw ac an a0 a1 a2 th many coins both heavy light bb hh ll left right _ ⟨by omega, by omega, by omega, by omega, by omega, by omega, by omega, by omega, rfl, rfl, rfl⟩

set_option maxRecDepth 100000 in
set_option maxHeartbeats 4000000 in
theorem w_X3_sum (l : Launch) (hlt : l.stackTraces = false) (T : GT) (kinds : Int)  (post : Int → Prop) (v0_ : (0 ≤ kinds ∧ kinds < 2147483648) ∧ ((0 ≤ kinds ∧ kinds < 2147483648) ∧ ((0 ≤ (kinds / 10) ∧ (kinds / 10) < 2147483648) ∧ ((0 ≤ kinds ∧ kinds < 2147483648) ∧ (post (((kinds / 100) + ((kinds / 10) % 10)) + (kinds % 10)))))))  : MR l T yX3_sum cX3_sum 1 (some .int) ({ frames := 0, cells := 0, slots := 0, locals := 0 }) [.int (iN kinds)] [] (fun v_ => ∃ (r : Int), v_ = some (.int (iN r)) ∧ post r) := by
  refine MR.start hlt (by decide) (lv0 := [some (.int (iN kinds))]) rfl (Nat.le_of_ble_eq_true rfl) rfl ?_
  intro p e R s m args below meth c cx hr hST
  have vc := v0_
  refine g_iload_n (q := 1) cx dX3_sum_0 rfl rfl ?_
  refine g_bipush (q := 3) (v := iN 100) cx dX3_sum_1 (by decide) rfl ?_
  refine g_idivZ (q := 4) cx vc.1 (by decide) dX3_sum_3 rfl ?_
  have vc := vc.2
  refine g_iload_n (q := 5) cx dX3_sum_4 rfl rfl ?_
  refine g_bipush (q := 7) (v := iN 10) cx dX3_sum_5 (by decide) rfl ?_
  refine g_idivZ (q := 8) cx vc.1 (by decide) dX3_sum_7 rfl ?_
  have vc := vc.2
  refine g_bipush (q := 10) (v := iN 10) cx dX3_sum_8 (by decide) rfl ?_
  refine g_iremZ (q := 11) cx vc.1 (by decide) dX3_sum_10 rfl ?_
  have vc := vc.2
  refine g_iaddZ (q := 12) cx dX3_sum_11 rfl ?_
  refine g_iload_n (q := 13) cx dX3_sum_12 rfl rfl ?_
  refine g_bipush (q := 15) (v := iN 10) cx dX3_sum_13 (by decide) rfl ?_
  refine g_iremZ (q := 16) cx vc.1 (by decide) dX3_sum_15 rfl ?_
  have vc := vc.2
  refine g_iaddZ (q := 17) cx dX3_sum_16 rfl ?_
  exact g_iretR cx hr rfl ⟨(((kinds / 100) + ((kinds / 10) % 10)) + (kinds % 10)), rfl, vc⟩ dX3_sum_17

theorem k_X3_sum (l : Launch) (hlt : l.stackTraces = false) (T : GT) (kinds : Int) (hp0 : 0 ≤ kinds ∧ kinds < 1000) : MR l T yX3_sum cX3_sum 1 (some .int) ({ frames := 0, cells := 0, slots := 0, locals := 0 }) [.int (iN kinds)] [] (fun v_ => ∃ (r : Int), v_ = some (.int (iN r)) ∧ r = ((dsum kinds.toNat : Nat) : Int)) := by
  exact w_X3_sum l hlt T kinds _ ⟨by omega, by omega, by omega, by omega, by unfold dsum; omega⟩

set_option maxRecDepth 100000 in
set_option maxHeartbeats 4000000 in
theorem w_X3_fits (l : Launch) (hlt : l.stackTraces = false) (T : GT) (kinds : Int) (bb : Int) (hh : Int) (ll : Int)  (post : Bool → Prop) (v0_ : (0 ≤ kinds ∧ kinds < 2147483648) ∧ ((-2147483648 ≤ (kinds / 100) ∧ (kinds / 100) < 2147483648) ∧ ((-2147483648 ≤ bb ∧ bb < 2147483648) ∧ ((bb < (kinds / 100) → (post false)) ∧ ((kinds / 100) ≤ bb → ((0 ≤ kinds ∧ kinds < 2147483648) ∧ ((0 ≤ (kinds / 10) ∧ (kinds / 10) < 2147483648) ∧ ((-2147483648 ≤ ((kinds / 10) % 10) ∧ ((kinds / 10) % 10) < 2147483648) ∧ ((-2147483648 ≤ hh ∧ hh < 2147483648) ∧ ((hh < ((kinds / 10) % 10) → (post false)) ∧ (((kinds / 10) % 10) ≤ hh → ((0 ≤ kinds ∧ kinds < 2147483648) ∧ ((-2147483648 ≤ (kinds % 10) ∧ (kinds % 10) < 2147483648) ∧ ((-2147483648 ≤ ll ∧ ll < 2147483648) ∧ ((ll < (kinds % 10) → (post false)) ∧ ((kinds % 10) ≤ ll → (post true)))))))))))))))))  : MR l T yX3_fits cX3_fits 4 (some .boolean) ({ frames := 0, cells := 0, slots := 0, locals := 0 }) [.int (iN kinds), .int (iN bb), .int (iN hh), .int (iN ll)] [] (fun v_ => ∃ (b2 : Bool), v_ = some (.int (bI b2)) ∧ post b2) := by
  refine MR.start hlt (by decide) (lv0 := [some (.int (iN kinds)), some (.int (iN bb)), some (.int (iN hh)), some (.int (iN ll))]) rfl (Nat.le_of_ble_eq_true rfl) rfl ?_
  intro p e R s m args below meth c cx hr hST
  have vc := v0_
  refine g_iload_n (q := 1) cx dX3_fits_0 rfl rfl ?_
  refine g_bipush (q := 3) (v := iN 100) cx dX3_fits_1 (by decide) rfl ?_
  refine g_idivZ (q := 4) cx vc.1 (by decide) dX3_fits_3 rfl ?_
  have vc := vc.2
  refine g_iload_n (q := 5) cx dX3_fits_4 rfl rfl ?_
  refine g_icmp_gtZ (q := 8) (tg := 31) cx vc.1 vc.2.1 dX3_fits_5 (by decide) rfl (fun h_1 => ?_) (fun h_1 => ?_)
  · have vc := vc.2.2.1 h_1
    refine g_iconst (q := 32) (v := iN 0) cx dX3_fits_31 rfl rfl ?_
    exact g_iretR cx hr (by decide) ⟨false, rfl, vc⟩ dX3_fits_32
  · have vc := vc.2.2.2 h_1
    refine g_iload_n (q := 9) cx dX3_fits_8 rfl rfl ?_
    refine g_bipush (q := 11) (v := iN 10) cx dX3_fits_9 (by decide) rfl ?_
    refine g_idivZ (q := 12) cx vc.1 (by decide) dX3_fits_11 rfl ?_
    have vc := vc.2
    refine g_bipush (q := 14) (v := iN 10) cx dX3_fits_12 (by decide) rfl ?_
    refine g_iremZ (q := 15) cx vc.1 (by decide) dX3_fits_14 rfl ?_
    have vc := vc.2
    refine g_iload_n (q := 16) cx dX3_fits_15 rfl rfl ?_
    refine g_icmp_gtZ (q := 19) (tg := 31) cx vc.1 vc.2.1 dX3_fits_16 (by decide) rfl (fun h_2 => ?_) (fun h_2 => ?_)
    · have vc := vc.2.2.1 h_2
      refine g_iconst (q := 32) (v := iN 0) cx dX3_fits_31 rfl rfl ?_
      exact g_iretR cx hr (by decide) ⟨false, rfl, vc⟩ dX3_fits_32
    · have vc := vc.2.2.2 h_2
      refine g_iload_n (q := 20) cx dX3_fits_19 rfl rfl ?_
      refine g_bipush (q := 22) (v := iN 10) cx dX3_fits_20 (by decide) rfl ?_
      refine g_iremZ (q := 23) cx vc.1 (by decide) dX3_fits_22 rfl ?_
      have vc := vc.2
      refine g_iload_n (q := 24) cx dX3_fits_23 rfl rfl ?_
      refine g_icmp_gtZ (q := 27) (tg := 31) cx vc.1 vc.2.1 dX3_fits_24 (by decide) rfl (fun h_3 => ?_) (fun h_3 => ?_)
      · have vc := vc.2.2.1 h_3
        refine g_iconst (q := 32) (v := iN 0) cx dX3_fits_31 rfl rfl ?_
        exact g_iretR cx hr (by decide) ⟨false, rfl, vc⟩ dX3_fits_32
      · have vc := vc.2.2.2 h_3
        refine g_iconst (q := 28) (v := iN 1) cx dX3_fits_27 rfl rfl ?_
        refine g_goto (q := 32) cx dX3_fits_28 (by decide) ?_
        exact g_iretR cx hr (by decide) ⟨true, rfl, vc⟩ dX3_fits_32

theorem k_X3_fits (l : Launch) (hlt : l.stackTraces = false) (T : GT) (kinds : Int) (bb : Int) (hh : Int) (ll : Int) (hp0 : 0 ≤ kinds ∧ kinds < 1000) (hp1 : 0 ≤ bb ∧ bb ≤ 9) (hp2 : 0 ≤ hh ∧ hh ≤ 9) (hp3 : 0 ≤ ll ∧ ll ≤ 9) : MR l T yX3_fits cX3_fits 4 (some .boolean) ({ frames := 0, cells := 0, slots := 0, locals := 0 }) [.int (iN kinds), .int (iN bb), .int (iN hh), .int (iN ll)] [] (fun v_ => ∃ (b2 : Bool), v_ = some (.int (bI b2)) ∧ b2 = (fitsN kinds.toNat bb.toNat hh.toNat ll.toNat)) := by
  refine w_X3_fits l hlt T kinds bb hh ll _ ?_
  unfold fitsN
  refine ⟨by omega, by omega, by omega, fun h1 => ?_, fun h1 => ⟨by omega, by omega, by omega, by omega, fun h2 => ?_, fun h2 => ⟨by omega, by omega, by omega, fun h3 => ?_, fun h3 => ?_⟩⟩⟩
  · rw [decide_eq_false (by omega)]
  · rw [decide_eq_false (by omega)]
  · rw [decide_eq_false (by omega)]
  · rw [decide_eq_true (by omega)]
