set_option maxRecDepth 100000 in
set_option maxHeartbeats 4000000 in
theorem w_J2_grow_2 (l : Launch) (hlt : l.stackTraces = false) (T : GT) (al : Nat) (mcn : Int32)  (post : Nat → Prop) (v0_ : ∀ (a_1 : Nat), post a_1)  : MW l T yJ2_grow_2 cJ2_grow_2 4 (some (.array (.object "java/lang/Object"))) ({ frames := 1, cells := 1, slots := 10, locals := 30 }) [.ref al, .int (iN 1)] [(al, .inr (4, [.int mcn, .ref (T.2.2 0), .int (iN 0)]))] (fun v_ wn_ => ∃ (da : Nat), v_ = some (.ref da) ∧ wn_ = [(al, .inr (4, [.int mcn, .ref da, .int (iN 0)])), (da, .inl (T.2.1 5, 10, .inr (.inr (.inr (.inr (fun _ => none))))))] ∧ post da) 1 10 := by
  refine MW.start hlt (by decide) (lv0 := [some (.ref al), some (.int (iN 1)), none, none]) rfl (Nat.le_of_ble_eq_true rfl) rfl ?_
  intro p e R s m args below meth c A cx hr hnm hST hrw
  have vc := v0_
  refine g_aload_n (q := 1) cx dJ2_grow_2_0 rfl rfl ?_
  refine g_get (q := 4) cx k_cJ2 0 rfl 1 (by decide) q103 (Or.inl rfl) rfl dJ2_grow_2_1 rfl ?_
  refine g_alenE (q := 5) cx hST dJ2_grow_2_4 rfl ?_
  refine g_istore_n (q := 6) (lv2 := [some (.ref al), some (.int (iN 1)), some (.int (iN 0)), none]) cx dJ2_grow_2_5 rfl (by decide) rfl rfl ?_
  refine g_iload_n (q := 7) cx dJ2_grow_2_6 rfl rfl ?_
  refine g_if_gt (q := 10) (tg := 20) cx dJ2_grow_2_7 (by decide) rfl (fun h => absurd h (by decide)) (fun _ => ?_)
  refine g_aload_n (q := 11) cx dJ2_grow_2_10 rfl rfl ?_
  refine g_get (q := 14) cx k_cJ2 0 rfl 1 (by decide) q103 (Or.inl rfl) rfl dJ2_grow_2_11 rfl ?_
  refine g_getsE (q := 17) cx hST q101 dJ2_grow_2_14 rfl ?_
  refine g_acmp_eqT (tg := 45) cx dJ2_grow_2_17 (by decide) ?_
  refine g_aload_n (q := 46) cx dJ2_grow_2_45 rfl rfl ?_
  refine g_bipush (q := 48) (v := iN 10) cx dJ2_grow_2_46 (by decide) rfl ?_
  refine g_iload_n (q := 49) cx dJ2_grow_2_48 rfl rfl ?_
  refine g_mmax (q := 52) cx q776 (by decide) (by decide) (by decide) (Nat.le_of_ble_eq_true rfl) (Nat.le_of_ble_eq_true rfl) (Nat.le_of_ble_eq_true rfl) dJ2_grow_2_49 rfl ?_
  refine g_st (st2 := [.int (iN 10), .ref al]) rfl ?_
  refine g_anew (q := 55) cx hrw q777 (by decide) 5 rfl (by decide) (by decide) (by decide) dJ2_grow_2_52 rfl (fun a_1 => ?_)
  refine g_cs (cells2 := 1) (slots2 := 10) (ws2 := [(al, .inr (4, [.int mcn, .ref (T.2.2 0), .int (iN 0)])), (a_1, .inl (T.2.1 5, 10, .inr (.inr (.inr (.inr (fun _ => none))))))]) rfl rfl rfl ?_
  have vc := vc a_1
  refine g_dup_x1 (q := 56) cx dJ2_grow_2_55 rfl rfl rfl ?_
  refine g_put (q := 59) (ws2 := [(al, .inr (4, [.int mcn, .ref a_1, .int (iN 0)])), (a_1, .inl (T.2.1 5, 10, .inr (.inr (.inr (.inr (fun _ => none))))))]) cx hrw k_cJ2 0 rfl 1 (by decide) q103 (Or.inl rfl) rfl rfl rfl (Nat.le_of_ble_eq_true rfl) rfl dJ2_grow_2_56 rfl ?_
  exact g_aretW cx hr (Or.inr ⟨_, rfl⟩) ⟨a_1, rfl, rfl, vc⟩ (by first | exact Nat.le_of_ble_eq_true rfl | omega) (by first | exact Nat.le_of_ble_eq_true rfl | omega) dJ2_grow_2_59

theorem k_J2_grow_2 (l : Launch) (hlt : l.stackTraces = false) (T : GT) (al : Nat) (mcn : Int32)  : MW l T yJ2_grow_2 cJ2_grow_2 4 (some (.array (.object "java/lang/Object"))) ({ frames := 1, cells := 1, slots := 10, locals := 30 }) [.ref al, .int (iN 1)] [(al, .inr (4, [.int mcn, .ref (T.2.2 0), .int (iN 0)]))] (fun v_ wn_ => ∃ (da : Nat), v_ = some (.ref da) ∧ wn_ = [(al, .inr (4, [.int mcn, .ref da, .int (iN 0)])), (da, .inl (T.2.1 5, 10, .inr (.inr (.inr (.inr (fun _ => none))))))] ∧ True) 1 10 := by
  exact w_J2_grow_2 l hlt T al mcn _ (fun _ => trivial)

set_option maxRecDepth 100000 in
set_option maxHeartbeats 4000000 in
theorem w_J2_grow (l : Launch) (hlt : l.stackTraces = false) (T : GT) (al : Nat) (mcn : Int32)  (post : Nat → Prop) (v0_ : ∀ (da_1 : Nat), post da_1)  : MW l T yJ2_grow cJ2_grow 1 (some (.array (.object "java/lang/Object"))) ({ frames := 2, cells := 1, slots := 10, locals := 53 }) [.ref al] [(al, .inr (4, [.int mcn, .ref (T.2.2 0), .int (iN 0)]))] (fun v_ wn_ => ∃ (da : Nat), v_ = some (.ref da) ∧ wn_ = [(al, .inr (4, [.int mcn, .ref da, .int (iN 0)])), (da, .inl (T.2.1 5, 10, .inr (.inr (.inr (.inr (fun _ => none))))))] ∧ post da) 1 10 := by
  refine MW.start hlt (by decide) (lv0 := [some (.ref al)]) rfl (Nat.le_of_ble_eq_true rfl) rfl ?_
  intro p e R s m args below meth c A cx hr hnm hST hrw
  have vc := v0_
  refine g_aload_n (q := 1) cx dJ2_grow_0 rfl rfl ?_
  refine g_aload_n (q := 2) cx dJ2_grow_1 rfl rfl ?_
  refine g_get (q := 5) cx k_cJ2 0 rfl 2 (by decide) q106 (Or.inl rfl) rfl dJ2_grow_2 rfl ?_
  refine g_iconst (q := 6) (v := iN 1) cx dJ2_grow_5 rfl rfl ?_
  refine g_iaddZ (q := 7) cx dJ2_grow_6 rfl ?_
  refine g_st (st2 := [.int (iN 1), .ref al]) rfl ?_
  refine g_cVw (q := 10) (b := al) (As := [.int (iN 1)]) (wr := []) (st := []) cx hST hrw (k_J2_grow_2 l hlt T al mcn) q745 s_J2_grow_2 rfl 0 rfl rfl g_perm1 (g_rmB rfl) (Nat.le_of_ble_eq_true rfl) dJ2_grow_7 rfl (fun v_ wn_ hv_ => ?_)
  obtain ⟨da_1, rfl, rfl, e_2⟩ := hv_
  refine g_cs (cells2 := 1) (slots2 := 10) (ws2 := [(al, .inr (4, [.int mcn, .ref da_1, .int (iN 0)])), (da_1, .inl (T.2.1 5, 10, .inr (.inr (.inr (.inr (fun _ => none))))))]) rfl rfl rfl ?_
  refine g_st (st2 := [.ref da_1]) rfl ?_
  have vc := vc da_1 
  exact g_aretW cx hr (Or.inr ⟨_, rfl⟩) ⟨da_1, rfl, rfl, vc⟩ (by first | exact Nat.le_of_ble_eq_true rfl | omega) (by first | exact Nat.le_of_ble_eq_true rfl | omega) dJ2_grow_10

theorem k_J2_grow (l : Launch) (hlt : l.stackTraces = false) (T : GT) (al : Nat) (mcn : Int32)  : MW l T yJ2_grow cJ2_grow 1 (some (.array (.object "java/lang/Object"))) ({ frames := 2, cells := 1, slots := 10, locals := 53 }) [.ref al] [(al, .inr (4, [.int mcn, .ref (T.2.2 0), .int (iN 0)]))] (fun v_ wn_ => ∃ (da : Nat), v_ = some (.ref da) ∧ wn_ = [(al, .inr (4, [.int mcn, .ref da, .int (iN 0)])), (da, .inl (T.2.1 5, 10, .inr (.inr (.inr (.inr (fun _ => none))))))] ∧ True) 1 10 := by
  exact w_J2_grow l hlt T al mcn _ (fun _ => trivial)

set_option maxRecDepth 100000 in
set_option maxHeartbeats 4000000 in
theorem w_J2_add_2e (l : Launch) (hlt : l.stackTraces = false) (T : GT) (al : Nat) (mcn : Int32) (wt : Nat) (ms : Int) (es : Int)  (post : Nat → Prop) (v0_ : ∀ (da_1 : Nat), post da_1)  : MW l T yJ2_add_2 cJ2_add_2 4 none ({ frames := 3, cells := 1, slots := 10, locals := 73 }) [.ref al, .ref wt, .ref (T.2.2 0), .int (iN 0)] [(al, .inr (4, [.int mcn, .ref (T.2.2 0), .int (iN 0)])), (wt, .inr (3, [.int (iN ms), .int (iN es)]))] (fun v_ wn_ => ∃ (da : Nat), v_ = none ∧ wn_ = [(al, .inr (4, [.int mcn, .ref da, .int (iN 1)])), (wt, .inr (3, [.int (iN ms), .int (iN es)])), (da, .inl (T.2.1 5, 10, .inr (.inr (.inr (.inr (va_up (fun _ => none) 0 (some wt)))))))] ∧ post da) 1 10 := by
  refine MW.start hlt (by decide) (lv0 := [some (.ref al), some (.ref wt), some (.ref (T.2.2 0)), some (.int (iN 0))]) rfl (Nat.le_of_ble_eq_true rfl) rfl ?_
  intro p e R s m args below meth c A cx hr hnm hST hrw
  have vc := v0_
  refine g_iload_n (q := 1) cx dJ2_add_2_0 rfl rfl ?_
  refine g_aload_n (q := 2) cx dJ2_add_2_1 rfl rfl ?_
  refine g_alenE (q := 3) cx hST dJ2_add_2_2 rfl ?_
  refine g_icmp_ne (q := 6) (tg := 11) cx dJ2_add_2_3 (by decide) rfl (fun h => absurd h (by decide)) (fun _ => ?_)
  refine g_aload_n (q := 7) cx dJ2_add_2_6 rfl rfl ?_
  refine g_cVw (q := 10) (b := al) (As := []) (wr := [(wt, .inr (3, [.int (iN ms), .int (iN es)]))]) (st := []) cx hST hrw (k_J2_grow l hlt T al mcn) q741 s_J2_grow rfl 0 rfl rfl (g_perm [1, 0] rfl rfl) (g_rmB rfl) (Nat.le_of_ble_eq_true rfl) dJ2_add_2_7 rfl (fun v_ wn_ hv_ => ?_)
  obtain ⟨da_1, rfl, rfl, e_2⟩ := hv_
  refine g_wp (ws2 := [(al, .inr (4, [.int mcn, .ref da_1, .int (iN 0)])), (wt, .inr (3, [.int (iN ms), .int (iN es)])), (da_1, .inl (T.2.1 5, 10, .inr (.inr (.inr (.inr (fun _ => none))))))]) (g_perm [1, 0, 2] rfl rfl) ?_
  refine g_cs (cells2 := 1) (slots2 := 10) (ws2 := [(al, .inr (4, [.int mcn, .ref da_1, .int (iN 0)])), (wt, .inr (3, [.int (iN ms), .int (iN es)])), (da_1, .inl (T.2.1 5, 10, .inr (.inr (.inr (.inr (fun _ => none))))))]) rfl rfl rfl ?_
  refine g_st (st2 := [.ref da_1]) rfl ?_
  have vc := vc da_1 
  refine g_astore_n (q := 11) (lv2 := [some (.ref al), some (.ref wt), some (.ref da_1), some (.int (iN 0))]) cx dJ2_add_2_10 rfl (by decide) rfl rfl ?_
  refine g_aload_n (q := 12) cx dJ2_add_2_11 rfl rfl ?_
  refine g_iload_n (q := 13) cx dJ2_add_2_12 rfl rfl ?_
  refine g_aload_n (q := 14) cx dJ2_add_2_13 rfl rfl ?_
  refine g_aastO (q := 15) (ws2 := [(al, .inr (4, [.int mcn, .ref da_1, .int (iN 0)])), (wt, .inr (3, [.int (iN ms), .int (iN es)])), (da_1, .inl (T.2.1 5, 10, .inr (.inr (.inr (.inr (va_up (fun _ => none) 0 (some wt)))))))]) cx hrw 2 5 3 (by decide) rfl rfl q1327 (List.mem_of_getElem? (i := 1) rfl) rfl (by decide) rfl dJ2_add_2_14 rfl ?_
  refine g_aload_n (q := 16) cx dJ2_add_2_15 rfl rfl ?_
  refine g_iload_n (q := 17) cx dJ2_add_2_16 rfl rfl ?_
  refine g_iconst (q := 18) (v := iN 1) cx dJ2_add_2_17 rfl rfl ?_
  refine g_iaddZ (q := 19) cx dJ2_add_2_18 rfl ?_
  refine g_st (st2 := [.int (iN 1), .ref al]) rfl ?_
  refine g_put (q := 22) (ws2 := [(al, .inr (4, [.int mcn, .ref da_1, .int (iN 1)])), (wt, .inr (3, [.int (iN ms), .int (iN es)])), (da_1, .inl (T.2.1 5, 10, .inr (.inr (.inr (.inr (va_up (fun _ => none) 0 (some wt)))))))]) cx hrw k_cJ2 0 rfl 2 (by decide) q106 (Or.inl rfl) rfl rfl rfl (Nat.le_of_ble_eq_true rfl) rfl dJ2_add_2_19 rfl ?_
  exact g_vretW cx hr ⟨da_1, rfl, rfl, vc⟩ (by first | exact Nat.le_of_ble_eq_true rfl | omega) (by first | exact Nat.le_of_ble_eq_true rfl | omega) dJ2_add_2_22

theorem k_J2_add_2e (l : Launch) (hlt : l.stackTraces = false) (T : GT) (al : Nat) (mcn : Int32) (wt : Nat) (ms : Int) (es : Int)  : MW l T yJ2_add_2 cJ2_add_2 4 none ({ frames := 3, cells := 1, slots := 10, locals := 73 }) [.ref al, .ref wt, .ref (T.2.2 0), .int (iN 0)] [(al, .inr (4, [.int mcn, .ref (T.2.2 0), .int (iN 0)])), (wt, .inr (3, [.int (iN ms), .int (iN es)]))] (fun v_ wn_ => ∃ (da : Nat), v_ = none ∧ wn_ = [(al, .inr (4, [.int mcn, .ref da, .int (iN 1)])), (wt, .inr (3, [.int (iN ms), .int (iN es)])), (da, .inl (T.2.1 5, 10, .inr (.inr (.inr (.inr (va_up (fun _ => none) 0 (some wt)))))))] ∧ True) 1 10 := by
  exact w_J2_add_2e l hlt T al mcn wt ms es _ (fun _ => trivial)

set_option maxRecDepth 100000 in
set_option maxHeartbeats 4000000 in
theorem w_J2_adde (l : Launch) (hlt : l.stackTraces = false) (T : GT) (al : Nat) (mcn : Int32) (wt : Nat) (ms : Int) (es : Int)  (post : Nat → Bool → Prop) (v0_ : ∀ (da_1 : Nat), post da_1 true)  : MW l T yJ2_add cJ2_add 2 (some .boolean) ({ frames := 4, cells := 1, slots := 10, locals := 96 }) [.ref al, .ref wt] [(al, .inr (4, [.int mcn, .ref (T.2.2 0), .int (iN 0)])), (wt, .inr (3, [.int (iN ms), .int (iN es)]))] (fun v_ wn_ => ∃ (da : Nat), ∃ (b : Bool), v_ = some (.int (bI b)) ∧ wn_ = [(al, .inr (4, [.int (mcn + (iN 1)), .ref da, .int (iN 1)])), (wt, .inr (3, [.int (iN ms), .int (iN es)])), (da, .inl (T.2.1 5, 10, .inr (.inr (.inr (.inr (va_up (fun _ => none) 0 (some wt)))))))] ∧ post da b) 1 10 := by
  refine MW.start hlt (by decide) (lv0 := [some (.ref al), some (.ref wt)]) rfl (Nat.le_of_ble_eq_true rfl) rfl ?_
  intro p e R s m args below meth c A cx hr hnm hST hrw
  have vc := v0_
  refine g_aload_n (q := 1) cx dJ2_add_0 rfl rfl ?_
  refine g_dup (q := 2) cx dJ2_add_1 rfl rfl ?_
  refine g_get (q := 5) cx k_cJ2 0 rfl 0 (by decide) q110 (Or.inr q109) rfl dJ2_add_2 rfl ?_
  refine g_iconst (q := 6) (v := iN 1) cx dJ2_add_5 rfl rfl ?_
  refine g_iadd (q := 7) cx dJ2_add_6 rfl ?_
  refine g_put (q := 10) (ws2 := [(al, .inr (4, [.int (mcn + (iN 1)), .ref (T.2.2 0), .int (iN 0)])), (wt, .inr (3, [.int (iN ms), .int (iN es)]))]) cx hrw k_cJ2 0 rfl 0 (by decide) q110 (Or.inr q109) rfl rfl rfl (Nat.le_of_ble_eq_true rfl) rfl dJ2_add_7 rfl ?_
  refine g_aload_n (q := 11) cx dJ2_add_10 rfl rfl ?_
  refine g_aload_n (q := 12) cx dJ2_add_11 rfl rfl ?_
  refine g_aload_n (q := 13) cx dJ2_add_12 rfl rfl ?_
  refine g_get (q := 16) cx k_cJ2 0 rfl 1 (by decide) q103 (Or.inl rfl) rfl dJ2_add_13 rfl ?_
  refine g_aload_n (q := 17) cx dJ2_add_16 rfl rfl ?_
  refine g_get (q := 20) cx k_cJ2 0 rfl 2 (by decide) q106 (Or.inl rfl) rfl dJ2_add_17 rfl ?_
  refine g_cVw (q := 23) (b := al) (As := [.ref wt, .ref (T.2.2 0), .int (iN 0)]) (wr := []) (st := []) cx hST hrw (k_J2_add_2e l hlt T al (mcn + (iN 1)) wt ms es) q737 s_J2_add_2 rfl 0 rfl rfl g_perm1 (g_rmB rfl) (Nat.le_of_ble_eq_true rfl) dJ2_add_20 rfl (fun v_ wn_ hv_ => ?_)
  obtain ⟨da_1, rfl, rfl, e_2⟩ := hv_
  refine g_cs (cells2 := 1) (slots2 := 10) (ws2 := [(al, .inr (4, [.int (mcn + (iN 1)), .ref da_1, .int (iN 1)])), (wt, .inr (3, [.int (iN ms), .int (iN es)])), (da_1, .inl (T.2.1 5, 10, .inr (.inr (.inr (.inr (va_up (fun _ => none) 0 (some wt)))))))]) rfl rfl rfl ?_
  refine g_st (st2 := []) rfl ?_
  have vc := vc da_1 
  refine g_iconst (q := 24) (v := iN 1) cx dJ2_add_23 rfl rfl ?_
  exact g_iretW cx hr (by decide) ⟨da_1, true, rfl, rfl, vc⟩ (by first | exact Nat.le_of_ble_eq_true rfl | omega) (by first | exact Nat.le_of_ble_eq_true rfl | omega) dJ2_add_24

theorem k_J2_adde (l : Launch) (hlt : l.stackTraces = false) (T : GT) (al : Nat) (mcn : Int32) (wt : Nat) (ms : Int) (es : Int)  : MW l T yJ2_add cJ2_add 2 (some .boolean) ({ frames := 4, cells := 1, slots := 10, locals := 96 }) [.ref al, .ref wt] [(al, .inr (4, [.int mcn, .ref (T.2.2 0), .int (iN 0)])), (wt, .inr (3, [.int (iN ms), .int (iN es)]))] (fun v_ wn_ => ∃ (da : Nat), ∃ (b : Bool), v_ = some (.int (bI b)) ∧ wn_ = [(al, .inr (4, [.int (mcn + (iN 1)), .ref da, .int (iN 1)])), (wt, .inr (3, [.int (iN ms), .int (iN es)])), (da, .inl (T.2.1 5, 10, .inr (.inr (.inr (.inr (va_up (fun _ => none) 0 (some wt)))))))] ∧ b = true) 1 10 := by
  exact w_J2_adde l hlt T al mcn wt ms es _ (fun _ => rfl)

set_option maxRecDepth 100000 in
set_option maxHeartbeats 4000000 in
theorem w_J2_add_2n (l : Launch) (hlt : l.stackTraces = false) (T : GT) (al : Nat) (da : Nat) (mcn : Int32) (size : Int) (cap : Nat) (el : Nat → Option Nat) (wt : Nat) (ms : Int) (es : Int)  (post : Prop) (v0_ : (-2147483648 ≤ size ∧ size < 2147483648) ∧ ((-2147483648 ≤ ((cap : Nat) : Int) ∧ ((cap : Nat) : Int) < 2147483648) ∧ ((¬ size = ((cap : Nat) : Int) → ((cap < 2147483648) ∧ ((0 ≤ size ∧ size < cap) ∧ (post)))) ∧ (size = ((cap : Nat) : Int) → (False)))))  : MW l T yJ2_add_2 cJ2_add_2 4 none ({ frames := 0, cells := 0, slots := 0, locals := 0 }) [.ref al, .ref wt, .ref da, .int (iN size)] [(al, .inr (4, [.int mcn, .ref da, .int (iN size)])), (wt, .inr (3, [.int (iN ms), .int (iN es)])), (da, .inl (T.2.1 5, cap, .inr (.inr (.inr (.inr el)))))] (fun v_ wn_ => v_ = none ∧ wn_ = [(al, .inr (4, [.int mcn, .ref da, .int (iN (size + 1))])), (wt, .inr (3, [.int (iN ms), .int (iN es)])), (da, .inl (T.2.1 5, cap, .inr (.inr (.inr (.inr (va_up el size.toNat (some wt)))))))] ∧ post) 0 0 := by
  refine MW.start hlt (by decide) (lv0 := [some (.ref al), some (.ref wt), some (.ref da), some (.int (iN size))]) rfl (Nat.le_of_ble_eq_true rfl) rfl ?_
  intro p e R s m args below meth c A cx hr hnm hST hrw
  have vc := v0_
  refine g_iload_n (q := 1) cx dJ2_add_2_0 rfl rfl ?_
  refine g_aload_n (q := 2) cx dJ2_add_2_1 rfl rfl ?_
  refine g_alenZ (q := 3) cx 2 5 rfl rfl dJ2_add_2_2 rfl ?_
  refine g_st (st2 := [.int (iN ((cap : Nat) : Int)), .int (iN size)]) rfl ?_
  refine g_icmp_neZ (q := 6) (tg := 11) cx vc.1 vc.2.1 dJ2_add_2_3 (by decide) rfl (fun h_1 => ?_) (fun h_1 => ?_)
  · have vc := vc.2.2.1 h_1
    refine g_aload_n (q := 12) cx dJ2_add_2_11 rfl rfl ?_
    refine g_iload_n (q := 13) cx dJ2_add_2_12 rfl rfl ?_
    refine g_aload_n (q := 14) cx dJ2_add_2_13 rfl rfl ?_
    refine g_aastO (q := 15) (ws2 := [(al, .inr (4, [.int mcn, .ref da, .int (iN size)])), (wt, .inr (3, [.int (iN ms), .int (iN es)])), (da, .inl (T.2.1 5, cap, .inr (.inr (.inr (.inr (va_up el size.toNat (some wt)))))))]) cx hrw 2 5 3 vc.1 rfl rfl q1327 (List.mem_of_getElem? (i := 1) rfl) rfl vc.2.1 rfl dJ2_add_2_14 rfl ?_
    have vc := vc.2
    have vc := vc.2
    refine g_aload_n (q := 16) cx dJ2_add_2_15 rfl rfl ?_
    refine g_iload_n (q := 17) cx dJ2_add_2_16 rfl rfl ?_
    refine g_iconst (q := 18) (v := iN 1) cx dJ2_add_2_17 rfl rfl ?_
    refine g_iaddZ (q := 19) cx dJ2_add_2_18 rfl ?_
    refine g_put (q := 22) (ws2 := [(al, .inr (4, [.int mcn, .ref da, .int (iN (size + 1))])), (wt, .inr (3, [.int (iN ms), .int (iN es)])), (da, .inl (T.2.1 5, cap, .inr (.inr (.inr (.inr (va_up el size.toNat (some wt)))))))]) cx hrw k_cJ2 0 rfl 2 (by decide) q106 (Or.inl rfl) rfl rfl rfl (Nat.le_of_ble_eq_true rfl) rfl dJ2_add_2_19 rfl ?_
    exact g_vretW cx hr ⟨rfl, rfl, vc⟩ (by first | exact Nat.le_of_ble_eq_true rfl | omega) (by first | exact Nat.le_of_ble_eq_true rfl | omega) dJ2_add_2_22
  · have vc := vc.2.2.2 h_1
    exact vc.elim

theorem k_J2_add_2n (l : Launch) (hlt : l.stackTraces = false) (T : GT) (al : Nat) (da : Nat) (mcn : Int32) (size : Int) (cap : Nat) (el : Nat → Option Nat) (wt : Nat) (ms : Int) (es : Int) (hp0 : 0 ≤ size ∧ size < cap) (hp1 : cap < 2147483648) : MW l T yJ2_add_2 cJ2_add_2 4 none ({ frames := 0, cells := 0, slots := 0, locals := 0 }) [.ref al, .ref wt, .ref da, .int (iN size)] [(al, .inr (4, [.int mcn, .ref da, .int (iN size)])), (wt, .inr (3, [.int (iN ms), .int (iN es)])), (da, .inl (T.2.1 5, cap, .inr (.inr (.inr (.inr el)))))] (fun v_ wn_ => v_ = none ∧ wn_ = [(al, .inr (4, [.int mcn, .ref da, .int (iN (size + 1))])), (wt, .inr (3, [.int (iN ms), .int (iN es)])), (da, .inl (T.2.1 5, cap, .inr (.inr (.inr (.inr (va_up el size.toNat (some wt)))))))] ∧ True) 0 0 := by
  exact w_J2_add_2n l hlt T al da mcn size cap el wt ms es _ ⟨by omega, by omega, fun _ => ⟨hp1, hp0, trivial⟩, fun h => by omega⟩

set_option maxRecDepth 100000 in
set_option maxHeartbeats 4000000 in
theorem w_J2_addn (l : Launch) (hlt : l.stackTraces = false) (T : GT) (al : Nat) (da : Nat) (mcn : Int32) (size : Int) (cap : Nat) (el : Nat → Option Nat) (wt : Nat) (ms : Int) (es : Int)  (post : Bool → Prop) (v0_ : (0 ≤ size ∧ size < cap) ∧ ((cap < 2147483648) ∧ (post true)))  : MW l T yJ2_add cJ2_add 2 (some .boolean) ({ frames := 1, cells := 0, slots := 0, locals := 23 }) [.ref al, .ref wt] [(al, .inr (4, [.int mcn, .ref da, .int (iN size)])), (wt, .inr (3, [.int (iN ms), .int (iN es)])), (da, .inl (T.2.1 5, cap, .inr (.inr (.inr (.inr el)))))] (fun v_ wn_ => ∃ (b : Bool), v_ = some (.int (bI b)) ∧ wn_ = [(al, .inr (4, [.int (mcn + (iN 1)), .ref da, .int (iN (size + 1))])), (wt, .inr (3, [.int (iN ms), .int (iN es)])), (da, .inl (T.2.1 5, cap, .inr (.inr (.inr (.inr (va_up el size.toNat (some wt)))))))] ∧ post b) 0 0 := by
  refine MW.start hlt (by decide) (lv0 := [some (.ref al), some (.ref wt)]) rfl (Nat.le_of_ble_eq_true rfl) rfl ?_
  intro p e R s m args below meth c A cx hr hnm hST hrw
  have vc := v0_
  refine g_aload_n (q := 1) cx dJ2_add_0 rfl rfl ?_
  refine g_dup (q := 2) cx dJ2_add_1 rfl rfl ?_
  refine g_get (q := 5) cx k_cJ2 0 rfl 0 (by decide) q110 (Or.inr q109) rfl dJ2_add_2 rfl ?_
  refine g_iconst (q := 6) (v := iN 1) cx dJ2_add_5 rfl rfl ?_
  refine g_iadd (q := 7) cx dJ2_add_6 rfl ?_
  refine g_put (q := 10) (ws2 := [(al, .inr (4, [.int (mcn + (iN 1)), .ref da, .int (iN size)])), (wt, .inr (3, [.int (iN ms), .int (iN es)])), (da, .inl (T.2.1 5, cap, .inr (.inr (.inr (.inr el)))))]) cx hrw k_cJ2 0 rfl 0 (by decide) q110 (Or.inr q109) rfl rfl rfl (Nat.le_of_ble_eq_true rfl) rfl dJ2_add_7 rfl ?_
  refine g_aload_n (q := 11) cx dJ2_add_10 rfl rfl ?_
  refine g_aload_n (q := 12) cx dJ2_add_11 rfl rfl ?_
  refine g_aload_n (q := 13) cx dJ2_add_12 rfl rfl ?_
  refine g_get (q := 16) cx k_cJ2 0 rfl 1 (by decide) q103 (Or.inl rfl) rfl dJ2_add_13 rfl ?_
  refine g_aload_n (q := 17) cx dJ2_add_16 rfl rfl ?_
  refine g_get (q := 20) cx k_cJ2 0 rfl 2 (by decide) q106 (Or.inl rfl) rfl dJ2_add_17 rfl ?_
  refine g_cVw (q := 23) (b := al) (As := [.ref wt, .ref da, .int (iN size)]) (wr := []) (st := []) cx hST hrw (k_J2_add_2n l hlt T al da (mcn + (iN 1)) size cap el wt ms es (vc.1) (vc.2.1)) q737 s_J2_add_2 rfl 0 rfl rfl g_perm1 (g_rmB rfl) (Nat.le_of_ble_eq_true rfl) dJ2_add_20 rfl (fun v_ wn_ hv_ => ?_)
  have vc := vc.2
  have vc := vc.2
  obtain ⟨rfl, rfl, e_1⟩ := hv_
  refine g_cs (cells2 := 0) (slots2 := 0) (ws2 := [(al, .inr (4, [.int (mcn + (iN 1)), .ref da, .int (iN (size + 1))])), (wt, .inr (3, [.int (iN ms), .int (iN es)])), (da, .inl (T.2.1 5, cap, .inr (.inr (.inr (.inr (va_up el size.toNat (some wt)))))))]) rfl rfl rfl ?_
  refine g_st (st2 := []) rfl ?_
  refine g_iconst (q := 24) (v := iN 1) cx dJ2_add_23 rfl rfl ?_
  exact g_iretW cx hr (by decide) ⟨true, rfl, rfl, vc⟩ (by first | exact Nat.le_of_ble_eq_true rfl | omega) (by first | exact Nat.le_of_ble_eq_true rfl | omega) dJ2_add_24

theorem k_J2_addn (l : Launch) (hlt : l.stackTraces = false) (T : GT) (al : Nat) (da : Nat) (mcn : Int32) (size : Int) (cap : Nat) (el : Nat → Option Nat) (wt : Nat) (ms : Int) (es : Int) (hp0 : 0 ≤ size ∧ size < cap) (hp1 : cap < 2147483648) : MW l T yJ2_add cJ2_add 2 (some .boolean) ({ frames := 1, cells := 0, slots := 0, locals := 23 }) [.ref al, .ref wt] [(al, .inr (4, [.int mcn, .ref da, .int (iN size)])), (wt, .inr (3, [.int (iN ms), .int (iN es)])), (da, .inl (T.2.1 5, cap, .inr (.inr (.inr (.inr el)))))] (fun v_ wn_ => ∃ (b : Bool), v_ = some (.int (bI b)) ∧ wn_ = [(al, .inr (4, [.int (mcn + (iN 1)), .ref da, .int (iN (size + 1))])), (wt, .inr (3, [.int (iN ms), .int (iN es)])), (da, .inl (T.2.1 5, cap, .inr (.inr (.inr (.inr (va_up el size.toNat (some wt)))))))] ∧ b = true) 0 0 := by
  exact w_J2_addn l hlt T al da mcn size cap el wt ms es _ ⟨hp0, hp1, rfl⟩

set_option maxRecDepth 100000 in
set_option maxHeartbeats 4000000 in
theorem w_J2_add_2p (l : Launch) (hlt : l.stackTraces = false) (T : GT) (al : Nat) (da : Nat) (mcn : Int32) (size : Int) (cap : Nat) (el : Nat → Option Nat) (wa : Nat → Nat) (n : Nat) (ms : Nat → Int) (es : Nat → Int) (k : Nat)  (post : Prop) (v0_ : (-2147483648 ≤ size ∧ size < 2147483648) ∧ ((-2147483648 ≤ ((cap : Nat) : Int) ∧ ((cap : Nat) : Int) < 2147483648) ∧ ((¬ size = ((cap : Nat) : Int) → ((cap < 2147483648) ∧ ((0 ≤ size ∧ size < cap) ∧ ((k < n) ∧ (post))))) ∧ (size = ((cap : Nat) : Int) → (False)))))  : MW l T yJ2_add_2 cJ2_add_2 4 none ({ frames := 0, cells := 0, slots := 0, locals := 0 }) [.ref al, .ref (wa k), .ref da, .int (iN size)] ((al, .inr (4, [.int mcn, .ref da, .int (iN size)])) :: ((da, .inl (T.2.1 5, cap, .inr (.inr (.inr (.inr el))))) :: ((PW n wa ms es) ++ []))) (fun v_ wn_ => v_ = none ∧ wn_ = ((al, .inr (4, [.int mcn, .ref da, .int (iN (size + 1))])) :: ((da, .inl (T.2.1 5, cap, .inr (.inr (.inr (.inr (va_up el size.toNat (some (wa k)))))))) :: ((PW n wa ms es) ++ []))) ∧ post) 0 0 := by
  refine MW.start hlt (by decide) (lv0 := [some (.ref al), some (.ref (wa k)), some (.ref da), some (.int (iN size))]) rfl (Nat.le_of_ble_eq_true rfl) rfl ?_
  intro p e R s m args below meth c A cx hr hnm hST hrw
  have vc := v0_
  refine g_iload_n (q := 1) cx dJ2_add_2_0 rfl rfl ?_
  refine g_aload_n (q := 2) cx dJ2_add_2_1 rfl rfl ?_
  refine g_alenZ (q := 3) cx 1 5 rfl rfl dJ2_add_2_2 rfl ?_
  refine g_st (st2 := [.int (iN ((cap : Nat) : Int)), .int (iN size)]) rfl ?_
  refine g_icmp_neZ (q := 6) (tg := 11) cx vc.1 vc.2.1 dJ2_add_2_3 (by decide) rfl (fun h_1 => ?_) (fun h_1 => ?_)
  · have vc := vc.2.2.1 h_1
    refine g_aload_n (q := 12) cx dJ2_add_2_11 rfl rfl ?_
    refine g_iload_n (q := 13) cx dJ2_add_2_12 rfl rfl ?_
    refine g_aload_n (q := 14) cx dJ2_add_2_13 rfl rfl ?_
    refine g_aastO (q := 15) (ws2 := ((al, .inr (4, [.int mcn, .ref da, .int (iN size)])) :: ((da, .inl (T.2.1 5, cap, .inr (.inr (.inr (.inr (va_up el size.toNat (some (wa k)))))))) :: ((PW n wa ms es) ++ [])))) cx hrw 1 5 3 vc.1 rfl rfl q1327 (g_mh (g_mh (g_ml (PW_mem vc.2.2.1)))) rfl vc.2.1 rfl dJ2_add_2_14 rfl ?_
    have vc := vc.2
    have vc := vc.2
    have vc := vc.2
    refine g_aload_n (q := 16) cx dJ2_add_2_15 rfl rfl ?_
    refine g_iload_n (q := 17) cx dJ2_add_2_16 rfl rfl ?_
    refine g_iconst (q := 18) (v := iN 1) cx dJ2_add_2_17 rfl rfl ?_
    refine g_iaddZ (q := 19) cx dJ2_add_2_18 rfl ?_
    refine g_put (q := 22) (ws2 := ((al, .inr (4, [.int mcn, .ref da, .int (iN (size + 1))])) :: ((da, .inl (T.2.1 5, cap, .inr (.inr (.inr (.inr (va_up el size.toNat (some (wa k)))))))) :: ((PW n wa ms es) ++ [])))) cx hrw k_cJ2 0 rfl 2 (by decide) q106 (Or.inl rfl) rfl rfl rfl (Nat.le_of_ble_eq_true rfl) rfl dJ2_add_2_19 rfl ?_
    exact g_vretW cx hr ⟨rfl, rfl, vc⟩ (by first | exact Nat.le_of_ble_eq_true rfl | omega) (by first | exact Nat.le_of_ble_eq_true rfl | omega) dJ2_add_2_22
  · have vc := vc.2.2.2 h_1
    exact vc.elim

theorem k_J2_add_2p (l : Launch) (hlt : l.stackTraces = false) (T : GT) (al : Nat) (da : Nat) (mcn : Int32) (size : Int) (cap : Nat) (el : Nat → Option Nat) (wa : Nat → Nat) (n : Nat) (ms : Nat → Int) (es : Nat → Int) (k : Nat) (hp0 : 0 ≤ size ∧ size < cap) (hp1 : cap < 2147483648) (hp2 : k < n) : MW l T yJ2_add_2 cJ2_add_2 4 none ({ frames := 0, cells := 0, slots := 0, locals := 0 }) [.ref al, .ref (wa k), .ref da, .int (iN size)] ((al, .inr (4, [.int mcn, .ref da, .int (iN size)])) :: ((da, .inl (T.2.1 5, cap, .inr (.inr (.inr (.inr el))))) :: ((PW n wa ms es) ++ []))) (fun v_ wn_ => v_ = none ∧ wn_ = ((al, .inr (4, [.int mcn, .ref da, .int (iN (size + 1))])) :: ((da, .inl (T.2.1 5, cap, .inr (.inr (.inr (.inr (va_up el size.toNat (some (wa k)))))))) :: ((PW n wa ms es) ++ []))) ∧ True) 0 0 := by
  exact w_J2_add_2p l hlt T al da mcn size cap el wa n ms es k _ ⟨by omega, by omega, fun _ => ⟨hp1, hp0, hp2, trivial⟩, fun h => by omega⟩

set_option maxRecDepth 100000 in
set_option maxHeartbeats 4000000 in
theorem w_J2_addp (l : Launch) (hlt : l.stackTraces = false) (T : GT) (al : Nat) (da : Nat) (mcn : Int32) (size : Int) (cap : Nat) (el : Nat → Option Nat) (wa : Nat → Nat) (n : Nat) (ms : Nat → Int) (es : Nat → Int) (k : Nat)  (post : Bool → Prop) (v0_ : (0 ≤ size ∧ size < cap) ∧ ((cap < 2147483648) ∧ ((k < n) ∧ (post true))))  : MW l T yJ2_add cJ2_add 2 (some .boolean) ({ frames := 1, cells := 0, slots := 0, locals := 23 }) [.ref al, .ref (wa k)] ((al, .inr (4, [.int mcn, .ref da, .int (iN size)])) :: ((da, .inl (T.2.1 5, cap, .inr (.inr (.inr (.inr el))))) :: ((PW n wa ms es) ++ []))) (fun v_ wn_ => ∃ (b : Bool), v_ = some (.int (bI b)) ∧ wn_ = ((al, .inr (4, [.int (mcn + (iN 1)), .ref da, .int (iN (size + 1))])) :: ((da, .inl (T.2.1 5, cap, .inr (.inr (.inr (.inr (va_up el size.toNat (some (wa k)))))))) :: ((PW n wa ms es) ++ []))) ∧ post b) 0 0 := by
  refine MW.start hlt (by decide) (lv0 := [some (.ref al), some (.ref (wa k))]) rfl (Nat.le_of_ble_eq_true rfl) rfl ?_
  intro p e R s m args below meth c A cx hr hnm hST hrw
  have vc := v0_
  refine g_aload_n (q := 1) cx dJ2_add_0 rfl rfl ?_
  refine g_dup (q := 2) cx dJ2_add_1 rfl rfl ?_
  refine g_get (q := 5) cx k_cJ2 0 rfl 0 (by decide) q110 (Or.inr q109) rfl dJ2_add_2 rfl ?_
  refine g_iconst (q := 6) (v := iN 1) cx dJ2_add_5 rfl rfl ?_
  refine g_iadd (q := 7) cx dJ2_add_6 rfl ?_
  refine g_put (q := 10) (ws2 := ((al, .inr (4, [.int (mcn + (iN 1)), .ref da, .int (iN size)])) :: ((da, .inl (T.2.1 5, cap, .inr (.inr (.inr (.inr el))))) :: ((PW n wa ms es) ++ [])))) cx hrw k_cJ2 0 rfl 0 (by decide) q110 (Or.inr q109) rfl rfl rfl (Nat.le_of_ble_eq_true rfl) rfl dJ2_add_7 rfl ?_
  refine g_aload_n (q := 11) cx dJ2_add_10 rfl rfl ?_
  refine g_aload_n (q := 12) cx dJ2_add_11 rfl rfl ?_
  refine g_aload_n (q := 13) cx dJ2_add_12 rfl rfl ?_
  refine g_get (q := 16) cx k_cJ2 0 rfl 1 (by decide) q103 (Or.inl rfl) rfl dJ2_add_13 rfl ?_
  refine g_aload_n (q := 17) cx dJ2_add_16 rfl rfl ?_
  refine g_get (q := 20) cx k_cJ2 0 rfl 2 (by decide) q106 (Or.inl rfl) rfl dJ2_add_17 rfl ?_
  refine g_cVw (q := 23) (b := al) (As := [.ref (wa k), .ref da, .int (iN size)]) (wr := []) (st := []) cx hST hrw (k_J2_add_2p l hlt T al da (mcn + (iN 1)) size cap el wa n ms es k (vc.1) (vc.2.1) (vc.2.2.1)) q737 s_J2_add_2 rfl 0 rfl rfl g_perm1 (g_rmB rfl) (Nat.le_of_ble_eq_true rfl) dJ2_add_20 rfl (fun v_ wn_ hv_ => ?_)
  have vc := vc.2
  have vc := vc.2
  have vc := vc.2
  obtain ⟨rfl, rfl, e_1⟩ := hv_
  refine g_cs (cells2 := 0) (slots2 := 0) (ws2 := ((al, .inr (4, [.int (mcn + (iN 1)), .ref da, .int (iN (size + 1))])) :: ((da, .inl (T.2.1 5, cap, .inr (.inr (.inr (.inr (va_up el size.toNat (some (wa k)))))))) :: ((PW n wa ms es) ++ [])))) rfl rfl rfl ?_
  refine g_st (st2 := []) rfl ?_
  refine g_iconst (q := 24) (v := iN 1) cx dJ2_add_23 rfl rfl ?_
  exact g_iretW cx hr (by decide) ⟨true, rfl, rfl, vc⟩ (by first | exact Nat.le_of_ble_eq_true rfl | omega) (by first | exact Nat.le_of_ble_eq_true rfl | omega) dJ2_add_24

theorem k_J2_addp (l : Launch) (hlt : l.stackTraces = false) (T : GT) (al : Nat) (da : Nat) (mcn : Int32) (size : Int) (cap : Nat) (el : Nat → Option Nat) (wa : Nat → Nat) (n : Nat) (ms : Nat → Int) (es : Nat → Int) (k : Nat) (hp0 : 0 ≤ size ∧ size < cap) (hp1 : cap < 2147483648) (hp2 : k < n) : MW l T yJ2_add cJ2_add 2 (some .boolean) ({ frames := 1, cells := 0, slots := 0, locals := 23 }) [.ref al, .ref (wa k)] ((al, .inr (4, [.int mcn, .ref da, .int (iN size)])) :: ((da, .inl (T.2.1 5, cap, .inr (.inr (.inr (.inr el))))) :: ((PW n wa ms es) ++ []))) (fun v_ wn_ => ∃ (b : Bool), v_ = some (.int (bI b)) ∧ wn_ = ((al, .inr (4, [.int (mcn + (iN 1)), .ref da, .int (iN (size + 1))])) :: ((da, .inl (T.2.1 5, cap, .inr (.inr (.inr (.inr (va_up el size.toNat (some (wa k)))))))) :: ((PW n wa ms es) ++ []))) ∧ b = true) 0 0 := by
  exact w_J2_addp l hlt T al da mcn size cap el wa n ms es k _ ⟨hp0, hp1, hp2, rfl⟩
