set_option maxRecDepth 100000 in
set_option maxHeartbeats 4000000 in
theorem w_J2_fastRemove (l : Launch) (hlt : l.stackTraces = false) (T : GT) (al : Nat) (da : Nat) (mcn : Int32) (size : Int) (cap : Nat) (el : Nat → Option Nat) (wa : Nat → Nat) (n : Nat) (ms : Nat → Int) (es : Nat → Int) (i : Int)  (post : (Nat → Option Nat) → Prop) (v0_ : (-2147483648 ≤ (size - 1) ∧ (size - 1) < 2147483648) ∧ ((-2147483648 ≤ i ∧ i < 2147483648) ∧ (((size - 1) ≤ i → ((cap < 2147483648) ∧ ((0 ≤ (size - 1) ∧ (size - 1) < cap) ∧ (post (va_up el (size - 1).toNat none))))) ∧ (i < (size - 1) → ((0 ≤ (i + 1)) ∧ ((0 ≤ i) ∧ ((0 ≤ ((size - 1) - i)) ∧ (((i + 1) + ((size - 1) - i) ≤ cap) ∧ ((i + ((size - 1) - i) ≤ cap) ∧ ((cap < 2147483648) ∧ ((∀ i9 : Nat, i9 < ((size - 1) - i).toNat → ∀ y9, el ((i + 1).toNat + i9) = some y9 → ∃ k9, k9 < n ∧ y9 = wa k9) ∧ ((cap < 2147483648) ∧ ((0 ≤ (size - 1) ∧ (size - 1) < cap) ∧ (post (va_up (va_cpy el el (i + 1).toNat i.toNat ((size - 1) - i).toNat) (size - 1).toNat none)))))))))))))))  : MW l T yJ2_fastRemove cJ2_fastRemove 4 none ({ frames := 1, cells := 0, slots := 0, locals := 60 }) [.ref al, .ref da, .int (iN i)] ((al, .inr (4, [.int mcn, .ref da, .int (iN size)])) :: ((da, .inl (T.2.1 5, cap, .inr (.inr (.inr (.inr el))))) :: ((PW n wa ms es) ++ []))) (fun v_ wn_ => ∃ (el2 : Nat → Option Nat), v_ = none ∧ wn_ = ((al, .inr (4, [.int (mcn + (iN 1)), .ref da, .int (iN (size - 1))])) :: ((da, .inl (T.2.1 5, cap, .inr (.inr (.inr (.inr el2))))) :: ((PW n wa ms es) ++ []))) ∧ post el2) 0 0 := by
  refine MW.start hlt (by decide) (lv0 := [some (.ref al), some (.ref da), some (.int (iN i)), none]) rfl (Nat.le_of_ble_eq_true rfl) rfl ?_
  intro p e R s m args below meth c A cx hr hnm hST hrw
  have vc := v0_
  refine g_aload_n (q := 1) cx dJ2_fastRemove_0 rfl rfl ?_
  refine g_dup (q := 2) cx dJ2_fastRemove_1 rfl rfl ?_
  refine g_get (q := 5) cx k_cJ2 0 rfl 0 (by decide) q110 (Or.inr q109) rfl dJ2_fastRemove_2 rfl ?_
  refine g_iconst (q := 6) (v := iN 1) cx dJ2_fastRemove_5 rfl rfl ?_
  refine g_iadd (q := 7) cx dJ2_fastRemove_6 rfl ?_
  refine g_put (q := 10) (ws2 := ((al, .inr (4, [.int (mcn + (iN 1)), .ref da, .int (iN size)])) :: ((da, .inl (T.2.1 5, cap, .inr (.inr (.inr (.inr el))))) :: ((PW n wa ms es) ++ [])))) cx hrw k_cJ2 0 rfl 0 (by decide) q110 (Or.inr q109) rfl rfl rfl (Nat.le_of_ble_eq_true rfl) rfl dJ2_fastRemove_7 rfl ?_
  refine g_aload_n (q := 11) cx dJ2_fastRemove_10 rfl rfl ?_
  refine g_get (q := 14) cx k_cJ2 0 rfl 2 (by decide) q106 (Or.inl rfl) rfl dJ2_fastRemove_11 rfl ?_
  refine g_iconst (q := 15) (v := iN 1) cx dJ2_fastRemove_14 rfl rfl ?_
  refine g_isubZ (q := 16) cx dJ2_fastRemove_15 rfl ?_
  refine g_dup (q := 17) cx dJ2_fastRemove_16 rfl rfl ?_
  refine g_istore_n (q := 18) (lv2 := [some (.ref al), some (.ref da), some (.int (iN i)), some (.int (iN (size - 1)))]) cx dJ2_fastRemove_17 rfl (by decide) rfl rfl ?_
  refine g_iload_n (q := 19) cx dJ2_fastRemove_18 rfl rfl ?_
  refine g_icmp_leZ (q := 22) (tg := 34) cx vc.1 vc.2.1 dJ2_fastRemove_19 (by decide) rfl (fun h_1 => ?_) (fun h_1 => ?_)
  · have vc := vc.2.2.1 h_1
    refine g_aload_n (q := 35) cx dJ2_fastRemove_34 rfl rfl ?_
    refine g_aload_n (q := 36) cx dJ2_fastRemove_35 rfl rfl ?_
    refine g_iload_n (q := 37) cx dJ2_fastRemove_36 rfl rfl ?_
    refine g_dup_x1 (q := 38) cx dJ2_fastRemove_37 rfl rfl rfl ?_
    refine g_put (q := 41) (ws2 := ((al, .inr (4, [.int (mcn + (iN 1)), .ref da, .int (iN (size - 1))])) :: ((da, .inl (T.2.1 5, cap, .inr (.inr (.inr (.inr el))))) :: ((PW n wa ms es) ++ [])))) cx hrw k_cJ2 0 rfl 2 (by decide) q106 (Or.inl rfl) rfl rfl rfl (Nat.le_of_ble_eq_true rfl) rfl dJ2_fastRemove_38 rfl ?_
    refine g_null (q := 42) cx dJ2_fastRemove_41 rfl ?_
    refine g_aastN (q := 43) (ws2 := ((al, .inr (4, [.int (mcn + (iN 1)), .ref da, .int (iN (size - 1))])) :: ((da, .inl (T.2.1 5, cap, .inr (.inr (.inr (.inr (va_up el (size - 1).toNat none)))))) :: ((PW n wa ms es) ++ [])))) cx hrw 1 5 vc.1 rfl rfl vc.2.1 rfl dJ2_fastRemove_42 rfl ?_
    have vc := vc.2
    have vc := vc.2
    exact g_vretW cx hr ⟨(va_up el (size - 1).toNat none), rfl, rfl, vc⟩ (by first | exact Nat.le_of_ble_eq_true rfl | omega) (by first | exact Nat.le_of_ble_eq_true rfl | omega) dJ2_fastRemove_43
  · have vc := vc.2.2.2 h_1
    refine g_aload_n (q := 23) cx dJ2_fastRemove_22 rfl rfl ?_
    refine g_iload_n (q := 24) cx dJ2_fastRemove_23 rfl rfl ?_
    refine g_iconst (q := 25) (v := iN 1) cx dJ2_fastRemove_24 rfl rfl ?_
    refine g_iaddZ (q := 26) cx dJ2_fastRemove_25 rfl ?_
    refine g_aload_n (q := 27) cx dJ2_fastRemove_26 rfl rfl ?_
    refine g_iload_n (q := 28) cx dJ2_fastRemove_27 rfl rfl ?_
    refine g_iload_n (q := 29) cx dJ2_fastRemove_28 rfl rfl ?_
    refine g_iload_n (q := 30) cx dJ2_fastRemove_29 rfl rfl ?_
    refine g_isubZ (q := 31) cx dJ2_fastRemove_30 rfl ?_
    refine g_copyQ (q := 34) (ws2 := ((al, .inr (4, [.int (mcn + (iN 1)), .ref da, .int (iN size)])) :: ((da, .inl (T.2.1 5, cap, .inr (.inr (.inr (.inr (va_cpy el el (i + 1).toNat i.toNat ((size - 1) - i).toNat)))))) :: ((PW n wa ms es) ++ [])))) cx hrw q836 1 5 3 vc.2.2.2.2.2.1 rfl rfl q1327 rfl vc.1 vc.2.1 vc.2.2.1 vc.2.2.2.1 vc.2.2.2.2.1 (fun i9 hi9 y9 hy9 => by obtain ⟨k9, hk, rfl⟩ := vc.2.2.2.2.2.2.1 i9 hi9 y9 hy9; exact ⟨_, (g_mh (g_mh (g_ml (PW_mem hk))))⟩) (by decide) (Nat.le_of_ble_eq_true rfl) rfl dJ2_fastRemove_31 rfl ?_
    have vc := vc.2
    have vc := vc.2
    have vc := vc.2
    have vc := vc.2
    have vc := vc.2
    have vc := vc.2
    have vc := vc.2
    refine g_aload_n (q := 35) cx dJ2_fastRemove_34 rfl rfl ?_
    refine g_aload_n (q := 36) cx dJ2_fastRemove_35 rfl rfl ?_
    refine g_iload_n (q := 37) cx dJ2_fastRemove_36 rfl rfl ?_
    refine g_dup_x1 (q := 38) cx dJ2_fastRemove_37 rfl rfl rfl ?_
    refine g_put (q := 41) (ws2 := ((al, .inr (4, [.int (mcn + (iN 1)), .ref da, .int (iN (size - 1))])) :: ((da, .inl (T.2.1 5, cap, .inr (.inr (.inr (.inr (va_cpy el el (i + 1).toNat i.toNat ((size - 1) - i).toNat)))))) :: ((PW n wa ms es) ++ [])))) cx hrw k_cJ2 0 rfl 2 (by decide) q106 (Or.inl rfl) rfl rfl rfl (Nat.le_of_ble_eq_true rfl) rfl dJ2_fastRemove_38 rfl ?_
    refine g_null (q := 42) cx dJ2_fastRemove_41 rfl ?_
    refine g_aastN (q := 43) (ws2 := ((al, .inr (4, [.int (mcn + (iN 1)), .ref da, .int (iN (size - 1))])) :: ((da, .inl (T.2.1 5, cap, .inr (.inr (.inr (.inr (va_up (va_cpy el el (i + 1).toNat i.toNat ((size - 1) - i).toNat) (size - 1).toNat none)))))) :: ((PW n wa ms es) ++ [])))) cx hrw 1 5 vc.1 rfl rfl vc.2.1 rfl dJ2_fastRemove_42 rfl ?_
    have vc := vc.2
    have vc := vc.2
    exact g_vretW cx hr ⟨(va_up (va_cpy el el (i + 1).toNat i.toNat ((size - 1) - i).toNat) (size - 1).toNat none), rfl, rfl, vc⟩ (by first | exact Nat.le_of_ble_eq_true rfl | omega) (by first | exact Nat.le_of_ble_eq_true rfl | omega) dJ2_fastRemove_43

theorem k_J2_fastRemove (l : Launch) (hlt : l.stackTraces = false) (T : GT) (al : Nat) (da : Nat) (mcn : Int32) (size : Int) (cap : Nat) (el : Nat → Option Nat) (wa : Nat → Nat) (n : Nat) (ms : Nat → Int) (es : Nat → Int) (i : Int) (hp0 : 0 ≤ i ∧ i < size) (hp1 : size ≤ cap) (hp2 : cap < 2147483648) (hp3 : ∀ j, j < size.toNat → ∀ y, el j = some y → ∃ k, k < n ∧ y = wa k) : MW l T yJ2_fastRemove cJ2_fastRemove 4 none ({ frames := 1, cells := 0, slots := 0, locals := 60 }) [.ref al, .ref da, .int (iN i)] ((al, .inr (4, [.int mcn, .ref da, .int (iN size)])) :: ((da, .inl (T.2.1 5, cap, .inr (.inr (.inr (.inr el))))) :: ((PW n wa ms es) ++ []))) (fun v_ wn_ => ∃ (el2 : Nat → Option Nat), v_ = none ∧ wn_ = ((al, .inr (4, [.int (mcn + (iN 1)), .ref da, .int (iN (size - 1))])) :: ((da, .inl (T.2.1 5, cap, .inr (.inr (.inr (.inr el2))))) :: ((PW n wa ms es) ++ []))) ∧ el2 = (va_up (if i < size - 1 then va_cpy el el (i + 1).toNat i.toNat (size - 1 - i).toNat else el) (size - 1).toNat none)) 0 0 := by
  refine w_J2_fastRemove l hlt T al da mcn size cap el wa n ms es i _ ⟨by omega, by omega, fun h => ⟨hp2, by omega, ?_⟩, fun h => ⟨by omega, by omega, by omega, by omega, by omega, by omega, fun j hj y hy => hp3 _ (by omega) y hy, hp2, by omega, ?_⟩⟩
  · rw [if_neg (by omega)]
  · rw [if_pos h]

set_option maxRecDepth 100000 in
set_option maxHeartbeats 4000000 in
theorem w_J2_remove (l : Launch) (hlt : l.stackTraces = false) (T : GT) (al : Nat) (da : Nat) (mcn : Int32) (size : Int) (cap : Nat) (el : Nat → Option Nat) (wa : Nat → Nat) (n : Nat) (ms : Nat → Int) (es : Nat → Int) (i : Int) (y : Nat)  (post : Nat → (Nat → Option Nat) → Prop) (v0_ : (0 ≤ i ∧ i < size) ∧ ((-2147483648 ≤ size ∧ size < 2147483648) ∧ ((0 ≤ i ∧ i < cap) ∧ ((el i.toNat = some y) ∧ ((cap < 2147483648) ∧ ((0 ≤ i ∧ i < size) ∧ ((size ≤ cap) ∧ ((cap < 2147483648) ∧ ((∀ j, j < size.toNat → ∀ y, el j = some y → ∃ k, k < n ∧ y = wa k) ∧ (post y (va_up (if i < size - 1 then va_cpy el el (i + 1).toNat i.toNat (size - 1 - i).toNat else el) (size - 1).toNat none)))))))))))  : MW l T yJ2_remove cJ2_remove 4 (some (.object "java/lang/Object")) ({ frames := 2, cells := 0, slots := 0, locals := 83 }) [.ref al, .int (iN i)] ((al, .inr (4, [.int mcn, .ref da, .int (iN size)])) :: ((da, .inl (T.2.1 5, cap, .inr (.inr (.inr (.inr el))))) :: ((PW n wa ms es) ++ []))) (fun v_ wn_ => ∃ (v : Nat), ∃ (el2 : Nat → Option Nat), v_ = some (.ref v) ∧ wn_ = ((al, .inr (4, [.int (mcn + (iN 1)), .ref da, .int (iN (size - 1))])) :: ((da, .inl (T.2.1 5, cap, .inr (.inr (.inr (.inr el2))))) :: ((PW n wa ms es) ++ []))) ∧ post v el2) 0 0 := by
  refine MW.start hlt (by decide) (lv0 := [some (.ref al), some (.int (iN i)), none, none]) rfl (Nat.le_of_ble_eq_true rfl) rfl ?_
  intro p e R s m args below meth c A cx hr hnm hST hrw
  have vc := v0_
  refine g_iload_n (q := 1) cx dJ2_remove_0 rfl rfl ?_
  refine g_aload_n (q := 2) cx dJ2_remove_1 rfl rfl ?_
  refine g_get (q := 5) cx k_cJ2 0 rfl 2 (by decide) q106 (Or.inl rfl) rfl dJ2_remove_2 rfl ?_
  refine g_cSr (q := 8) (As := [.int (iN i), .int (iN size)]) (wr := ((al, .inr (4, [.int mcn, .ref da, .int (iN size)])) :: ((da, .inl (T.2.1 5, cap, .inr (.inr (.inr (.inr el))))) :: ((PW n wa ms es) ++ [])))) (st := []) cx hST (k_J21_checkIndex l hlt T i size (vc.1) (vc.2.1)) q217 s_J21_checkIndex rfl g_perm0 (g_rmB rfl) (Nat.le_of_ble_eq_true rfl) dJ2_remove_5 rfl (fun v_ hv_ => ?_)
  have vc := vc.2
  have vc := vc.2
  obtain ⟨r_1, rfl, e_2⟩ := hv_
  replace e_2 := e_2.symm
  subst e_2
  refine g_st (st2 := [.int (iN i)]) rfl ?_
  refine g_pop (q := 9) cx dJ2_remove_8 rfl rfl ?_
  refine g_aload_n (q := 10) cx dJ2_remove_9 rfl rfl ?_
  refine g_get (q := 13) cx k_cJ2 0 rfl 1 (by decide) q103 (Or.inl rfl) rfl dJ2_remove_10 rfl ?_
  refine g_astore_n (q := 14) (lv2 := [some (.ref al), some (.int (iN i)), some (.ref da), none]) cx dJ2_remove_13 rfl (by decide) rfl rfl ?_
  refine g_aload_n (q := 15) cx dJ2_remove_14 rfl rfl ?_
  refine g_iload_n (q := 16) cx dJ2_remove_15 rfl rfl ?_
  refine g_aaldM (q := 17) (y := y) cx 5 vc.2.2.1 (List.mem_of_getElem? (i := 1) rfl) rfl (Or.inl ⟨_, rfl⟩) vc.1 vc.2.1 dJ2_remove_16 rfl ?_
  have vc := vc.2
  have vc := vc.2
  have vc := vc.2
  refine g_astore_n (q := 18) (lv2 := [some (.ref al), some (.int (iN i)), some (.ref da), some (.ref y)]) cx dJ2_remove_17 rfl (by decide) rfl rfl ?_
  refine g_aload_n (q := 19) cx dJ2_remove_18 rfl rfl ?_
  refine g_aload_n (q := 20) cx dJ2_remove_19 rfl rfl ?_
  refine g_iload_n (q := 21) cx dJ2_remove_20 rfl rfl ?_
  refine g_cVw (q := 24) (b := al) (As := [.ref da, .int (iN i)]) (wr := []) (st := []) cx hST hrw (k_J2_fastRemove l hlt T al da mcn size cap el wa n ms es i (vc.1) (vc.2.1) (vc.2.2.1) (vc.2.2.2.1)) q832 s_J2_fastRemove rfl 0 rfl rfl g_perm1 (g_rmB rfl) (Nat.le_of_ble_eq_true rfl) dJ2_remove_21 rfl (fun v_ wn_ hv_ => ?_)
  have vc := vc.2
  have vc := vc.2
  have vc := vc.2
  have vc := vc.2
  obtain ⟨el2_4, rfl, rfl, e_5⟩ := hv_
  subst e_5
  refine g_cs (cells2 := 0) (slots2 := 0) (ws2 := ((al, .inr (4, [.int (mcn + (iN 1)), .ref da, .int (iN (size - 1))])) :: ((da, .inl (T.2.1 5, cap, .inr (.inr (.inr (.inr (va_up (if i < size - 1 then va_cpy el el (i + 1).toNat i.toNat (size - 1 - i).toNat else el) (size - 1).toNat none)))))) :: ((PW n wa ms es) ++ [])))) rfl rfl rfl ?_
  refine g_st (st2 := []) rfl ?_
  refine g_aload_n (q := 25) cx dJ2_remove_24 rfl rfl ?_
  exact g_aretW cx hr (Or.inl ⟨_, rfl⟩) ⟨y, (va_up (if i < size - 1 then va_cpy el el (i + 1).toNat i.toNat (size - 1 - i).toNat else el) (size - 1).toNat none), rfl, rfl, vc⟩ (by first | exact Nat.le_of_ble_eq_true rfl | omega) (by first | exact Nat.le_of_ble_eq_true rfl | omega) dJ2_remove_25

theorem k_J2_remove (l : Launch) (hlt : l.stackTraces = false) (T : GT) (al : Nat) (da : Nat) (mcn : Int32) (size : Int) (cap : Nat) (el : Nat → Option Nat) (wa : Nat → Nat) (n : Nat) (ms : Nat → Int) (es : Nat → Int) (i : Int) (y : Nat) (hp0 : 0 ≤ i ∧ i < size) (hp1 : size ≤ cap) (hp2 : cap < 2147483648) (hp3 : ∀ j, j < size.toNat → ∀ y, el j = some y → ∃ k, k < n ∧ y = wa k) (hp4 : el i.toNat = some y) : MW l T yJ2_remove cJ2_remove 4 (some (.object "java/lang/Object")) ({ frames := 2, cells := 0, slots := 0, locals := 83 }) [.ref al, .int (iN i)] ((al, .inr (4, [.int mcn, .ref da, .int (iN size)])) :: ((da, .inl (T.2.1 5, cap, .inr (.inr (.inr (.inr el))))) :: ((PW n wa ms es) ++ []))) (fun v_ wn_ => ∃ (v : Nat), ∃ (el2 : Nat → Option Nat), v_ = some (.ref v) ∧ wn_ = ((al, .inr (4, [.int (mcn + (iN 1)), .ref da, .int (iN (size - 1))])) :: ((da, .inl (T.2.1 5, cap, .inr (.inr (.inr (.inr el2))))) :: ((PW n wa ms es) ++ []))) ∧ v = y ∧ el2 = (va_up (if i < size - 1 then va_cpy el el (i + 1).toNat i.toNat (size - 1 - i).toNat else el) (size - 1).toNat none)) 0 0 := by
  exact w_J2_remove l hlt T al da mcn size cap el wa n ms es i y _ ⟨hp0, by omega, by omega, hp4, hp2, hp0, hp1, hp2, hp3, rfl, rfl⟩

set_option maxRecDepth 100000 in
set_option maxHeartbeats 4000000 in
theorem w_J22_init (l : Launch) (hlt : l.stackTraces = false) (T : GT) (it : Nat) (al : Nat) (da : Nat) (mcn : Int32) (size : Int) (cap : Nat) (el : Nat → Option Nat)  (post : Prop) (v0_ : post)  : MW l T yJ22_init cJ22_init 2 none ({ frames := 1, cells := 0, slots := 0, locals := 12 }) [.ref it, .ref al] [(it, .inr (5, [.int (iN 0), .int (iN 0), .int (iN 0), .null])), (al, .inr (4, [.int mcn, .ref da, .int (iN size)])), (da, .inl (T.2.1 5, cap, .inr (.inr (.inr (.inr el)))))] (fun v_ wn_ => v_ = none ∧ wn_ = [(it, .inr (5, [.int (iN 0), .int (iN (-1)), .int mcn, .ref al])), (al, .inr (4, [.int mcn, .ref da, .int (iN size)])), (da, .inl (T.2.1 5, cap, .inr (.inr (.inr (.inr el)))))] ∧ post) 0 0 := by
  refine MW.start hlt (by decide) (lv0 := [some (.ref it), some (.ref al)]) rfl (Nat.le_of_ble_eq_true rfl) rfl ?_
  intro p e R s m args below meth c A cx hr hnm hST hrw
  have vc := v0_
  refine g_aload_n (q := 1) cx dJ22_init_0 rfl rfl ?_
  refine g_aload_n (q := 2) cx dJ22_init_1 rfl rfl ?_
  refine g_putF (q := 5) (ws2 := [(it, .inr (5, [.int (iN 0), .int (iN 0), .int (iN 0), .ref al])), (al, .inr (4, [.int mcn, .ref da, .int (iN size)])), (da, .inl (T.2.1 5, cap, .inr (.inr (.inr (.inr el)))))]) cx hrw hnm k_cJ22 0 rfl 3 (by decide) q257 (Or.inl rfl) rfl rfl rfl rfl (Nat.le_of_ble_eq_true rfl) rfl dJ22_init_2 rfl ?_
  refine g_aload_n (q := 6) cx dJ22_init_5 rfl rfl ?_
  refine g_objInit (q := 9) cx q253 q87 q88 (by decide) (by decide) dJ22_init_6 rfl ?_
  refine g_aload_n (q := 10) cx dJ22_init_9 rfl rfl ?_
  refine g_iconst (q := 11) (v := iN (-1)) cx dJ22_init_10 rfl rfl ?_
  refine g_put (q := 14) (ws2 := [(it, .inr (5, [.int (iN 0), .int (iN (-1)), .int (iN 0), .ref al])), (al, .inr (4, [.int mcn, .ref da, .int (iN size)])), (da, .inl (T.2.1 5, cap, .inr (.inr (.inr (.inr el)))))]) cx hrw k_cJ22 0 rfl 1 (by decide) q255 (Or.inl rfl) rfl rfl rfl (Nat.le_of_ble_eq_true rfl) rfl dJ22_init_11 rfl ?_
  refine g_aload_n (q := 15) cx dJ22_init_14 rfl rfl ?_
  refine g_aload_n (q := 16) cx dJ22_init_15 rfl rfl ?_
  refine g_get (q := 19) cx k_cJ22 0 rfl 3 (by decide) q257 (Or.inl rfl) rfl dJ22_init_16 rfl ?_
  refine g_get (q := 22) cx k_cJ2 1 rfl 0 (by decide) q108 (Or.inr q109) rfl dJ22_init_19 rfl ?_
  refine g_put (q := 25) (ws2 := [(it, .inr (5, [.int (iN 0), .int (iN (-1)), .int mcn, .ref al])), (al, .inr (4, [.int mcn, .ref da, .int (iN size)])), (da, .inl (T.2.1 5, cap, .inr (.inr (.inr (.inr el)))))]) cx hrw k_cJ22 0 rfl 2 (by decide) q256 (Or.inl rfl) rfl rfl rfl (Nat.le_of_ble_eq_true rfl) rfl dJ22_init_22 rfl ?_
  exact g_vretW cx hr ⟨rfl, rfl, vc⟩ (by first | exact Nat.le_of_ble_eq_true rfl | omega) (by first | exact Nat.le_of_ble_eq_true rfl | omega) dJ22_init_25

theorem k_J22_init (l : Launch) (hlt : l.stackTraces = false) (T : GT) (it : Nat) (al : Nat) (da : Nat) (mcn : Int32) (size : Int) (cap : Nat) (el : Nat → Option Nat)  : MW l T yJ22_init cJ22_init 2 none ({ frames := 1, cells := 0, slots := 0, locals := 12 }) [.ref it, .ref al] [(it, .inr (5, [.int (iN 0), .int (iN 0), .int (iN 0), .null])), (al, .inr (4, [.int mcn, .ref da, .int (iN size)])), (da, .inl (T.2.1 5, cap, .inr (.inr (.inr (.inr el)))))] (fun v_ wn_ => v_ = none ∧ wn_ = [(it, .inr (5, [.int (iN 0), .int (iN (-1)), .int mcn, .ref al])), (al, .inr (4, [.int mcn, .ref da, .int (iN size)])), (da, .inl (T.2.1 5, cap, .inr (.inr (.inr (.inr el)))))] ∧ True) 0 0 := by
  exact w_J22_init l hlt T it al da mcn size cap el _ trivial

set_option maxRecDepth 100000 in
set_option maxHeartbeats 4000000 in
theorem w_J2_iterator (l : Launch) (hlt : l.stackTraces = false) (T : GT) (al : Nat) (da : Nat) (mcn : Int32) (size : Int) (cap : Nat) (el : Nat → Option Nat)  (post : Nat → Prop) (v0_ : ∀ (a_1 : Nat), post a_1)  : MW l T yJ2_iterator cJ2_iterator 1 (some (.object "java/util/Iterator")) ({ frames := 2, cells := 1, slots := 4, locals := 33 }) [.ref al] [(al, .inr (4, [.int mcn, .ref da, .int (iN size)])), (da, .inl (T.2.1 5, cap, .inr (.inr (.inr (.inr el)))))] (fun v_ wn_ => ∃ (it : Nat), v_ = some (.ref it) ∧ wn_ = [(al, .inr (4, [.int mcn, .ref da, .int (iN size)])), (da, .inl (T.2.1 5, cap, .inr (.inr (.inr (.inr el))))), (it, .inr (5, [.int (iN 0), .int (iN (-1)), .int mcn, .ref al]))] ∧ post it) 1 4 := by
  refine MW.start hlt (by decide) (lv0 := [some (.ref al)]) rfl (Nat.le_of_ble_eq_true rfl) rfl ?_
  intro p e R s m args below meth c A cx hr hnm hST hrw
  have vc := v0_
  refine g_new (q := 3) (fs := [.int (iN 0), .int (iN 0), .int (iN 0), .null]) cx hrw k_cJ22 q248 q249 q79 (by intro j hj; match j, hj with | 0, _ => rfl | 1, _ => rfl | 2, _ => rfl | 3, _ => rfl | n + 4, h => exact absurd h (by omega)) (by decide) (by decide) dJ2_iterator_0 rfl (fun a_1 => ?_)
  refine g_cs (cells2 := 1) (slots2 := 4) (ws2 := [(al, .inr (4, [.int mcn, .ref da, .int (iN size)])), (da, .inl (T.2.1 5, cap, .inr (.inr (.inr (.inr el))))), (a_1, .inr (5, [.int (iN 0), .int (iN 0), .int (iN 0), .null]))]) rfl rfl rfl ?_
  have vc := vc a_1
  refine g_dup (q := 4) cx dJ2_iterator_3 rfl rfl ?_
  refine g_aload_n (q := 5) cx dJ2_iterator_4 rfl rfl ?_
  refine g_cIw (q := 8) (b := a_1) (As := [.ref al]) (wr := []) (st := [.ref a_1]) cx hST hrw (k_J22_init l hlt T a_1 al da mcn size cap el) q250 s_J22_init rfl (g_perm [2, 0, 1] rfl rfl) (g_rmB rfl) (Nat.le_of_ble_eq_true rfl) dJ2_iterator_5 rfl (fun v_ wn_ hv_ => ?_)
  obtain ⟨rfl, rfl, e_2⟩ := hv_
  refine g_wp (ws2 := [(al, .inr (4, [.int mcn, .ref da, .int (iN size)])), (da, .inl (T.2.1 5, cap, .inr (.inr (.inr (.inr el))))), (a_1, .inr (5, [.int (iN 0), .int (iN (-1)), .int mcn, .ref al]))]) (g_perm [1, 2, 0] rfl rfl) ?_
  refine g_cs (cells2 := 1) (slots2 := 4) (ws2 := [(al, .inr (4, [.int mcn, .ref da, .int (iN size)])), (da, .inl (T.2.1 5, cap, .inr (.inr (.inr (.inr el))))), (a_1, .inr (5, [.int (iN 0), .int (iN (-1)), .int mcn, .ref al]))]) rfl rfl rfl ?_
  refine g_st (st2 := [.ref a_1]) rfl ?_
  exact g_aretW cx hr (Or.inl ⟨_, rfl⟩) ⟨a_1, rfl, rfl, vc⟩ (by first | exact Nat.le_of_ble_eq_true rfl | omega) (by first | exact Nat.le_of_ble_eq_true rfl | omega) dJ2_iterator_8

theorem k_J2_iterator (l : Launch) (hlt : l.stackTraces = false) (T : GT) (al : Nat) (da : Nat) (mcn : Int32) (size : Int) (cap : Nat) (el : Nat → Option Nat)  : MW l T yJ2_iterator cJ2_iterator 1 (some (.object "java/util/Iterator")) ({ frames := 2, cells := 1, slots := 4, locals := 33 }) [.ref al] [(al, .inr (4, [.int mcn, .ref da, .int (iN size)])), (da, .inl (T.2.1 5, cap, .inr (.inr (.inr (.inr el)))))] (fun v_ wn_ => ∃ (it : Nat), v_ = some (.ref it) ∧ wn_ = [(al, .inr (4, [.int mcn, .ref da, .int (iN size)])), (da, .inl (T.2.1 5, cap, .inr (.inr (.inr (.inr el))))), (it, .inr (5, [.int (iN 0), .int (iN (-1)), .int mcn, .ref al]))] ∧ True) 1 4 := by
  exact w_J2_iterator l hlt T al da mcn size cap el _ (fun _ => trivial)

set_option maxRecDepth 100000 in
set_option maxHeartbeats 4000000 in
theorem w_J22_checkForComodification (l : Launch) (hlt : l.stackTraces = false) (T : GT) (it : Nat) (al : Nat) (da : Nat) (mcn : Int32) (size : Int) (cap : Nat) (el : Nat → Option Nat) (cu : Int) (la : Int)  (post : Prop) (v0_ : (mcn = mcn → (post)) ∧ (¬ mcn = mcn → (False)))  : MR l T yJ22_checkForComodification cJ22_checkForComodification 1 none ({ frames := 0, cells := 0, slots := 0, locals := 0 }) [.ref it] [(it, .inr (5, [.int (iN cu), .int (iN la), .int mcn, .ref al])), (al, .inr (4, [.int mcn, .ref da, .int (iN size)])), (da, .inl (T.2.1 5, cap, .inr (.inr (.inr (.inr el)))))] (fun v_ => v_ = none ∧ post) := by
  refine MR.start hlt (by decide) (lv0 := [some (.ref it)]) rfl (Nat.le_of_ble_eq_true rfl) rfl ?_
  intro p e R s m args below meth c cx hr hST
  have vc := v0_
  refine g_aload_n (q := 1) cx dJ22_checkForComodification_0 rfl rfl ?_
  refine g_get (q := 4) cx k_cJ22 0 rfl 3 (by decide) q257 (Or.inl rfl) rfl dJ22_checkForComodification_1 rfl ?_
  refine g_get (q := 7) cx k_cJ2 1 rfl 0 (by decide) q108 (Or.inr q109) rfl dJ22_checkForComodification_4 rfl ?_
  refine g_aload_n (q := 8) cx dJ22_checkForComodification_7 rfl rfl ?_
  refine g_get (q := 11) cx k_cJ22 0 rfl 2 (by decide) q256 (Or.inl rfl) rfl dJ22_checkForComodification_8 rfl ?_
  refine g_icmp_eq (q := 14) (tg := 22) cx dJ22_checkForComodification_11 (by decide) rfl (fun h_1 => ?_) (fun h_1 => ?_)
  · have vc := vc.1 h_1
    exact g_vretR cx hr ⟨rfl, vc⟩ dJ22_checkForComodification_22
  · have vc := vc.2 h_1
    exact vc.elim

theorem k_J22_checkForComodification (l : Launch) (hlt : l.stackTraces = false) (T : GT) (it : Nat) (al : Nat) (da : Nat) (mcn : Int32) (size : Int) (cap : Nat) (el : Nat → Option Nat) (cu : Int) (la : Int)  : MR l T yJ22_checkForComodification cJ22_checkForComodification 1 none ({ frames := 0, cells := 0, slots := 0, locals := 0 }) [.ref it] [(it, .inr (5, [.int (iN cu), .int (iN la), .int mcn, .ref al])), (al, .inr (4, [.int mcn, .ref da, .int (iN size)])), (da, .inl (T.2.1 5, cap, .inr (.inr (.inr (.inr el)))))] (fun v_ => v_ = none ∧ True) := by
  exact w_J22_checkForComodification l hlt T it al da mcn size cap el cu la _ ⟨fun _ => trivial, fun h => absurd rfl h⟩

set_option maxRecDepth 100000 in
set_option maxHeartbeats 4000000 in
theorem w_J22_hasNext (l : Launch) (hlt : l.stackTraces = false) (T : GT) (it : Nat) (al : Nat) (da : Nat) (mcn : Int32) (size : Int) (cap : Nat) (el : Nat → Option Nat) (cu : Int) (la : Int)  (post : Bool → Prop) (v0_ : (-2147483648 ≤ cu ∧ cu < 2147483648) ∧ ((-2147483648 ≤ size ∧ size < 2147483648) ∧ ((cu = size → (post false)) ∧ (¬ cu = size → (post true)))))  : MR l T yJ22_hasNext cJ22_hasNext 1 (some .boolean) ({ frames := 0, cells := 0, slots := 0, locals := 0 }) [.ref it] [(it, .inr (5, [.int (iN cu), .int (iN la), .int mcn, .ref al])), (al, .inr (4, [.int mcn, .ref da, .int (iN size)])), (da, .inl (T.2.1 5, cap, .inr (.inr (.inr (.inr el)))))] (fun v_ => ∃ (b : Bool), v_ = some (.int (bI b)) ∧ post b) := by
  refine MR.start hlt (by decide) (lv0 := [some (.ref it)]) rfl (Nat.le_of_ble_eq_true rfl) rfl ?_
  intro p e R s m args below meth c cx hr hST
  have vc := v0_
  refine g_aload_n (q := 1) cx dJ22_hasNext_0 rfl rfl ?_
  refine g_get (q := 4) cx k_cJ22 0 rfl 0 (by decide) q254 (Or.inl rfl) rfl dJ22_hasNext_1 rfl ?_
  refine g_aload_n (q := 5) cx dJ22_hasNext_4 rfl rfl ?_
  refine g_get (q := 8) cx k_cJ22 0 rfl 3 (by decide) q257 (Or.inl rfl) rfl dJ22_hasNext_5 rfl ?_
  refine g_getN (q := 11) cx k_cJ2 1 rfl 2 (by decide) q105 (Or.inl rfl) rfl dJ22_hasNext_8 rfl ?_
  refine g_icmp_eqZ (q := 14) (tg := 18) cx vc.1 vc.2.1 dJ22_hasNext_11 (by decide) rfl (fun h_1 => ?_) (fun h_1 => ?_)
  · have vc := vc.2.2.1 h_1
    refine g_iconst (q := 19) (v := iN 0) cx dJ22_hasNext_18 rfl rfl ?_
    exact g_iretR cx hr (by decide) ⟨false, rfl, vc⟩ dJ22_hasNext_19
  · have vc := vc.2.2.2 h_1
    refine g_iconst (q := 15) (v := iN 1) cx dJ22_hasNext_14 rfl rfl ?_
    refine g_goto (q := 19) cx dJ22_hasNext_15 (by decide) ?_
    exact g_iretR cx hr (by decide) ⟨true, rfl, vc⟩ dJ22_hasNext_19

theorem k_J22_hasNext (l : Launch) (hlt : l.stackTraces = false) (T : GT) (it : Nat) (al : Nat) (da : Nat) (mcn : Int32) (size : Int) (cap : Nat) (el : Nat → Option Nat) (cu : Int) (la : Int) (hp0 : -2147483648 ≤ cu ∧ cu < 2147483648) (hp1 : -2147483648 ≤ size ∧ size < 2147483648) : MR l T yJ22_hasNext cJ22_hasNext 1 (some .boolean) ({ frames := 0, cells := 0, slots := 0, locals := 0 }) [.ref it] [(it, .inr (5, [.int (iN cu), .int (iN la), .int mcn, .ref al])), (al, .inr (4, [.int mcn, .ref da, .int (iN size)])), (da, .inl (T.2.1 5, cap, .inr (.inr (.inr (.inr el)))))] (fun v_ => ∃ (b : Bool), v_ = some (.int (bI b)) ∧ b = (!decide (cu = size))) := by
  refine w_J22_hasNext l hlt T it al da mcn size cap el cu la _ ⟨hp0, hp1, fun h => ?_, fun h => ?_⟩
  · rw [decide_eq_true h]; rfl
  · rw [decide_eq_false h]; rfl

set_option maxRecDepth 100000 in
set_option maxHeartbeats 4000000 in
theorem w_J22_next (l : Launch) (hlt : l.stackTraces = false) (T : GT) (it : Nat) (al : Nat) (da : Nat) (mcn : Int32) (size : Int) (cap : Nat) (el : Nat → Option Nat) (cu : Int) (la : Int) (y : Nat)  (post : Nat → Prop) (v0_ : (-2147483648 ≤ cu ∧ cu < 2147483648) ∧ ((-2147483648 ≤ size ∧ size < 2147483648) ∧ ((cu < size → ((-2147483648 ≤ cu ∧ cu < 2147483648) ∧ ((-2147483648 ≤ ((cap : Nat) : Int) ∧ ((cap : Nat) : Int) < 2147483648) ∧ ((cu < ((cap : Nat) : Int) → ((0 ≤ cu ∧ cu < cap) ∧ ((el cu.toNat = some y) ∧ ((cap < 2147483648) ∧ (post y))))) ∧ (((cap : Nat) : Int) ≤ cu → (False)))))) ∧ (size ≤ cu → (False)))))  : MW l T yJ22_next cJ22_next 3 (some (.object "java/lang/Object")) ({ frames := 1, cells := 0, slots := 0, locals := 20 }) [.ref it] [(it, .inr (5, [.int (iN cu), .int (iN la), .int mcn, .ref al])), (al, .inr (4, [.int mcn, .ref da, .int (iN size)])), (da, .inl (T.2.1 5, cap, .inr (.inr (.inr (.inr el)))))] (fun v_ wn_ => ∃ (v : Nat), v_ = some (.ref v) ∧ wn_ = [(it, .inr (5, [.int (iN (cu + 1)), .int (iN cu), .int mcn, .ref al])), (al, .inr (4, [.int mcn, .ref da, .int (iN size)])), (da, .inl (T.2.1 5, cap, .inr (.inr (.inr (.inr el)))))] ∧ post v) 0 0 := by
  refine MW.start hlt (by decide) (lv0 := [some (.ref it), none, none]) rfl (Nat.le_of_ble_eq_true rfl) rfl ?_
  intro p e R s m args below meth c A cx hr hnm hST hrw
  have vc := v0_
  refine g_aload_n (q := 1) cx dJ22_next_0 rfl rfl ?_
  refine g_cVr (q := 4) (b := it) (As := []) (wr := []) (st := []) cx hST (k_J22_checkForComodification l hlt T it al da mcn size cap el cu la) q286 s_J22_checkForComodification rfl 0 rfl rfl g_perm1 (g_rmB rfl) (Nat.le_of_ble_eq_true rfl) dJ22_next_1 rfl (fun v_ hv_ => ?_)
  obtain ⟨rfl, e_1⟩ := hv_
  refine g_st (st2 := []) rfl ?_
  refine g_aload_n (q := 5) cx dJ22_next_4 rfl rfl ?_
  refine g_get (q := 8) cx k_cJ22 0 rfl 0 (by decide) q254 (Or.inl rfl) rfl dJ22_next_5 rfl ?_
  refine g_istore_n (q := 9) (lv2 := [some (.ref it), some (.int (iN cu)), none]) cx dJ22_next_8 rfl (by decide) rfl rfl ?_
  refine g_iload_n (q := 10) cx dJ22_next_9 rfl rfl ?_
  refine g_aload_n (q := 11) cx dJ22_next_10 rfl rfl ?_
  refine g_get (q := 14) cx k_cJ22 0 rfl 3 (by decide) q257 (Or.inl rfl) rfl dJ22_next_11 rfl ?_
  refine g_getN (q := 17) cx k_cJ2 1 rfl 2 (by decide) q105 (Or.inl rfl) rfl dJ22_next_14 rfl ?_
  refine g_icmp_ltZ (q := 20) (tg := 28) cx vc.1 vc.2.1 dJ22_next_17 (by decide) rfl (fun h_2 => ?_) (fun h_2 => ?_)
  · have vc := vc.2.2.1 h_2
    refine g_aload_n (q := 29) cx dJ22_next_28 rfl rfl ?_
    refine g_get (q := 32) cx k_cJ22 0 rfl 3 (by decide) q257 (Or.inl rfl) rfl dJ22_next_29 rfl ?_
    refine g_get (q := 35) cx k_cJ2 1 rfl 1 (by decide) q104 (Or.inl rfl) rfl dJ22_next_32 rfl ?_
    refine g_astore_n (q := 36) (lv2 := [some (.ref it), some (.int (iN cu)), some (.ref da)]) cx dJ22_next_35 rfl (by decide) rfl rfl ?_
    refine g_iload_n (q := 37) cx dJ22_next_36 rfl rfl ?_
    refine g_aload_n (q := 38) cx dJ22_next_37 rfl rfl ?_
    refine g_alenZ (q := 39) cx 2 5 rfl rfl dJ22_next_38 rfl ?_
    refine g_st (st2 := [.int (iN ((cap : Nat) : Int)), .int (iN cu)]) rfl ?_
    refine g_icmp_ltZ (q := 42) (tg := 50) cx vc.1 vc.2.1 dJ22_next_39 (by decide) rfl (fun h_3 => ?_) (fun h_3 => ?_)
    · have vc := vc.2.2.1 h_3
      refine g_aload_n (q := 51) cx dJ22_next_50 rfl rfl ?_
      refine g_iload_n (q := 52) cx dJ22_next_51 rfl rfl ?_
      refine g_iconst (q := 53) (v := iN 1) cx dJ22_next_52 rfl rfl ?_
      refine g_iaddZ (q := 54) cx dJ22_next_53 rfl ?_
      refine g_put (q := 57) (ws2 := [(it, .inr (5, [.int (iN (cu + 1)), .int (iN la), .int mcn, .ref al])), (al, .inr (4, [.int mcn, .ref da, .int (iN size)])), (da, .inl (T.2.1 5, cap, .inr (.inr (.inr (.inr el)))))]) cx hrw k_cJ22 0 rfl 0 (by decide) q254 (Or.inl rfl) rfl rfl rfl (Nat.le_of_ble_eq_true rfl) rfl dJ22_next_54 rfl ?_
      refine g_aload_n (q := 58) cx dJ22_next_57 rfl rfl ?_
      refine g_aload_n (q := 59) cx dJ22_next_58 rfl rfl ?_
      refine g_iload_n (q := 60) cx dJ22_next_59 rfl rfl ?_
      refine g_dup_x1 (q := 61) cx dJ22_next_60 rfl rfl rfl ?_
      refine g_put (q := 64) (ws2 := [(it, .inr (5, [.int (iN (cu + 1)), .int (iN cu), .int mcn, .ref al])), (al, .inr (4, [.int mcn, .ref da, .int (iN size)])), (da, .inl (T.2.1 5, cap, .inr (.inr (.inr (.inr el)))))]) cx hrw k_cJ22 0 rfl 1 (by decide) q255 (Or.inl rfl) rfl rfl rfl (Nat.le_of_ble_eq_true rfl) rfl dJ22_next_61 rfl ?_
      refine g_aaldM (q := 65) (y := y) cx 5 vc.2.2.1 (List.mem_of_getElem? (i := 2) rfl) rfl (Or.inl ⟨_, rfl⟩) vc.1 vc.2.1 dJ22_next_64 rfl ?_
      have vc := vc.2
      have vc := vc.2
      have vc := vc.2
      exact g_aretW cx hr (Or.inl ⟨_, rfl⟩) ⟨y, rfl, rfl, vc⟩ (by first | exact Nat.le_of_ble_eq_true rfl | omega) (by first | exact Nat.le_of_ble_eq_true rfl | omega) dJ22_next_65
    · have vc := vc.2.2.2 h_3
      exact vc.elim
  · have vc := vc.2.2.2 h_2
    exact vc.elim

theorem k_J22_next (l : Launch) (hlt : l.stackTraces = false) (T : GT) (it : Nat) (al : Nat) (da : Nat) (mcn : Int32) (size : Int) (cap : Nat) (el : Nat → Option Nat) (cu : Int) (la : Int) (y : Nat) (hp0 : 0 ≤ cu ∧ cu < size) (hp1 : -2147483648 ≤ size ∧ size < 2147483648) (hp2 : size ≤ cap) (hp3 : cap < 2147483648) (hp4 : el cu.toNat = some y) : MW l T yJ22_next cJ22_next 3 (some (.object "java/lang/Object")) ({ frames := 1, cells := 0, slots := 0, locals := 20 }) [.ref it] [(it, .inr (5, [.int (iN cu), .int (iN la), .int mcn, .ref al])), (al, .inr (4, [.int mcn, .ref da, .int (iN size)])), (da, .inl (T.2.1 5, cap, .inr (.inr (.inr (.inr el)))))] (fun v_ wn_ => ∃ (v : Nat), v_ = some (.ref v) ∧ wn_ = [(it, .inr (5, [.int (iN (cu + 1)), .int (iN cu), .int mcn, .ref al])), (al, .inr (4, [.int mcn, .ref da, .int (iN size)])), (da, .inl (T.2.1 5, cap, .inr (.inr (.inr (.inr el)))))] ∧ v = y) 0 0 := by
  exact w_J22_next l hlt T it al da mcn size cap el cu la y _ ⟨by omega, hp1, fun h => ⟨by omega, by omega, fun _ => ⟨by omega, hp4, hp3, rfl⟩, fun h => by omega⟩, fun h => by omega⟩
