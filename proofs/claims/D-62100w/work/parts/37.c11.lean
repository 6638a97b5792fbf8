set_option maxHeartbeats 1000000 in
theorem c_Ker_load_full (X : gCx) (l : Launch) (s : sS) (x : Nat) (thr : Int32) (pg : Int32) (hx : gk s.1 x = 1) (hfl : gMi X l (HoldP X (Abs X)) M_Ker_full 3 0 0 [.ref x, .int thr] s (nI 1) s)  : gMi X l (HoldP X (Abs X)) M_Ker_load 6 4 29 [.ref x, .int thr, .int pg] s (-1) s := by
  refine gM_intro (by decide) (Nat.le_of_ble_eq_true rfl) (fun K hK => ?_)
  show K 0 [(0, .ref x), (1, .int thr), (2, .int pg)] [] s 4 29
  refine r_aload_n hK d_Ker_load_0 rfl 0 rfl ?_
  refine r_iload_n hK d_Ker_load_1 rfl 1 rfl ?_
  refine r_callVi (As := [.int thr]) (b := x) (st := []) hK (hfl) d_Ker_load_2 ml_Ker_66 cv_Ker_full rfl (by decide) (p_recv k_Ker (fun g h => h.kd hx (by decide))) (Nat.le_of_ble_eq_true rfl) ?_ rfl
  refine r_nif_ne (a := 1) (tgt := 16) hK d_Ker_load_5 (by decide) (by decide) (fun _ => ?_) (fun z => absurd z (by decide))
  refine r_iconst (v := -1) hK d_Ker_load_16 (by decide) ?_
  refine r_goto (tgt := 34) hK d_Ker_load_17 (by decide) ?_
  refine r_iret hK d_Ker_load_34 rfl (rfl) ?_
  exact ⟨rfl, rfl⟩
set_option maxHeartbeats 1000000 in
theorem c_Ker_load_bad (X : gCx) (l : Launch) (s : sS) (x : Nat) (thr : Int32) (pg : Int32) (hx : gk s.1 x = 1) (hb : s_Mod_noRange pg (nI 1) ≠ 0) (hfl : gMi X l (HoldP X (Abs X)) M_Ker_full 3 0 0 [.ref x, .int thr] s (nI 0) s)  : gMi X l (HoldP X (Abs X)) M_Ker_load 6 4 29 [.ref x, .int thr, .int pg] s (-1) s := by
  refine gM_intro (by decide) (Nat.le_of_ble_eq_true rfl) (fun K hK => ?_)
  show K 0 [(0, .ref x), (1, .int thr), (2, .int pg)] [] s 4 29
  refine r_aload_n hK d_Ker_load_0 rfl 0 rfl ?_
  refine r_iload_n hK d_Ker_load_1 rfl 1 rfl ?_
  refine r_callVi (As := [.int thr]) (b := x) (st := []) hK (hfl) d_Ker_load_2 ml_Ker_66 cv_Ker_full rfl (by decide) (p_recv k_Ker (fun g h => h.kd hx (by decide))) (Nat.le_of_ble_eq_true rfl) ?_ rfl
  refine r_nif_ne (a := 0) (tgt := 16) hK d_Ker_load_5 (by decide) (by decide) (fun z => absurd z (by decide)) (fun _ => ?_)
  refine r_iload_n hK d_Ker_load_8 rfl 2 rfl ?_
  refine r_iconst (v := nI 1) hK d_Ker_load_9 (by decide) ?_
  refine r_callSi (As := [.int pg, .int (nI 1)]) (st := []) hK (c_Ker_noRange X l s pg (nI 1)) d_Ker_load_10 ml_Ker_70 cs_Ker_noRange rfl (by decide) (Nat.le_of_ble_eq_true rfl) ?_ rfl
  refine r_if_eq (tgt := 20) hK d_Ker_load_13 (by decide) (fun z => False.elim (hb z)) (fun c13 => ?_)
  refine r_iconst (v := -1) hK d_Ker_load_16 (by decide) ?_
  refine r_goto (tgt := 34) hK d_Ker_load_17 (by decide) ?_
  refine r_iret hK d_Ker_load_34 rfl (rfl) ?_
  exact ⟨rfl, rfl⟩
set_option maxHeartbeats 1000000 in
theorem c_Ker_load (X : gCx) (l : Launch) (s : sS) (s2 : sS) (x o : Nat) (thr r : Int32) (pg : Int32) (hx : gk s.1 x = 1) (ho : gx s.1 = o) (n0 : x ≠ o) (hb : s_Mod_noRange pg (nI 1) = nI 0) (hfl : gMi X l (HoldP X (Abs X)) M_Ker_full 3 0 0 [.ref x, .int thr] s (nI 0) s) (hen : gMi X l (HoldP X (Abs X)) M_Ker_enlist 5 2 12 [.ref x, .int thr, .ref o] (sSetI (sSetI (sSetR (sSetI (sNew s 9) 40 o (-1)) 39 o (some (cxE X 0))) 37 o pg) 38 o (-1)) r s2) : gMi X l (HoldP X (Abs X)) M_Ker_load 6 4 29 [.ref x, .int thr, .int pg] s r s2 := by
  refine gM_intro (by decide) (Nat.le_of_ble_eq_true rfl) (fun K hK => ?_)
  show K 0 [(0, .ref x), (1, .int thr), (2, .int pg)] [] s 4 29
  refine r_aload_n hK d_Ker_load_0 rfl 0 rfl ?_
  refine r_iload_n hK d_Ker_load_1 rfl 1 rfl ?_
  refine r_callVi (As := [.int thr]) (b := x) (st := []) hK (hfl) d_Ker_load_2 ml_Ker_66 cv_Ker_full rfl (by decide) (p_recv k_Ker (fun g h => h.kd hx (by decide))) (Nat.le_of_ble_eq_true rfl) ?_ rfl
  refine r_nif_ne (a := 0) (tgt := 16) hK d_Ker_load_5 (by decide) (by decide) (fun z => absurd z (by decide)) (fun _ => ?_)
  refine r_iload_n hK d_Ker_load_8 rfl 2 rfl ?_
  refine r_iconst (v := nI 1) hK d_Ker_load_9 (by decide) ?_
  refine r_callSi (As := [.int pg, .int (nI 1)]) (st := []) hK (c_Ker_noRange X l s pg (nI 1)) d_Ker_load_10 ml_Ker_70 cs_Ker_noRange rfl (by decide) (Nat.le_of_ble_eq_true rfl) ?_ rfl
  refine r_tp (b := nI 0) (hb) ?_
  refine r_nif_eq (a := 0) (tgt := 20) hK d_Ker_load_13 (by decide) (by decide) (fun _ => ?_) (fun z => absurd z (by decide))
  refine r_aload_n hK d_Ker_load_20 rfl 0 rfl ?_
  refine r_iload_n hK d_Ker_load_21 rfl 1 rfl ?_
  refine p_new (ci := 9) (a := o) hK d_Ker_load_22 k_Access cl_Ker_74 in_Access ii_Access (fun g h => h.new ho (by decide) (by decide)) ?_
  refine r_dup hK d_Ker_load_25 rfl ?_
  refine r_iload_n hK d_Ker_load_26 rfl 2 rfl ?_
  refine r_iconst (v := -1) hK d_Ker_load_27 (by decide) ?_
  refine r_callIv (As := [.int pg, .int (-1)]) (b := o) (st := [.ref o, .int thr, .ref x]) hK (c_Access_init X l (sNew s 9) o pg (-1) (by simp [sSetI, sSetR, sSetA, sSetB, sSetQ, sSetL, sSetT, sNew, sNewA, sNewL, sPush, sBump, sBegL, sPutT, sAddL_g, sAddL_q, sAddL_r, sAddL_l, sq, sl, sr, gSetI, gSetR, gSetA, gSetB, gNew, gNewA, up2, up1, gx, gk, gl, gi, gr, ga, gb, ho])) d_Ker_load_28 ml_Ker_76 ci_Access_init rfl (by decide) (Nat.le_of_ble_eq_true rfl) ?_ rfl
  refine r_callVi (As := [.int thr, .ref o]) (b := x) (st := []) hK (hen) d_Ker_load_31 ml_Ker_79 cv_Ker_enlist rfl (by decide) (p_recv k_Ker (fun g h => h.kd (by simp [sSetI, sSetR, sSetA, sSetB, sSetQ, sSetL, sSetT, sNew, sNewA, sNewL, sPush, sBump, sBegL, sPutT, sAddL_g, sAddL_q, sAddL_r, sAddL_l, sq, sl, sr, gSetI, gSetR, gSetA, gSetB, gNew, gNewA, up2, up1, gx, gk, gl, gi, gr, ga, gb, ho, hx, n0]) (by decide))) (Nat.le_of_ble_eq_true rfl) ?_ rfl
  refine r_iret hK d_Ker_load_34 rfl (rfl) ?_
  exact ⟨rfl, rfl⟩
set_option maxHeartbeats 1000000 in
theorem c_Ker_store_full (X : gCx) (l : Launch) (s : sS) (x : Nat) (thr : Int32) (pg v : Int32) (hx : gk s.1 x = 1) (hfl : gMi X l (HoldP X (Abs X)) M_Ker_full 3 0 0 [.ref x, .int thr] s (nI 1) s)  : gMi X l (HoldP X (Abs X)) M_Ker_store 6 4 29 [.ref x, .int thr, .int pg, .int v] s (-1) s := by
  refine gM_intro (by decide) (Nat.le_of_ble_eq_true rfl) (fun K hK => ?_)
  show K 0 [(0, .ref x), (1, .int thr), (2, .int pg), (3, .int v)] [] s 4 29
  refine r_aload_n hK d_Ker_store_0 rfl 0 rfl ?_
  refine r_iload_n hK d_Ker_store_1 rfl 1 rfl ?_
  refine r_callVi (As := [.int thr]) (b := x) (st := []) hK (hfl) d_Ker_store_2 ml_Ker_66 cv_Ker_full rfl (by decide) (p_recv k_Ker (fun g h => h.kd hx (by decide))) (Nat.le_of_ble_eq_true rfl) ?_ rfl
  refine r_nif_ne (a := 1) (tgt := 27) hK d_Ker_store_5 (by decide) (by decide) (fun _ => ?_) (fun z => absurd z (by decide))
  refine r_iconst (v := -1) hK d_Ker_store_27 (by decide) ?_
  refine r_goto (tgt := 45) hK d_Ker_store_28 (by decide) ?_
  refine r_iret hK d_Ker_store_45 rfl (rfl) ?_
  exact ⟨rfl, rfl⟩
set_option maxHeartbeats 1000000 in
theorem c_Ker_store_bad (X : gCx) (l : Launch) (s : sS) (x : Nat) (thr : Int32) (pg v : Int32) (hx : gk s.1 x = 1) (hb : s_Mod_noRange pg (nI 1) ≠ 0) (hfl : gMi X l (HoldP X (Abs X)) M_Ker_full 3 0 0 [.ref x, .int thr] s (nI 0) s)  : gMi X l (HoldP X (Abs X)) M_Ker_store 6 4 29 [.ref x, .int thr, .int pg, .int v] s (-1) s := by
  refine gM_intro (by decide) (Nat.le_of_ble_eq_true rfl) (fun K hK => ?_)
  show K 0 [(0, .ref x), (1, .int thr), (2, .int pg), (3, .int v)] [] s 4 29
  refine r_aload_n hK d_Ker_store_0 rfl 0 rfl ?_
  refine r_iload_n hK d_Ker_store_1 rfl 1 rfl ?_
  refine r_callVi (As := [.int thr]) (b := x) (st := []) hK (hfl) d_Ker_store_2 ml_Ker_66 cv_Ker_full rfl (by decide) (p_recv k_Ker (fun g h => h.kd hx (by decide))) (Nat.le_of_ble_eq_true rfl) ?_ rfl
  refine r_nif_ne (a := 0) (tgt := 27) hK d_Ker_store_5 (by decide) (by decide) (fun z => absurd z (by decide)) (fun _ => ?_)
  refine r_iload_n hK d_Ker_store_8 rfl 2 rfl ?_
  refine r_iconst (v := nI 1) hK d_Ker_store_9 (by decide) ?_
  refine r_callSi (As := [.int pg, .int (nI 1)]) (st := []) hK (c_Ker_noRange X l s pg (nI 1)) d_Ker_store_10 ml_Ker_70 cs_Ker_noRange rfl (by decide) (Nat.le_of_ble_eq_true rfl) ?_ rfl
  refine r_if_ne (tgt := 27) hK d_Ker_store_13 (by decide) (fun c13 => ?_) (fun z => False.elim (hb z))
  refine r_iconst (v := -1) hK d_Ker_store_27 (by decide) ?_
  refine r_goto (tgt := 45) hK d_Ker_store_28 (by decide) ?_
  refine r_iret hK d_Ker_store_45 rfl (rfl) ?_
  exact ⟨rfl, rfl⟩
set_option maxHeartbeats 1000000 in
theorem c_Ker_store_neg (X : gCx) (l : Launch) (s : sS) (x : Nat) (thr : Int32) (pg v : Int32) (hx : gk s.1 x = 1) (hb : s_Mod_noRange pg (nI 1) = nI 0) (hv : v < 0) (hfl : gMi X l (HoldP X (Abs X)) M_Ker_full 3 0 0 [.ref x, .int thr] s (nI 0) s)  : gMi X l (HoldP X (Abs X)) M_Ker_store 6 4 29 [.ref x, .int thr, .int pg, .int v] s (-1) s := by
  refine gM_intro (by decide) (Nat.le_of_ble_eq_true rfl) (fun K hK => ?_)
  show K 0 [(0, .ref x), (1, .int thr), (2, .int pg), (3, .int v)] [] s 4 29
  refine r_aload_n hK d_Ker_store_0 rfl 0 rfl ?_
  refine r_iload_n hK d_Ker_store_1 rfl 1 rfl ?_
  refine r_callVi (As := [.int thr]) (b := x) (st := []) hK (hfl) d_Ker_store_2 ml_Ker_66 cv_Ker_full rfl (by decide) (p_recv k_Ker (fun g h => h.kd hx (by decide))) (Nat.le_of_ble_eq_true rfl) ?_ rfl
  refine r_nif_ne (a := 0) (tgt := 27) hK d_Ker_store_5 (by decide) (by decide) (fun z => absurd z (by decide)) (fun _ => ?_)
  refine r_iload_n hK d_Ker_store_8 rfl 2 rfl ?_
  refine r_iconst (v := nI 1) hK d_Ker_store_9 (by decide) ?_
  refine r_callSi (As := [.int pg, .int (nI 1)]) (st := []) hK (c_Ker_noRange X l s pg (nI 1)) d_Ker_store_10 ml_Ker_70 cs_Ker_noRange rfl (by decide) (Nat.le_of_ble_eq_true rfl) ?_ rfl
  refine r_tp (b := nI 0) (hb) ?_
  refine r_nif_ne (a := 0) (tgt := 27) hK d_Ker_store_13 (by decide) (by decide) (fun z => absurd z (by decide)) (fun _ => ?_)
  refine r_iload_n hK d_Ker_store_16 rfl 3 rfl ?_
  refine r_if_lt (tgt := 27) hK d_Ker_store_17 (by decide) (fun c17 => ?_) (fun z => False.elim (z hv))
  refine r_iconst (v := -1) hK d_Ker_store_27 (by decide) ?_
  refine r_goto (tgt := 45) hK d_Ker_store_28 (by decide) ?_
  refine r_iret hK d_Ker_store_45 rfl (rfl) ?_
  exact ⟨rfl, rfl⟩
set_option maxHeartbeats 1000000 in
theorem c_Ker_store_big (X : gCx) (l : Launch) (s : sS) (x : Nat) (thr : Int32) (pg v : Int32) (hx : gk s.1 x = 1) (hb : s_Mod_noRange pg (nI 1) = nI 0) (hv0 : ¬ v < 0) (hv : ¬ v ≤ nI 999) (hfl : gMi X l (HoldP X (Abs X)) M_Ker_full 3 0 0 [.ref x, .int thr] s (nI 0) s)  : gMi X l (HoldP X (Abs X)) M_Ker_store 6 4 29 [.ref x, .int thr, .int pg, .int v] s (-1) s := by
  refine gM_intro (by decide) (Nat.le_of_ble_eq_true rfl) (fun K hK => ?_)
  show K 0 [(0, .ref x), (1, .int thr), (2, .int pg), (3, .int v)] [] s 4 29
  refine r_aload_n hK d_Ker_store_0 rfl 0 rfl ?_
  refine r_iload_n hK d_Ker_store_1 rfl 1 rfl ?_
  refine r_callVi (As := [.int thr]) (b := x) (st := []) hK (hfl) d_Ker_store_2 ml_Ker_66 cv_Ker_full rfl (by decide) (p_recv k_Ker (fun g h => h.kd hx (by decide))) (Nat.le_of_ble_eq_true rfl) ?_ rfl
  refine r_nif_ne (a := 0) (tgt := 27) hK d_Ker_store_5 (by decide) (by decide) (fun z => absurd z (by decide)) (fun _ => ?_)
  refine r_iload_n hK d_Ker_store_8 rfl 2 rfl ?_
  refine r_iconst (v := nI 1) hK d_Ker_store_9 (by decide) ?_
  refine r_callSi (As := [.int pg, .int (nI 1)]) (st := []) hK (c_Ker_noRange X l s pg (nI 1)) d_Ker_store_10 ml_Ker_70 cs_Ker_noRange rfl (by decide) (Nat.le_of_ble_eq_true rfl) ?_ rfl
  refine r_tp (b := nI 0) (hb) ?_
  refine r_nif_ne (a := 0) (tgt := 27) hK d_Ker_store_13 (by decide) (by decide) (fun z => absurd z (by decide)) (fun _ => ?_)
  refine r_iload_n hK d_Ker_store_16 rfl 3 rfl ?_
  refine r_if_lt (tgt := 27) hK d_Ker_store_17 (by decide) (fun z => False.elim (hv0 z)) (fun c17 => ?_)
  refine r_iload_n hK d_Ker_store_20 rfl 3 rfl ?_
  refine r_sipush (v := nI 999) hK d_Ker_store_21 (by decide) ?_
  refine r_icmp_le (tgt := 31) hK d_Ker_store_24 (by decide) (fun z => False.elim (hv z)) (fun c24 => ?_)
  refine r_iconst (v := -1) hK d_Ker_store_27 (by decide) ?_
  refine r_goto (tgt := 45) hK d_Ker_store_28 (by decide) ?_
  refine r_iret hK d_Ker_store_45 rfl (rfl) ?_
  exact ⟨rfl, rfl⟩
set_option maxHeartbeats 1000000 in
theorem c_Ker_store (X : gCx) (l : Launch) (s : sS) (s2 : sS) (x o : Nat) (thr r : Int32) (pg v : Int32) (hx : gk s.1 x = 1) (ho : gx s.1 = o) (n0 : x ≠ o) (hb : s_Mod_noRange pg (nI 1) = nI 0) (hv0 : ¬ v < 0) (hv : v ≤ nI 999) (hfl : gMi X l (HoldP X (Abs X)) M_Ker_full 3 0 0 [.ref x, .int thr] s (nI 0) s) (hen : gMi X l (HoldP X (Abs X)) M_Ker_enlist 5 2 12 [.ref x, .int thr, .ref o] (sSetI (sSetI (sSetR (sSetI (sNew s 9) 40 o (-1)) 39 o (some (cxE X 0))) 37 o pg) 38 o v) r s2) : gMi X l (HoldP X (Abs X)) M_Ker_store 6 4 29 [.ref x, .int thr, .int pg, .int v] s r s2 := by
  refine gM_intro (by decide) (Nat.le_of_ble_eq_true rfl) (fun K hK => ?_)
  show K 0 [(0, .ref x), (1, .int thr), (2, .int pg), (3, .int v)] [] s 4 29
  refine r_aload_n hK d_Ker_store_0 rfl 0 rfl ?_
  refine r_iload_n hK d_Ker_store_1 rfl 1 rfl ?_
  refine r_callVi (As := [.int thr]) (b := x) (st := []) hK (hfl) d_Ker_store_2 ml_Ker_66 cv_Ker_full rfl (by decide) (p_recv k_Ker (fun g h => h.kd hx (by decide))) (Nat.le_of_ble_eq_true rfl) ?_ rfl
  refine r_nif_ne (a := 0) (tgt := 27) hK d_Ker_store_5 (by decide) (by decide) (fun z => absurd z (by decide)) (fun _ => ?_)
  refine r_iload_n hK d_Ker_store_8 rfl 2 rfl ?_
  refine r_iconst (v := nI 1) hK d_Ker_store_9 (by decide) ?_
  refine r_callSi (As := [.int pg, .int (nI 1)]) (st := []) hK (c_Ker_noRange X l s pg (nI 1)) d_Ker_store_10 ml_Ker_70 cs_Ker_noRange rfl (by decide) (Nat.le_of_ble_eq_true rfl) ?_ rfl
  refine r_tp (b := nI 0) (hb) ?_
  refine r_nif_ne (a := 0) (tgt := 27) hK d_Ker_store_13 (by decide) (by decide) (fun z => absurd z (by decide)) (fun _ => ?_)
  refine r_iload_n hK d_Ker_store_16 rfl 3 rfl ?_
  refine r_if_lt (tgt := 27) hK d_Ker_store_17 (by decide) (fun z => False.elim (hv0 z)) (fun c17 => ?_)
  refine r_iload_n hK d_Ker_store_20 rfl 3 rfl ?_
  refine r_sipush (v := nI 999) hK d_Ker_store_21 (by decide) ?_
  refine r_icmp_le (tgt := 31) hK d_Ker_store_24 (by decide) (fun c24 => ?_) (fun z => False.elim (z hv))
  refine r_aload_n hK d_Ker_store_31 rfl 0 rfl ?_
  refine r_iload_n hK d_Ker_store_32 rfl 1 rfl ?_
  refine p_new (ci := 9) (a := o) hK d_Ker_store_33 k_Access cl_Ker_74 in_Access ii_Access (fun g h => h.new ho (by decide) (by decide)) ?_
  refine r_dup hK d_Ker_store_36 rfl ?_
  refine r_iload_n hK d_Ker_store_37 rfl 2 rfl ?_
  refine r_iload_n hK d_Ker_store_38 rfl 3 rfl ?_
  refine r_callIv (As := [.int pg, .int v]) (b := o) (st := [.ref o, .int thr, .ref x]) hK (c_Access_init X l (sNew s 9) o pg v (by simp [sSetI, sSetR, sSetA, sSetB, sSetQ, sSetL, sSetT, sNew, sNewA, sNewL, sPush, sBump, sBegL, sPutT, sAddL_g, sAddL_q, sAddL_r, sAddL_l, sq, sl, sr, gSetI, gSetR, gSetA, gSetB, gNew, gNewA, up2, up1, gx, gk, gl, gi, gr, ga, gb, ho])) d_Ker_store_39 ml_Ker_76 ci_Access_init rfl (by decide) (Nat.le_of_ble_eq_true rfl) ?_ rfl
  refine r_callVi (As := [.int thr, .ref o]) (b := x) (st := []) hK (hen) d_Ker_store_42 ml_Ker_79 cv_Ker_enlist rfl (by decide) (p_recv k_Ker (fun g h => h.kd (by simp [sSetI, sSetR, sSetA, sSetB, sSetQ, sSetL, sSetT, sNew, sNewA, sNewL, sPush, sBump, sBegL, sPutT, sAddL_g, sAddL_q, sAddL_r, sAddL_l, sq, sl, sr, gSetI, gSetR, gSetA, gSetB, gNew, gNewA, up2, up1, gx, gk, gl, gi, gr, ga, gb, ho, hx, n0]) (by decide))) (Nat.le_of_ble_eq_true rfl) ?_ rfl
  refine r_iret hK d_Ker_store_45 rfl (rfl) ?_
  exact ⟨rfl, rfl⟩
set_option maxHeartbeats 1000000 in
theorem c_Ker_map_full (X : gCx) (l : Launch) (s : sS) (x : Nat) (thr : Int32) (pg n wr : Int32) (hx : gk s.1 x = 1) (hfl : gMi X l (HoldP X (Abs X)) M_Ker_full 3 0 0 [.ref x, .int thr] s (nI 1) s)  : gMi X l (HoldP X (Abs X)) M_Ker_map 6 4 29 [.ref x, .int thr, .int pg, .int n, .int wr] s (-1) s := by
  refine gM_intro (by decide) (Nat.le_of_ble_eq_true rfl) (fun K hK => ?_)
  show K 0 [(0, .ref x), (1, .int thr), (2, .int pg), (3, .int n), (4, .int wr)] [] s 4 29
  refine r_aload_n hK d_Ker_map_0 rfl 0 rfl ?_
  refine r_iload_n hK d_Ker_map_1 rfl 1 rfl ?_
  refine r_callVi (As := [.int thr]) (b := x) (st := []) hK (hfl) d_Ker_map_2 ml_Ker_66 cv_Ker_full rfl (by decide) (p_recv k_Ker (fun g h => h.kd hx (by decide))) (Nat.le_of_ble_eq_true rfl) ?_ rfl
  refine r_nif_ne (a := 1) (tgt := 16) hK d_Ker_map_5 (by decide) (by decide) (fun _ => ?_) (fun z => absurd z (by decide))
  refine r_iconst (v := -1) hK d_Ker_map_16 (by decide) ?_
  refine r_goto (tgt := 36) hK d_Ker_map_17 (by decide) ?_
  refine r_iret hK d_Ker_map_36 rfl (rfl) ?_
  exact ⟨rfl, rfl⟩
set_option maxHeartbeats 1000000 in
theorem c_Ker_map_bad (X : gCx) (l : Launch) (s : sS) (x : Nat) (thr : Int32) (pg n wr : Int32) (hx : gk s.1 x = 1) (hb : s_Mod_noRange pg n ≠ 0) (hfl : gMi X l (HoldP X (Abs X)) M_Ker_full 3 0 0 [.ref x, .int thr] s (nI 0) s)  : gMi X l (HoldP X (Abs X)) M_Ker_map 6 4 29 [.ref x, .int thr, .int pg, .int n, .int wr] s (-1) s := by
  refine gM_intro (by decide) (Nat.le_of_ble_eq_true rfl) (fun K hK => ?_)
  show K 0 [(0, .ref x), (1, .int thr), (2, .int pg), (3, .int n), (4, .int wr)] [] s 4 29
  refine r_aload_n hK d_Ker_map_0 rfl 0 rfl ?_
  refine r_iload_n hK d_Ker_map_1 rfl 1 rfl ?_
  refine r_callVi (As := [.int thr]) (b := x) (st := []) hK (hfl) d_Ker_map_2 ml_Ker_66 cv_Ker_full rfl (by decide) (p_recv k_Ker (fun g h => h.kd hx (by decide))) (Nat.le_of_ble_eq_true rfl) ?_ rfl
  refine r_nif_ne (a := 0) (tgt := 16) hK d_Ker_map_5 (by decide) (by decide) (fun z => absurd z (by decide)) (fun _ => ?_)
  refine r_iload_n hK d_Ker_map_8 rfl 2 rfl ?_
  refine r_iload_n hK d_Ker_map_9 rfl 3 rfl ?_
  refine r_callSi (As := [.int pg, .int n]) (st := []) hK (c_Ker_noRange X l s pg n) d_Ker_map_10 ml_Ker_70 cs_Ker_noRange rfl (by decide) (Nat.le_of_ble_eq_true rfl) ?_ rfl
  refine r_if_eq (tgt := 20) hK d_Ker_map_13 (by decide) (fun z => False.elim (hb z)) (fun c13 => ?_)
  refine r_iconst (v := -1) hK d_Ker_map_16 (by decide) ?_
  refine r_goto (tgt := 36) hK d_Ker_map_17 (by decide) ?_
  refine r_iret hK d_Ker_map_36 rfl (rfl) ?_
  exact ⟨rfl, rfl⟩
set_option maxHeartbeats 1000000 in
theorem c_Ker_map (X : gCx) (l : Launch) (s : sS) (s2 : sS) (x o : Nat) (thr r : Int32) (pg n wr : Int32) (hx : gk s.1 x = 1) (ho : gx s.1 = o) (n0 : x ≠ o) (hb : s_Mod_noRange pg n = nI 0) (hw : narrow .boolean (.int wr) = .int wr) (hw2 : fits .boolean (.int wr) = true) (hfl : gMi X l (HoldP X (Abs X)) M_Ker_full 3 0 0 [.ref x, .int thr] s (nI 0) s) (hen : gMi X l (HoldP X (Abs X)) M_Ker_enlist 5 2 12 [.ref x, .int thr, .ref o] (sSetI (sSetI (sSetI (sSetR (sSetI (sNew s 10) 40 o (-1)) 39 o (some (cxE X 3))) 42 o pg) 43 o n) 41 o wr) r s2) : gMi X l (HoldP X (Abs X)) M_Ker_map 6 4 29 [.ref x, .int thr, .int pg, .int n, .int wr] s r s2 := by
  refine gM_intro (by decide) (Nat.le_of_ble_eq_true rfl) (fun K hK => ?_)
  show K 0 [(0, .ref x), (1, .int thr), (2, .int pg), (3, .int n), (4, .int wr)] [] s 4 29
  refine r_aload_n hK d_Ker_map_0 rfl 0 rfl ?_
  refine r_iload_n hK d_Ker_map_1 rfl 1 rfl ?_
  refine r_callVi (As := [.int thr]) (b := x) (st := []) hK (hfl) d_Ker_map_2 ml_Ker_66 cv_Ker_full rfl (by decide) (p_recv k_Ker (fun g h => h.kd hx (by decide))) (Nat.le_of_ble_eq_true rfl) ?_ rfl
  refine r_nif_ne (a := 0) (tgt := 16) hK d_Ker_map_5 (by decide) (by decide) (fun z => absurd z (by decide)) (fun _ => ?_)
  refine r_iload_n hK d_Ker_map_8 rfl 2 rfl ?_
  refine r_iload_n hK d_Ker_map_9 rfl 3 rfl ?_
  refine r_callSi (As := [.int pg, .int n]) (st := []) hK (c_Ker_noRange X l s pg n) d_Ker_map_10 ml_Ker_70 cs_Ker_noRange rfl (by decide) (Nat.le_of_ble_eq_true rfl) ?_ rfl
  refine r_tp (b := nI 0) (hb) ?_
  refine r_nif_eq (a := 0) (tgt := 20) hK d_Ker_map_13 (by decide) (by decide) (fun _ => ?_) (fun z => absurd z (by decide))
  refine r_aload_n hK d_Ker_map_20 rfl 0 rfl ?_
  refine r_iload_n hK d_Ker_map_21 rfl 1 rfl ?_
  refine p_new (ci := 10) (a := o) hK d_Ker_map_22 k_Grant cl_Ker_83 in_Grant ii_Grant (fun g h => h.new ho (by decide) (by decide)) ?_
  refine r_dup hK d_Ker_map_25 rfl ?_
  refine r_iload_n hK d_Ker_map_26 rfl 2 rfl ?_
  refine r_iload_n hK d_Ker_map_27 rfl 3 rfl ?_
  refine r_iload hK d_Ker_map_28 4 rfl ?_
  refine r_callIv (As := [.int pg, .int n, .int wr]) (b := o) (st := [.ref o, .int thr, .ref x]) hK (c_Grant_init X l (sNew s 10) o pg n wr (by simp [sSetI, sSetR, sSetA, sSetB, sSetQ, sSetL, sSetT, sNew, sNewA, sNewL, sPush, sBump, sBegL, sPutT, sAddL_g, sAddL_q, sAddL_r, sAddL_l, sq, sl, sr, gSetI, gSetR, gSetA, gSetB, gNew, gNewA, up2, up1, gx, gk, gl, gi, gr, ga, gb, ho]) hw hw2) d_Ker_map_30 ml_Ker_85 ci_Grant_init rfl (by decide) (Nat.le_of_ble_eq_true rfl) ?_ rfl
  refine r_callVi (As := [.int thr, .ref o]) (b := x) (st := []) hK (hen) d_Ker_map_33 ml_Ker_79 cv_Ker_enlist rfl (by decide) (p_recv k_Ker (fun g h => h.kd (by simp [sSetI, sSetR, sSetA, sSetB, sSetQ, sSetL, sSetT, sNew, sNewA, sNewL, sPush, sBump, sBegL, sPutT, sAddL_g, sAddL_q, sAddL_r, sAddL_l, sq, sl, sr, gSetI, gSetR, gSetA, gSetB, gNew, gNewA, up2, up1, gx, gk, gl, gi, gr, ga, gb, ho, hx, n0]) (by decide))) (Nat.le_of_ble_eq_true rfl) ?_ rfl
  refine r_iret hK d_Ker_map_36 rfl (rfl) ?_
  exact ⟨rfl, rfl⟩
set_option maxHeartbeats 1000000 in
theorem c_Ker_unmap_full (X : gCx) (l : Launch) (s : sS) (x : Nat) (thr : Int32) (pg n : Int32) (hx : gk s.1 x = 1) (hfl : gMi X l (HoldP X (Abs X)) M_Ker_full 3 0 0 [.ref x, .int thr] s (nI 1) s)  : gMi X l (HoldP X (Abs X)) M_Ker_unmap 6 4 29 [.ref x, .int thr, .int pg, .int n] s (-1) s := by
  refine gM_intro (by decide) (Nat.le_of_ble_eq_true rfl) (fun K hK => ?_)
  show K 0 [(0, .ref x), (1, .int thr), (2, .int pg), (3, .int n)] [] s 4 29
  refine r_aload_n hK d_Ker_unmap_0 rfl 0 rfl ?_
  refine r_iload_n hK d_Ker_unmap_1 rfl 1 rfl ?_
  refine r_callVi (As := [.int thr]) (b := x) (st := []) hK (hfl) d_Ker_unmap_2 ml_Ker_66 cv_Ker_full rfl (by decide) (p_recv k_Ker (fun g h => h.kd hx (by decide))) (Nat.le_of_ble_eq_true rfl) ?_ rfl
  refine r_nif_ne (a := 1) (tgt := 16) hK d_Ker_unmap_5 (by decide) (by decide) (fun _ => ?_) (fun z => absurd z (by decide))
  refine r_iconst (v := -1) hK d_Ker_unmap_16 (by decide) ?_
  refine r_goto (tgt := 35) hK d_Ker_unmap_17 (by decide) ?_
  refine r_iret hK d_Ker_unmap_35 rfl (rfl) ?_
  exact ⟨rfl, rfl⟩
set_option maxHeartbeats 1000000 in
theorem c_Ker_unmap_bad (X : gCx) (l : Launch) (s : sS) (x : Nat) (thr : Int32) (pg n : Int32) (hx : gk s.1 x = 1) (hb : s_Mod_noRange pg n ≠ 0) (hfl : gMi X l (HoldP X (Abs X)) M_Ker_full 3 0 0 [.ref x, .int thr] s (nI 0) s)  : gMi X l (HoldP X (Abs X)) M_Ker_unmap 6 4 29 [.ref x, .int thr, .int pg, .int n] s (-1) s := by
  refine gM_intro (by decide) (Nat.le_of_ble_eq_true rfl) (fun K hK => ?_)
  show K 0 [(0, .ref x), (1, .int thr), (2, .int pg), (3, .int n)] [] s 4 29
  refine r_aload_n hK d_Ker_unmap_0 rfl 0 rfl ?_
  refine r_iload_n hK d_Ker_unmap_1 rfl 1 rfl ?_
  refine r_callVi (As := [.int thr]) (b := x) (st := []) hK (hfl) d_Ker_unmap_2 ml_Ker_66 cv_Ker_full rfl (by decide) (p_recv k_Ker (fun g h => h.kd hx (by decide))) (Nat.le_of_ble_eq_true rfl) ?_ rfl
  refine r_nif_ne (a := 0) (tgt := 16) hK d_Ker_unmap_5 (by decide) (by decide) (fun z => absurd z (by decide)) (fun _ => ?_)
  refine r_iload_n hK d_Ker_unmap_8 rfl 2 rfl ?_
  refine r_iload_n hK d_Ker_unmap_9 rfl 3 rfl ?_
  refine r_callSi (As := [.int pg, .int n]) (st := []) hK (c_Ker_noRange X l s pg n) d_Ker_unmap_10 ml_Ker_70 cs_Ker_noRange rfl (by decide) (Nat.le_of_ble_eq_true rfl) ?_ rfl
  refine r_if_eq (tgt := 20) hK d_Ker_unmap_13 (by decide) (fun z => False.elim (hb z)) (fun c13 => ?_)
  refine r_iconst (v := -1) hK d_Ker_unmap_16 (by decide) ?_
  refine r_goto (tgt := 35) hK d_Ker_unmap_17 (by decide) ?_
  refine r_iret hK d_Ker_unmap_35 rfl (rfl) ?_
  exact ⟨rfl, rfl⟩
set_option maxHeartbeats 1000000 in
theorem c_Ker_unmap (X : gCx) (l : Launch) (s : sS) (s2 : sS) (x o : Nat) (thr r : Int32) (pg n : Int32) (hx : gk s.1 x = 1) (q : Nat) (hq : o + 1 = q) (n1 : o ≠ q) (n3 : x ≠ q) (ho : gx s.1 = o) (n0 : x ≠ o) (hb : s_Mod_noRange pg n = nI 0) (hfl : gMi X l (HoldP X (Abs X)) M_Ker_full 3 0 0 [.ref x, .int thr] s (nI 0) s) (hen : gMi X l (HoldP X (Abs X)) M_Ker_enlist 5 2 12 [.ref x, .int thr, .ref o] (sSetI (sSetR (sNewA (sSetI (sSetI (sSetR (sSetI (sNew s 11) 40 o (-1)) 39 o (some (cxE X 3))) 42 o pg) 43 o n) 0 4) 48 o (some q)) 47 o (nI 1)) r s2) : gMi X l (HoldP X (Abs X)) M_Ker_unmap 6 4 29 [.ref x, .int thr, .int pg, .int n] s r s2 := by
  refine gM_intro (by decide) (Nat.le_of_ble_eq_true rfl) (fun K hK => ?_)
  show K 0 [(0, .ref x), (1, .int thr), (2, .int pg), (3, .int n)] [] s 4 29
  refine r_aload_n hK d_Ker_unmap_0 rfl 0 rfl ?_
  refine r_iload_n hK d_Ker_unmap_1 rfl 1 rfl ?_
  refine r_callVi (As := [.int thr]) (b := x) (st := []) hK (hfl) d_Ker_unmap_2 ml_Ker_66 cv_Ker_full rfl (by decide) (p_recv k_Ker (fun g h => h.kd hx (by decide))) (Nat.le_of_ble_eq_true rfl) ?_ rfl
  refine r_nif_ne (a := 0) (tgt := 16) hK d_Ker_unmap_5 (by decide) (by decide) (fun z => absurd z (by decide)) (fun _ => ?_)
  refine r_iload_n hK d_Ker_unmap_8 rfl 2 rfl ?_
  refine r_iload_n hK d_Ker_unmap_9 rfl 3 rfl ?_
  refine r_callSi (As := [.int pg, .int n]) (st := []) hK (c_Ker_noRange X l s pg n) d_Ker_unmap_10 ml_Ker_70 cs_Ker_noRange rfl (by decide) (Nat.le_of_ble_eq_true rfl) ?_ rfl
  refine r_tp (b := nI 0) (hb) ?_
  refine r_nif_eq (a := 0) (tgt := 20) hK d_Ker_unmap_13 (by decide) (by decide) (fun _ => ?_) (fun z => absurd z (by decide))
  refine r_aload_n hK d_Ker_unmap_20 rfl 0 rfl ?_
  refine r_iload_n hK d_Ker_unmap_21 rfl 1 rfl ?_
  refine p_new (ci := 11) (a := o) hK d_Ker_unmap_22 k_Revoke cl_Ker_88 in_Revoke ii_Revoke (fun g h => h.new ho (by decide) (by decide)) ?_
  refine r_dup hK d_Ker_unmap_25 rfl ?_
  refine r_iload_n hK d_Ker_unmap_26 rfl 2 rfl ?_
  refine r_iload_n hK d_Ker_unmap_27 rfl 3 rfl ?_
  refine r_iconst (v := nI 1) hK d_Ker_unmap_28 (by decide) ?_
  have hqz : gx (sNew s 11).1 = q := by simp [sSetI, sSetR, sSetA, sSetB, sSetQ, sSetL, sSetT, sNew, sNewA, sNewL, sPush, sBump, sBegL, sPutT, sAddL_g, sAddL_q, sAddL_r, sAddL_l, sq, sl, sr, gSetI, gSetR, gSetA, gSetB, gNew, gNewA, up2, up1, gx, gk, gl, gi, gr, ga, gb, ho, hq]
  refine r_callIv (As := [.int pg, .int n, .int (nI 1)]) (b := o) (st := [.ref o, .int thr, .ref x]) hK (c_Revoke_init X l (sNew s 11) o q pg n (nI 1) (by simp [sSetI, sSetR, sSetA, sSetB, sSetQ, sSetL, sSetT, sNew, sNewA, sNewL, sPush, sBump, sBegL, sPutT, sAddL_g, sAddL_q, sAddL_r, sAddL_l, sq, sl, sr, gSetI, gSetR, gSetA, gSetB, gNew, gNewA, up2, up1, gx, gk, gl, gi, gr, ga, gb, ho]) (hqz) n1 (by decide) (by decide)) d_Ker_unmap_29 ml_Ker_90 ci_Revoke_init rfl (by decide) (Nat.le_of_ble_eq_true rfl) ?_ rfl
  refine r_callVi (As := [.int thr, .ref o]) (b := x) (st := []) hK (hen) d_Ker_unmap_32 ml_Ker_79 cv_Ker_enlist rfl (by decide) (p_recv k_Ker (fun g h => h.kd (by simp [sSetI, sSetR, sSetA, sSetB, sSetQ, sSetL, sSetT, sNew, sNewA, sNewL, sPush, sBump, sBegL, sPutT, sAddL_g, sAddL_q, sAddL_r, sAddL_l, sq, sl, sr, gSetI, gSetR, gSetA, gSetB, gNew, gNewA, up2, up1, gx, gk, gl, gi, gr, ga, gb, ho, hx, n0, hq, n3]) (by decide))) (Nat.le_of_ble_eq_true rfl) ?_ rfl
  refine r_iret hK d_Ker_unmap_35 rfl (rfl) ?_
  exact ⟨rfl, rfl⟩
set_option maxHeartbeats 1000000 in
theorem c_Ker_protect_full (X : gCx) (l : Launch) (s : sS) (x : Nat) (thr : Int32) (pg n : Int32) (hx : gk s.1 x = 1) (hfl : gMi X l (HoldP X (Abs X)) M_Ker_full 3 0 0 [.ref x, .int thr] s (nI 1) s)  : gMi X l (HoldP X (Abs X)) M_Ker_protect 6 4 29 [.ref x, .int thr, .int pg, .int n] s (-1) s := by
  refine gM_intro (by decide) (Nat.le_of_ble_eq_true rfl) (fun K hK => ?_)
  show K 0 [(0, .ref x), (1, .int thr), (2, .int pg), (3, .int n)] [] s 4 29
  refine r_aload_n hK d_Ker_protect_0 rfl 0 rfl ?_
  refine r_iload_n hK d_Ker_protect_1 rfl 1 rfl ?_
  refine r_callVi (As := [.int thr]) (b := x) (st := []) hK (hfl) d_Ker_protect_2 ml_Ker_66 cv_Ker_full rfl (by decide) (p_recv k_Ker (fun g h => h.kd hx (by decide))) (Nat.le_of_ble_eq_true rfl) ?_ rfl
  refine r_nif_ne (a := 1) (tgt := 16) hK d_Ker_protect_5 (by decide) (by decide) (fun _ => ?_) (fun z => absurd z (by decide))
  refine r_iconst (v := -1) hK d_Ker_protect_16 (by decide) ?_
  refine r_goto (tgt := 35) hK d_Ker_protect_17 (by decide) ?_
  refine r_iret hK d_Ker_protect_35 rfl (rfl) ?_
  exact ⟨rfl, rfl⟩
set_option maxHeartbeats 1000000 in
theorem c_Ker_protect_bad (X : gCx) (l : Launch) (s : sS) (x : Nat) (thr : Int32) (pg n : Int32) (hx : gk s.1 x = 1) (hb : s_Mod_noRange pg n ≠ 0) (hfl : gMi X l (HoldP X (Abs X)) M_Ker_full 3 0 0 [.ref x, .int thr] s (nI 0) s)  : gMi X l (HoldP X (Abs X)) M_Ker_protect 6 4 29 [.ref x, .int thr, .int pg, .int n] s (-1) s := by
  refine gM_intro (by decide) (Nat.le_of_ble_eq_true rfl) (fun K hK => ?_)
  show K 0 [(0, .ref x), (1, .int thr), (2, .int pg), (3, .int n)] [] s 4 29
  refine r_aload_n hK d_Ker_protect_0 rfl 0 rfl ?_
  refine r_iload_n hK d_Ker_protect_1 rfl 1 rfl ?_
  refine r_callVi (As := [.int thr]) (b := x) (st := []) hK (hfl) d_Ker_protect_2 ml_Ker_66 cv_Ker_full rfl (by decide) (p_recv k_Ker (fun g h => h.kd hx (by decide))) (Nat.le_of_ble_eq_true rfl) ?_ rfl
  refine r_nif_ne (a := 0) (tgt := 16) hK d_Ker_protect_5 (by decide) (by decide) (fun z => absurd z (by decide)) (fun _ => ?_)
  refine r_iload_n hK d_Ker_protect_8 rfl 2 rfl ?_
  refine r_iload_n hK d_Ker_protect_9 rfl 3 rfl ?_
  refine r_callSi (As := [.int pg, .int n]) (st := []) hK (c_Ker_noRange X l s pg n) d_Ker_protect_10 ml_Ker_70 cs_Ker_noRange rfl (by decide) (Nat.le_of_ble_eq_true rfl) ?_ rfl
  refine r_if_eq (tgt := 20) hK d_Ker_protect_13 (by decide) (fun z => False.elim (hb z)) (fun c13 => ?_)
  refine r_iconst (v := -1) hK d_Ker_protect_16 (by decide) ?_
  refine r_goto (tgt := 35) hK d_Ker_protect_17 (by decide) ?_
  refine r_iret hK d_Ker_protect_35 rfl (rfl) ?_
  exact ⟨rfl, rfl⟩
set_option maxHeartbeats 1000000 in
theorem c_Ker_protect (X : gCx) (l : Launch) (s : sS) (s2 : sS) (x o : Nat) (thr r : Int32) (pg n : Int32) (hx : gk s.1 x = 1) (q : Nat) (hq : o + 1 = q) (n1 : o ≠ q) (n3 : x ≠ q) (ho : gx s.1 = o) (n0 : x ≠ o) (hb : s_Mod_noRange pg n = nI 0) (hfl : gMi X l (HoldP X (Abs X)) M_Ker_full 3 0 0 [.ref x, .int thr] s (nI 0) s) (hen : gMi X l (HoldP X (Abs X)) M_Ker_enlist 5 2 12 [.ref x, .int thr, .ref o] (sSetI (sSetR (sNewA (sSetI (sSetI (sSetR (sSetI (sNew s 11) 40 o (-1)) 39 o (some (cxE X 3))) 42 o pg) 43 o n) 0 4) 48 o (some q)) 47 o (nI 0)) r s2) : gMi X l (HoldP X (Abs X)) M_Ker_protect 6 4 29 [.ref x, .int thr, .int pg, .int n] s r s2 := by
  refine gM_intro (by decide) (Nat.le_of_ble_eq_true rfl) (fun K hK => ?_)
  show K 0 [(0, .ref x), (1, .int thr), (2, .int pg), (3, .int n)] [] s 4 29
  refine r_aload_n hK d_Ker_protect_0 rfl 0 rfl ?_
  refine r_iload_n hK d_Ker_protect_1 rfl 1 rfl ?_
  refine r_callVi (As := [.int thr]) (b := x) (st := []) hK (hfl) d_Ker_protect_2 ml_Ker_66 cv_Ker_full rfl (by decide) (p_recv k_Ker (fun g h => h.kd hx (by decide))) (Nat.le_of_ble_eq_true rfl) ?_ rfl
  refine r_nif_ne (a := 0) (tgt := 16) hK d_Ker_protect_5 (by decide) (by decide) (fun z => absurd z (by decide)) (fun _ => ?_)
  refine r_iload_n hK d_Ker_protect_8 rfl 2 rfl ?_
  refine r_iload_n hK d_Ker_protect_9 rfl 3 rfl ?_
  refine r_callSi (As := [.int pg, .int n]) (st := []) hK (c_Ker_noRange X l s pg n) d_Ker_protect_10 ml_Ker_70 cs_Ker_noRange rfl (by decide) (Nat.le_of_ble_eq_true rfl) ?_ rfl
  refine r_tp (b := nI 0) (hb) ?_
  refine r_nif_eq (a := 0) (tgt := 20) hK d_Ker_protect_13 (by decide) (by decide) (fun _ => ?_) (fun z => absurd z (by decide))
  refine r_aload_n hK d_Ker_protect_20 rfl 0 rfl ?_
  refine r_iload_n hK d_Ker_protect_21 rfl 1 rfl ?_
  refine p_new (ci := 11) (a := o) hK d_Ker_protect_22 k_Revoke cl_Ker_88 in_Revoke ii_Revoke (fun g h => h.new ho (by decide) (by decide)) ?_
  refine r_dup hK d_Ker_protect_25 rfl ?_
  refine r_iload_n hK d_Ker_protect_26 rfl 2 rfl ?_
  refine r_iload_n hK d_Ker_protect_27 rfl 3 rfl ?_
  refine r_iconst (v := nI 0) hK d_Ker_protect_28 (by decide) ?_
  have hqz : gx (sNew s 11).1 = q := by simp [sSetI, sSetR, sSetA, sSetB, sSetQ, sSetL, sSetT, sNew, sNewA, sNewL, sPush, sBump, sBegL, sPutT, sAddL_g, sAddL_q, sAddL_r, sAddL_l, sq, sl, sr, gSetI, gSetR, gSetA, gSetB, gNew, gNewA, up2, up1, gx, gk, gl, gi, gr, ga, gb, ho, hq]
  refine r_callIv (As := [.int pg, .int n, .int (nI 0)]) (b := o) (st := [.ref o, .int thr, .ref x]) hK (c_Revoke_init X l (sNew s 11) o q pg n (nI 0) (by simp [sSetI, sSetR, sSetA, sSetB, sSetQ, sSetL, sSetT, sNew, sNewA, sNewL, sPush, sBump, sBegL, sPutT, sAddL_g, sAddL_q, sAddL_r, sAddL_l, sq, sl, sr, gSetI, gSetR, gSetA, gSetB, gNew, gNewA, up2, up1, gx, gk, gl, gi, gr, ga, gb, ho]) (hqz) n1 (by decide) (by decide)) d_Ker_protect_29 ml_Ker_90 ci_Revoke_init rfl (by decide) (Nat.le_of_ble_eq_true rfl) ?_ rfl
  refine r_callVi (As := [.int thr, .ref o]) (b := x) (st := []) hK (hen) d_Ker_protect_32 ml_Ker_79 cv_Ker_enlist rfl (by decide) (p_recv k_Ker (fun g h => h.kd (by simp [sSetI, sSetR, sSetA, sSetB, sSetQ, sSetL, sSetT, sNew, sNewA, sNewL, sPush, sBump, sBegL, sPutT, sAddL_g, sAddL_q, sAddL_r, sAddL_l, sq, sl, sr, gSetI, gSetR, gSetA, gSetB, gNew, gNewA, up2, up1, gx, gk, gl, gi, gr, ga, gb, ho, hx, n0, hq, n3]) (by decide))) (Nat.le_of_ble_eq_true rfl) ?_ rfl
  refine r_iret hK d_Ker_protect_35 rfl (rfl) ?_
  exact ⟨rfl, rfl⟩
set_option maxHeartbeats 1000000 in
theorem c_Ker_move_full (X : gCx) (l : Launch) (s : sS) (x : Nat) (thr : Int32) (to : Int32) (hx : gk s.1 x = 1) (hfl : gMi X l (HoldP X (Abs X)) M_Ker_full 3 0 0 [.ref x, .int thr] s (nI 1) s)  : gMi X l (HoldP X (Abs X)) M_Ker_move 6 4 29 [.ref x, .int thr, .int to] s (-1) s := by
  refine gM_intro (by decide) (Nat.le_of_ble_eq_true rfl) (fun K hK => ?_)
  show K 0 [(0, .ref x), (1, .int thr), (2, .int to)] [] s 4 29
  refine r_aload_n hK d_Ker_move_0 rfl 0 rfl ?_
  refine r_iload_n hK d_Ker_move_1 rfl 1 rfl ?_
  refine r_callVi (As := [.int thr]) (b := x) (st := []) hK (hfl) d_Ker_move_2 ml_Ker_66 cv_Ker_full rfl (by decide) (p_recv k_Ker (fun g h => h.kd hx (by decide))) (Nat.le_of_ble_eq_true rfl) ?_ rfl
  refine r_nif_ne (a := 1) (tgt := 16) hK d_Ker_move_5 (by decide) (by decide) (fun _ => ?_) (fun z => absurd z (by decide))
  refine r_iconst (v := -1) hK d_Ker_move_16 (by decide) ?_
  refine r_goto (tgt := 33) hK d_Ker_move_17 (by decide) ?_
  refine r_iret hK d_Ker_move_33 rfl (rfl) ?_
  exact ⟨rfl, rfl⟩
set_option maxHeartbeats 1000000 in
theorem c_Ker_move_bad (X : gCx) (l : Launch) (s : sS) (x : Nat) (thr : Int32) (to : Int32) (hx : gk s.1 x = 1) (hfl : gMi X l (HoldP X (Abs X)) M_Ker_full 3 0 0 [.ref x, .int thr] s (nI 0) s) (hpr : gMr X l (HoldP X (Abs X)) M_Ker_processor 0 0 0 [.ref x, .int to] s none s)  : gMi X l (HoldP X (Abs X)) M_Ker_move 6 4 29 [.ref x, .int thr, .int to] s (-1) s := by
  refine gM_intro (by decide) (Nat.le_of_ble_eq_true rfl) (fun K hK => ?_)
  show K 0 [(0, .ref x), (1, .int thr), (2, .int to)] [] s 4 29
  refine r_aload_n hK d_Ker_move_0 rfl 0 rfl ?_
  refine r_iload_n hK d_Ker_move_1 rfl 1 rfl ?_
  refine r_callVi (As := [.int thr]) (b := x) (st := []) hK (hfl) d_Ker_move_2 ml_Ker_66 cv_Ker_full rfl (by decide) (p_recv k_Ker (fun g h => h.kd hx (by decide))) (Nat.le_of_ble_eq_true rfl) ?_ rfl
  refine r_nif_ne (a := 0) (tgt := 16) hK d_Ker_move_5 (by decide) (by decide) (fun z => absurd z (by decide)) (fun _ => ?_)
  refine r_aload_n hK d_Ker_move_8 rfl 0 rfl ?_
  refine r_iload_n hK d_Ker_move_9 rfl 2 rfl ?_
  refine r_callVr (As := [.int to]) (b := x) (st := []) hK (hpr) d_Ker_move_10 ml_Ker_27 cv_Ker_processor rfl (by decide) (p_recv k_Ker (fun g h => h.kd hx (by decide))) (Nat.le_of_ble_eq_true rfl) ?_ rfl
  refine r_ifnonnull (v := none) (tgt := 20) hK d_Ker_move_13 (by decide) (fun _ z => absurd z (by simp)) (fun _ => ?_)
  refine r_iconst (v := -1) hK d_Ker_move_16 (by decide) ?_
  refine r_goto (tgt := 33) hK d_Ker_move_17 (by decide) ?_
  refine r_iret hK d_Ker_move_33 rfl (rfl) ?_
  exact ⟨rfl, rfl⟩
set_option maxHeartbeats 1000000 in
theorem c_Ker_move (X : gCx) (l : Launch) (s : sS) (s2 : sS) (x o : Nat) (thr r : Int32) (to : Int32) (hx : gk s.1 x = 1) (ho : gx s.1 = o) (n0 : x ≠ o) (pp : Nat) (hpr : gMr X l (HoldP X (Abs X)) M_Ker_processor 0 0 0 [.ref x, .int to] s (some pp) s) (hfl : gMi X l (HoldP X (Abs X)) M_Ker_full 3 0 0 [.ref x, .int thr] s (nI 0) s) (hen : gMi X l (HoldP X (Abs X)) M_Ker_enlist 5 2 12 [.ref x, .int thr, .ref o] (sSetI (sSetR (sSetI (sNew s 12) 40 o (-1)) 39 o (some (cxE X 11))) 53 o to) r s2) : gMi X l (HoldP X (Abs X)) M_Ker_move 6 4 29 [.ref x, .int thr, .int to] s r s2 := by
  refine gM_intro (by decide) (Nat.le_of_ble_eq_true rfl) (fun K hK => ?_)
  show K 0 [(0, .ref x), (1, .int thr), (2, .int to)] [] s 4 29
  refine r_aload_n hK d_Ker_move_0 rfl 0 rfl ?_
  refine r_iload_n hK d_Ker_move_1 rfl 1 rfl ?_
  refine r_callVi (As := [.int thr]) (b := x) (st := []) hK (hfl) d_Ker_move_2 ml_Ker_66 cv_Ker_full rfl (by decide) (p_recv k_Ker (fun g h => h.kd hx (by decide))) (Nat.le_of_ble_eq_true rfl) ?_ rfl
  refine r_nif_ne (a := 0) (tgt := 16) hK d_Ker_move_5 (by decide) (by decide) (fun z => absurd z (by decide)) (fun _ => ?_)
  refine r_aload_n hK d_Ker_move_8 rfl 0 rfl ?_
  refine r_iload_n hK d_Ker_move_9 rfl 2 rfl ?_
  refine r_callVr (As := [.int to]) (b := x) (st := []) hK (hpr) d_Ker_move_10 ml_Ker_27 cv_Ker_processor rfl (by decide) (p_recv k_Ker (fun g h => h.kd hx (by decide))) (Nat.le_of_ble_eq_true rfl) ?_ rfl
  refine r_ifnonnull (v := some pp) (tgt := 20) hK d_Ker_move_13 (by decide) (fun _ _ => ?_) (fun z => absurd z (by simp))
  refine r_aload_n hK d_Ker_move_20 rfl 0 rfl ?_
  refine r_iload_n hK d_Ker_move_21 rfl 1 rfl ?_
  refine p_new (ci := 12) (a := o) hK d_Ker_move_22 k_Move cl_Ker_91 in_Move ii_Move (fun g h => h.new ho (by decide) (by decide)) ?_
  refine r_dup hK d_Ker_move_25 rfl ?_
  refine r_iload_n hK d_Ker_move_26 rfl 2 rfl ?_
  refine r_callIv (As := [.int to]) (b := o) (st := [.ref o, .int thr, .ref x]) hK (c_Move_init X l (sNew s 12) o to (by simp [sSetI, sSetR, sSetA, sSetB, sSetQ, sSetL, sSetT, sNew, sNewA, sNewL, sPush, sBump, sBegL, sPutT, sAddL_g, sAddL_q, sAddL_r, sAddL_l, sq, sl, sr, gSetI, gSetR, gSetA, gSetB, gNew, gNewA, up2, up1, gx, gk, gl, gi, gr, ga, gb, ho])) d_Ker_move_27 ml_Ker_93 ci_Move_init rfl (by decide) (Nat.le_of_ble_eq_true rfl) ?_ rfl
  refine r_callVi (As := [.int thr, .ref o]) (b := x) (st := []) hK (hen) d_Ker_move_30 ml_Ker_79 cv_Ker_enlist rfl (by decide) (p_recv k_Ker (fun g h => h.kd (by simp [sSetI, sSetR, sSetA, sSetB, sSetQ, sSetL, sSetT, sNew, sNewA, sNewL, sPush, sBump, sBegL, sPutT, sAddL_g, sAddL_q, sAddL_r, sAddL_l, sq, sl, sr, gSetI, gSetR, gSetA, gSetB, gNew, gNewA, up2, up1, gx, gk, gl, gi, gr, ga, gb, ho, hx, n0]) (by decide))) (Nat.le_of_ble_eq_true rfl) ?_ rfl
  refine r_iret hK d_Ker_move_33 rfl (rfl) ?_
  exact ⟨rfl, rfl⟩
