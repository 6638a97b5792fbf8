set_option maxHeartbeats 1000000 in
theorem c_Ker_run (X : gCx) (l : Launch) (S : Nat → sS) (r : Nat → Int32) (x n : Nat) (sch fi fi2 : Int32) (hn : 1 ≤ n ∧ n ≤ 16) (hx : ∀ j, j ≤ n → gk (S j).1 x = 1) (hs : ∀ j, j < n → gMi X l (HoldP X (Abs X)) M_Ker_step 6 4 12 [.ref x, .int ((sch >>> ((nI (2 * j)) &&& 31)) &&& (nI 3))] (S j) (r j) (S (j + 1))) (hf0 : gi (S 0).1 4 x = fi) (hfn : gi (S n).1 4 x = fi2) : gMi X l (HoldP X (Abs X)) M_Ker_run 7 64 192 [.ref x, .int sch, .int (nI n)] (S 0) (fi2 - fi) (S n) := by
  refine gM_intro (by decide) (Nat.le_of_ble_eq_true rfl) (fun K hK => ?_)
  have key : ∀ (k j : Nat), j + k = n → K 21 [(0, .ref x), (1, .int sch), (2, .int (nI n)), (3, .int fi), (4, .int (nI j))] [] (S j) (4 * k) (12 * k) := by
    intro k
    induction k with
    | zero =>
      intro j hj
      have hjn : j = n := by omega
      rw [hjn]
      refine r_iload hK d_Ker_run_21 4 rfl ?_
      refine r_iload_n hK d_Ker_run_23 rfl 2 rfl ?_
      refine r_ncmp_ge (a := n) (b := n) (tgt := 46) hK d_Ker_run_24 (by decide) (by omega) (by omega) (fun c24 => ?_) (fun z => False.elim (by omega))
      refine r_aload_n hK d_Ker_run_46 rfl 0 rfl ?_
      refine p_getI (f := 4) (v := fi2) hK d_Ker_run_47 k_Ker fd_Ker_151_Ker (by decide) rfl rfl (fun g h => h.getI (hx n (Nat.le_refl n)) (by decide) rfl hfn) ?_
      refine r_iload_n hK d_Ker_run_50 rfl 3 rfl ?_
      refine r_isub hK d_Ker_run_51 ?_
      refine r_iret hK d_Ker_run_52 rfl (rfl) ?_
      exact ⟨rfl, rfl⟩
    | succ k ih =>
      intro j hj
      show K 21 [(0, .ref x), (1, .int sch), (2, .int (nI n)), (3, .int fi), (4, .int (nI j))] [] (S j) (4 * k + 4) (12 * k + 12)
      refine r_iload hK d_Ker_run_21 4 rfl ?_
      refine r_iload_n hK d_Ker_run_23 rfl 2 rfl ?_
      refine r_ncmp_ge (a := j) (b := n) (tgt := 46) hK d_Ker_run_24 (by decide) (by omega) (by omega) (fun z => False.elim (by omega)) (fun c24 => ?_)
      refine r_aload_n hK d_Ker_run_27 rfl 0 rfl ?_
      refine r_iload_n hK d_Ker_run_28 rfl 1 rfl ?_
      refine r_iconst (v := nI 2) hK d_Ker_run_29 (by decide) ?_
      refine r_iload hK d_Ker_run_30 4 rfl ?_
      refine r_imul hK d_Ker_run_32 ?_
      refine r_tp (b := nI (2 * j)) (pk_mul _ _) ?_
      refine r_iushr (v := (sch.toUInt32 >>> ((nI (2 * j)).toUInt32 &&& Int32.toUInt32 31)).toInt32) hK d_Ker_run_33 rfl ?_
      refine r_iconst (v := nI 3) hK d_Ker_run_34 (by decide) ?_
      refine r_iand hK d_Ker_run_35 ?_
      refine r_tp (b := (sch >>> ((nI (2 * j)) &&& 31)) &&& (nI 3)) (sh_and sch j (by omega)) ?_
      refine r_callVi (As := [.int ((sch >>> ((nI (2 * j)) &&& 31)) &&& (nI 3))]) (b := x) (st := []) hK (hs j (by omega)) d_Ker_run_36 ml_Ker_166 cv_Ker_step rfl (by decide) (p_recv k_Ker (fun g h => h.kd (hx j (by omega)) (by decide))) (Nat.le_of_ble_eq_true rfl) ?_ rfl
      refine r_pop hK d_Ker_run_39 rfl ?_
      refine r_iinc (w := nI (j + 1)) (lv' := [(4, .int (nI (j + 1))), (0, .ref x), (1, .int sch), (2, .int (nI n)), (3, .int fi)]) hK d_Ker_run_40 4 rfl (nI_add _ 1) (by decide) rfl ?_
      refine r_goto (tgt := 21) hK d_Ker_run_43 (by decide) ?_
      exact r_loc hK [1, 2, 3, 4, 0] rfl (ih (j + 1) (by omega))
  show K 0 [(0, .ref x), (1, .int sch), (2, .int (nI n))] [] (S 0) 64 192
  refine r_iload_n hK d_Ker_run_0 rfl 2 rfl ?_
  refine r_iconst (v := nI 1) hK d_Ker_run_1 (by decide) ?_
  refine r_ncmp_lt (a := n) (b := 1) (tgt := 11) hK d_Ker_run_2 (by decide) (by omega) (by omega) (fun z => False.elim (by omega)) (fun c2 => ?_)
  refine r_iload_n hK d_Ker_run_5 rfl 2 rfl ?_
  refine r_bipush (v := nI 16) hK d_Ker_run_6 (by decide) ?_
  refine r_ncmp_le (a := n) (b := 16) (tgt := 13) hK d_Ker_run_8 (by decide) (by omega) (by omega) (fun c8 => ?_) (fun z => False.elim (by omega))
  refine r_aload_n hK d_Ker_run_13 rfl 0 rfl ?_
  refine p_getI (f := 4) (v := fi) hK d_Ker_run_14 k_Ker fd_Ker_151_Ker (by decide) rfl rfl (fun g h => h.getI (hx 0 (Nat.zero_le n)) (by decide) rfl hf0) ?_
  refine r_istore_n (lv' := [(3, .int fi), (0, .ref x), (1, .int sch), (2, .int (nI n))]) hK d_Ker_run_17 rfl (by decide) rfl ?_
  refine r_iconst (v := nI 0) hK d_Ker_run_18 (by decide) ?_
  refine r_istore (lv' := [(4, .int (nI 0)), (3, .int fi), (0, .ref x), (1, .int sch), (2, .int (nI n))]) hK d_Ker_run_19 (by decide) rfl ?_
  refine r_room hK (kc' := 4 * n) (ks' := 12 * n) (by omega) (by omega) ?_
  exact r_loc hK [2, 3, 4, 1, 0] rfl (key n 0 (by omega))
set_option maxHeartbeats 1000000 in
theorem c_Ker_current_bad (X : gCx) (l : Launch) (s : sS) (x : Nat) (pv : Int32) (hx : gk s.1 x = 1) (hpr : gMr X l (HoldP X (Abs X)) M_Ker_processor 0 0 0 [.ref x, .int pv] s none s)  : gMi X l (HoldP X (Abs X)) M_Ker_current 4 0 0 [.ref x, .int pv] s (-1) s := by
  refine gM_intro (by decide) (Nat.le_of_ble_eq_true rfl) (fun K hK => ?_)
  show K 0 [(0, .ref x), (1, .int pv)] [] s 0 0
  refine r_aload_n hK d_Ker_current_0 rfl 0 rfl ?_
  refine r_iload_n hK d_Ker_current_1 rfl 1 rfl ?_
  refine r_callVr (As := [.int pv]) (b := x) (st := []) hK (hpr) d_Ker_current_2 ml_Ker_27 cv_Ker_processor rfl (by decide) (p_recv k_Ker (fun g h => h.kd hx (by decide))) (Nat.le_of_ble_eq_true rfl) ?_ rfl
  refine r_astore_nN (lv' := [(2, .null), (0, .ref x), (1, .int pv)]) hK d_Ker_current_5 rfl (by decide) rfl ?_
  refine r_aload_nN hK d_Ker_current_6 rfl 0 rfl ?_
  refine r_ifnull (v := none) (tgt := 17) hK d_Ker_current_7 (by decide) (fun _ => ?_) (fun _ z => absurd z (by simp))
  refine r_iconst (v := -1) hK d_Ker_current_17 (by decide) ?_
  refine r_goto (tgt := 28) hK d_Ker_current_18 (by decide) ?_
  refine r_iret hK d_Ker_current_28 rfl (rfl) ?_
  exact ⟨rfl, rfl⟩
set_option maxHeartbeats 1000000 in
theorem c_Ker_phase_bad (X : gCx) (l : Launch) (s : sS) (x : Nat) (pv : Int32) (hx : gk s.1 x = 1) (hpr : gMr X l (HoldP X (Abs X)) M_Ker_processor 0 0 0 [.ref x, .int pv] s none s)  : gMi X l (HoldP X (Abs X)) M_Ker_phase 4 0 0 [.ref x, .int pv] s (-1) s := by
  refine gM_intro (by decide) (Nat.le_of_ble_eq_true rfl) (fun K hK => ?_)
  show K 0 [(0, .ref x), (1, .int pv)] [] s 0 0
  refine r_aload_n hK d_Ker_phase_0 rfl 0 rfl ?_
  refine r_iload_n hK d_Ker_phase_1 rfl 1 rfl ?_
  refine r_callVr (As := [.int pv]) (b := x) (st := []) hK (hpr) d_Ker_phase_2 ml_Ker_27 cv_Ker_processor rfl (by decide) (p_recv k_Ker (fun g h => h.kd hx (by decide))) (Nat.le_of_ble_eq_true rfl) ?_ rfl
  refine r_astore_nN (lv' := [(2, .null), (0, .ref x), (1, .int pv)]) hK d_Ker_phase_5 rfl (by decide) rfl ?_
  refine r_aload_nN hK d_Ker_phase_6 rfl 0 rfl ?_
  refine r_ifnull (v := none) (tgt := 17) hK d_Ker_phase_7 (by decide) (fun _ => ?_) (fun _ z => absurd z (by simp))
  refine r_iconst (v := -1) hK d_Ker_phase_17 (by decide) ?_
  refine r_goto (tgt := 47) hK d_Ker_phase_18 (by decide) ?_
  refine r_iret hK d_Ker_phase_47 rfl (rfl) ?_
  exact ⟨rfl, rfl⟩
set_option maxHeartbeats 1000000 in
theorem c_Ker_queued_bad (X : gCx) (l : Launch) (s : sS) (x : Nat) (pv k : Int32) (hx : gk s.1 x = 1) (hpr : gMr X l (HoldP X (Abs X)) M_Ker_processor 0 0 0 [.ref x, .int pv] s none s)  : gMi X l (HoldP X (Abs X)) M_Ker_queued 4 0 0 [.ref x, .int pv, .int k] s (-1) s := by
  refine gM_intro (by decide) (Nat.le_of_ble_eq_true rfl) (fun K hK => ?_)
  show K 0 [(0, .ref x), (1, .int pv), (2, .int k)] [] s 0 0
  refine r_aload_n hK d_Ker_queued_0 rfl 0 rfl ?_
  refine r_iload_n hK d_Ker_queued_1 rfl 1 rfl ?_
  refine r_callVr (As := [.int pv]) (b := x) (st := []) hK (hpr) d_Ker_queued_2 ml_Ker_27 cv_Ker_processor rfl (by decide) (p_recv k_Ker (fun g h => h.kd hx (by decide))) (Nat.le_of_ble_eq_true rfl) ?_ rfl
  refine r_astore_nN (lv' := [(3, .null), (0, .ref x), (1, .int pv), (2, .int k)]) hK d_Ker_queued_5 rfl (by decide) rfl ?_
  refine r_aload_nN hK d_Ker_queued_6 rfl 0 rfl ?_
  refine r_ifnull (v := none) (tgt := 14) hK d_Ker_queued_7 (by decide) (fun _ => ?_) (fun _ z => absurd z (by simp))
  refine r_null hK d_Ker_queued_14 ?_
  refine r_goto (tgt := 29) hK d_Ker_queued_15 (by decide) ?_
  refine r_astoreN (lv' := [(4, .null), (3, .null), (0, .ref x), (1, .int pv), (2, .int k)]) hK d_Ker_queued_29 (by decide) rfl ?_
  refine r_aloadN hK d_Ker_queued_31 0 rfl ?_
  refine r_ifnonnull (v := none) (tgt := 40) hK d_Ker_queued_33 (by decide) (fun _ z => absurd z (by simp)) (fun _ => ?_)
  refine r_iconst (v := -1) hK d_Ker_queued_36 (by decide) ?_
  refine r_goto (tgt := 45) hK d_Ker_queued_37 (by decide) ?_
  refine r_iret hK d_Ker_queued_45 rfl (rfl) ?_
  exact ⟨rfl, rfl⟩
set_option maxHeartbeats 1000000 in
theorem c_Ker_mail_bad (X : gCx) (l : Launch) (s : sS) (x : Nat) (pv : Int32) (hx : gk s.1 x = 1) (hpr : gMr X l (HoldP X (Abs X)) M_Ker_processor 0 0 0 [.ref x, .int pv] s none s)  : gMi X l (HoldP X (Abs X)) M_Ker_mail 4 0 0 [.ref x, .int pv] s (-1) s := by
  refine gM_intro (by decide) (Nat.le_of_ble_eq_true rfl) (fun K hK => ?_)
  show K 0 [(0, .ref x), (1, .int pv)] [] s 0 0
  refine r_aload_n hK d_Ker_mail_0 rfl 0 rfl ?_
  refine r_iload_n hK d_Ker_mail_1 rfl 1 rfl ?_
  refine r_callVr (As := [.int pv]) (b := x) (st := []) hK (hpr) d_Ker_mail_2 ml_Ker_27 cv_Ker_processor rfl (by decide) (p_recv k_Ker (fun g h => h.kd hx (by decide))) (Nat.le_of_ble_eq_true rfl) ?_ rfl
  refine r_astore_nN (lv' := [(2, .null), (0, .ref x), (1, .int pv)]) hK d_Ker_mail_5 rfl (by decide) rfl ?_
  refine r_aload_nN hK d_Ker_mail_6 rfl 0 rfl ?_
  refine r_ifnonnull (v := none) (tgt := 14) hK d_Ker_mail_7 (by decide) (fun _ z => absurd z (by simp)) (fun _ => ?_)
  refine r_iconst (v := -1) hK d_Ker_mail_10 (by decide) ?_
  refine r_goto (tgt := 21) hK d_Ker_mail_11 (by decide) ?_
  refine r_iret hK d_Ker_mail_21 rfl (rfl) ?_
  exact ⟨rfl, rfl⟩
set_option maxHeartbeats 1000000 in
theorem c_Ker_translation_bad (X : gCx) (l : Launch) (s : sS) (x : Nat) (pv pg : Int32) (hx : gk s.1 x = 1) (hpr : gMr X l (HoldP X (Abs X)) M_Ker_processor 0 0 0 [.ref x, .int pv] s none s)  : gMi X l (HoldP X (Abs X)) M_Ker_translation 4 0 0 [.ref x, .int pv, .int pg] s (-1) s := by
  refine gM_intro (by decide) (Nat.le_of_ble_eq_true rfl) (fun K hK => ?_)
  show K 0 [(0, .ref x), (1, .int pv), (2, .int pg)] [] s 0 0
  refine r_aload_n hK d_Ker_translation_0 rfl 0 rfl ?_
  refine r_iload_n hK d_Ker_translation_1 rfl 1 rfl ?_
  refine r_callVr (As := [.int pv]) (b := x) (st := []) hK (hpr) d_Ker_translation_2 ml_Ker_27 cv_Ker_processor rfl (by decide) (p_recv k_Ker (fun g h => h.kd hx (by decide))) (Nat.le_of_ble_eq_true rfl) ?_ rfl
  refine r_astore_nN (lv' := [(3, .null), (0, .ref x), (1, .int pv), (2, .int pg)]) hK d_Ker_translation_5 rfl (by decide) rfl ?_
  refine r_aload_nN hK d_Ker_translation_6 rfl 0 rfl ?_
  refine r_ifnonnull (v := none) (tgt := 14) hK d_Ker_translation_7 (by decide) (fun _ z => absurd z (by simp)) (fun _ => ?_)
  refine r_null hK d_Ker_translation_10 ?_
  refine r_goto (tgt := 19) hK d_Ker_translation_11 (by decide) ?_
  refine r_astoreN (lv' := [(4, .null), (3, .null), (0, .ref x), (1, .int pv), (2, .int pg)]) hK d_Ker_translation_19 (by decide) rfl ?_
  refine r_aloadN hK d_Ker_translation_21 0 rfl ?_
  refine r_ifnonnull (v := none) (tgt := 30) hK d_Ker_translation_23 (by decide) (fun _ z => absurd z (by simp)) (fun _ => ?_)
  refine r_iconst (v := -1) hK d_Ker_translation_26 (by decide) ?_
  refine r_goto (tgt := 35) hK d_Ker_translation_27 (by decide) ?_
  refine r_iret hK d_Ker_translation_35 rfl (rfl) ?_
  exact ⟨rfl, rfl⟩
set_option maxHeartbeats 1000000 in
theorem c_Ker_current_none (X : gCx) (l : Launch) (s : sS) (x pp : Nat) (pv : Int32) (hx : gk s.1 x = 1) (hpr : gMr X l (HoldP X (Abs X)) M_Ker_processor 0 0 0 [.ref x, .int pv] s (some pp) s) (hpp : gk s.1 pp = 3) (hc : gr s.1 18 pp = none) : gMi X l (HoldP X (Abs X)) M_Ker_current 4 0 0 [.ref x, .int pv] s (-1) s := by
  refine gM_intro (by decide) (Nat.le_of_ble_eq_true rfl) (fun K hK => ?_)
  show K 0 [(0, .ref x), (1, .int pv)] [] s 0 0
  refine r_aload_n hK d_Ker_current_0 rfl 0 rfl ?_
  refine r_iload_n hK d_Ker_current_1 rfl 1 rfl ?_
  refine r_callVr (As := [.int pv]) (b := x) (st := []) hK (hpr) d_Ker_current_2 ml_Ker_27 cv_Ker_processor rfl (by decide) (p_recv k_Ker (fun g h => h.kd hx (by decide))) (Nat.le_of_ble_eq_true rfl) ?_ rfl
  refine r_astore_n (lv' := [(2, .ref pp), (0, .ref x), (1, .int pv)]) hK d_Ker_current_5 rfl (by decide) rfl ?_
  refine r_aload_n hK d_Ker_current_6 rfl 0 rfl ?_
  refine r_ifnull (v := some pp) (tgt := 17) hK d_Ker_current_7 (by decide) (fun z => absurd z (by simp)) (fun _ _ => ?_)
  refine r_aload_n hK d_Ker_current_10 rfl 0 rfl ?_
  refine p_getR (f := 18) (v := none) hK d_Ker_current_11 k_Processor fd_Ker_125_Processor (by decide) rfl rfl (fun g h => h.getR hpp (by decide) rfl hc) ?_
  refine r_ifnonnull (v := none) (tgt := 21) hK d_Ker_current_14 (by decide) (fun _ z => absurd z (by simp)) (fun _ => ?_)
  refine r_iconst (v := -1) hK d_Ker_current_17 (by decide) ?_
  refine r_goto (tgt := 28) hK d_Ker_current_18 (by decide) ?_
  refine r_iret hK d_Ker_current_28 rfl (rfl) ?_
  exact ⟨rfl, rfl⟩
set_option maxHeartbeats 1000000 in
theorem c_Ker_current (X : gCx) (l : Launch) (s : sS) (x pp : Nat) (pv : Int32) (hx : gk s.1 x = 1) (hpr : gMr X l (HoldP X (Abs X)) M_Ker_processor 0 0 0 [.ref x, .int pv] s (some pp) s) (hpp : gk s.1 pp = 3) (ta t : Nat) (hc : gr s.1 18 pp = some ta) (hta : gk s.1 ta = 9) (ht : gi s.1 33 ta = nI t) : gMi X l (HoldP X (Abs X)) M_Ker_current 4 0 0 [.ref x, .int pv] s (nI t) s := by
  refine gM_intro (by decide) (Nat.le_of_ble_eq_true rfl) (fun K hK => ?_)
  show K 0 [(0, .ref x), (1, .int pv)] [] s 0 0
  refine r_aload_n hK d_Ker_current_0 rfl 0 rfl ?_
  refine r_iload_n hK d_Ker_current_1 rfl 1 rfl ?_
  refine r_callVr (As := [.int pv]) (b := x) (st := []) hK (hpr) d_Ker_current_2 ml_Ker_27 cv_Ker_processor rfl (by decide) (p_recv k_Ker (fun g h => h.kd hx (by decide))) (Nat.le_of_ble_eq_true rfl) ?_ rfl
  refine r_astore_n (lv' := [(2, .ref pp), (0, .ref x), (1, .int pv)]) hK d_Ker_current_5 rfl (by decide) rfl ?_
  refine r_aload_n hK d_Ker_current_6 rfl 0 rfl ?_
  refine r_ifnull (v := some pp) (tgt := 17) hK d_Ker_current_7 (by decide) (fun z => absurd z (by simp)) (fun _ _ => ?_)
  refine r_aload_n hK d_Ker_current_10 rfl 0 rfl ?_
  refine p_getR (f := 18) (v := some ta) hK d_Ker_current_11 k_Processor fd_Ker_125_Processor (by decide) rfl rfl (fun g h => h.getR hpp (by decide) rfl hc) ?_
  refine r_ifnonnull (v := some ta) (tgt := 21) hK d_Ker_current_14 (by decide) (fun _ _ => ?_) (fun z => absurd z (by simp))
  refine r_aload_n hK d_Ker_current_21 rfl 0 rfl ?_
  refine p_getR (f := 18) (v := some ta) hK d_Ker_current_22 k_Processor fd_Ker_125_Processor (by decide) rfl rfl (fun g h => h.getR hpp (by decide) rfl hc) ?_
  refine p_getI (f := 33) (v := nI t) hK d_Ker_current_25 k_Task fd_Ker_173_Task (by decide) rfl rfl (fun g h => h.getI hta (by decide) rfl ht) ?_
  refine r_iret hK d_Ker_current_28 rfl (rfl) ?_
  exact ⟨rfl, rfl⟩
set_option maxHeartbeats 1000000 in
theorem c_Ker_phase_none (X : gCx) (l : Launch) (s : sS) (x pp : Nat) (pv : Int32) (hx : gk s.1 x = 1) (hpr : gMr X l (HoldP X (Abs X)) M_Ker_processor 0 0 0 [.ref x, .int pv] s (some pp) s) (hpp : gk s.1 pp = 3) (hc : gr s.1 18 pp = none) : gMi X l (HoldP X (Abs X)) M_Ker_phase 4 0 0 [.ref x, .int pv] s (-1) s := by
  refine gM_intro (by decide) (Nat.le_of_ble_eq_true rfl) (fun K hK => ?_)
  show K 0 [(0, .ref x), (1, .int pv)] [] s 0 0
  refine r_aload_n hK d_Ker_phase_0 rfl 0 rfl ?_
  refine r_iload_n hK d_Ker_phase_1 rfl 1 rfl ?_
  refine r_callVr (As := [.int pv]) (b := x) (st := []) hK (hpr) d_Ker_phase_2 ml_Ker_27 cv_Ker_processor rfl (by decide) (p_recv k_Ker (fun g h => h.kd hx (by decide))) (Nat.le_of_ble_eq_true rfl) ?_ rfl
  refine r_astore_n (lv' := [(2, .ref pp), (0, .ref x), (1, .int pv)]) hK d_Ker_phase_5 rfl (by decide) rfl ?_
  refine r_aload_n hK d_Ker_phase_6 rfl 0 rfl ?_
  refine r_ifnull (v := some pp) (tgt := 17) hK d_Ker_phase_7 (by decide) (fun z => absurd z (by simp)) (fun _ _ => ?_)
  refine r_aload_n hK d_Ker_phase_10 rfl 0 rfl ?_
  refine p_getR (f := 18) (v := none) hK d_Ker_phase_11 k_Processor fd_Ker_125_Processor (by decide) rfl rfl (fun g h => h.getR hpp (by decide) rfl hc) ?_
  refine r_ifnonnull (v := none) (tgt := 21) hK d_Ker_phase_14 (by decide) (fun _ z => absurd z (by simp)) (fun _ => ?_)
  refine r_iconst (v := -1) hK d_Ker_phase_17 (by decide) ?_
  refine r_goto (tgt := 47) hK d_Ker_phase_18 (by decide) ?_
  refine r_iret hK d_Ker_phase_47 rfl (rfl) ?_
  exact ⟨rfl, rfl⟩
set_option maxHeartbeats 1000000 in
theorem c_Ker_phase_Access (X : gCx) (l : Launch) (s : sS) (x pp : Nat) (pv : Int32) (hx : gk s.1 x = 1) (hpr : gMr X l (HoldP X (Abs X)) M_Ker_processor 0 0 0 [.ref x, .int pv] s (some pp) s) (hpp : gk s.1 pp = 3) (ta ol dd o e : Nat) (cd : Int32) (hc : gr s.1 18 pp = some ta) (hta : gk s.1 ta = 9) (hto : gr s.1 34 ta = some ol) (hol : gk s.1 ol = 14) (hdd : gi s.1 35 ta = nI dd) (hod : (sl s ol)[dd]? = some o) (ho : gk s.1 o = 10) (hph : gr s.1 39 o = some (cxE X e)) (he : e < 12) (hcd : ([4, 5, 6, 7, 8, 9, 10, 11, 12, 13, 14, 15] : List Int32).getD e 0 = cd) : gMi X l (HoldP X (Abs X)) M_Ker_phase 4 0 0 [.ref x, .int pv] s cd s := by
  refine gM_intro (by decide) (Nat.le_of_ble_eq_true rfl) (fun K hK => ?_)
  show K 0 [(0, .ref x), (1, .int pv)] [] s 0 0
  refine r_aload_n hK d_Ker_phase_0 rfl 0 rfl ?_
  refine r_iload_n hK d_Ker_phase_1 rfl 1 rfl ?_
  refine r_callVr (As := [.int pv]) (b := x) (st := []) hK (hpr) d_Ker_phase_2 ml_Ker_27 cv_Ker_processor rfl (by decide) (p_recv k_Ker (fun g h => h.kd hx (by decide))) (Nat.le_of_ble_eq_true rfl) ?_ rfl
  refine r_astore_n (lv' := [(2, .ref pp), (0, .ref x), (1, .int pv)]) hK d_Ker_phase_5 rfl (by decide) rfl ?_
  refine r_aload_n hK d_Ker_phase_6 rfl 0 rfl ?_
  refine r_ifnull (v := some pp) (tgt := 17) hK d_Ker_phase_7 (by decide) (fun z => absurd z (by simp)) (fun _ _ => ?_)
  refine r_aload_n hK d_Ker_phase_10 rfl 0 rfl ?_
  refine p_getR (f := 18) (v := some ta) hK d_Ker_phase_11 k_Processor fd_Ker_125_Processor (by decide) rfl rfl (fun g h => h.getR hpp (by decide) rfl hc) ?_
  refine r_ifnonnull (v := some ta) (tgt := 21) hK d_Ker_phase_14 (by decide) (fun _ _ => ?_) (fun z => absurd z (by simp))
  refine r_aload_n hK d_Ker_phase_21 rfl 0 rfl ?_
  refine p_getR (f := 18) (v := some ta) hK d_Ker_phase_22 k_Processor fd_Ker_125_Processor (by decide) rfl rfl (fun g h => h.getR hpp (by decide) rfl hc) ?_
  refine p_getR (f := 34) (v := some ol) hK d_Ker_phase_25 k_Task fd_Ker_48_Task (by decide) rfl rfl (fun g h => h.getR hta (by decide) rfl hto) ?_
  refine r_aload_n hK d_Ker_phase_28 rfl 0 rfl ?_
  refine p_getR (f := 18) (v := some ta) hK d_Ker_phase_29 k_Processor fd_Ker_125_Processor (by decide) rfl rfl (fun g h => h.getR hpp (by decide) rfl hc) ?_
  refine p_getI (f := 35) (v := nI dd) hK d_Ker_phase_32 k_Task fd_Ker_133_Task (by decide) rfl rfl (fun g h => h.getI hta (by decide) rfl hdd) ?_
  refine r_callVr (As := [.int (nI dd)]) (b := ol) (st := []) hK (cS_at (s := s) ol dd o (hol) hod) d_Ker_phase_35 ml_Ker_44 cv_AL_get rfl (by decide) (p_recv k_AL (fun g h => h.kd hol (by decide))) (Nat.le_of_ble_eq_true rfl) ?_ rfl
  refine p_cast hK d_Ker_phase_38 cl_Ker_136 ca_Access_Order (p_recv k_Access (fun g h => h.kd ho (by decide))) ?_
  refine p_getR (f := 39) (v := some (cxE X e)) hK d_Ker_phase_41 k_Access fd_Ker_138_Access (by decide) rfl rfl (fun g h => h.getR ho (by decide) rfl hph) ?_
  refine r_callVi (As := []) (b := cxE X e) (st := []) hK (c_Phase_code X l (HoldP X (Abs X)) s e cd he hcd) d_Ker_phase_44 ml_Ker_142 cv_Phase_code rfl (by decide) (p_recvE he) (Nat.le_of_ble_eq_true rfl) ?_ rfl
  refine r_iret hK d_Ker_phase_47 rfl (rfl) ?_
  exact ⟨rfl, rfl⟩
set_option maxHeartbeats 1000000 in
theorem c_Ker_phase_Grant (X : gCx) (l : Launch) (s : sS) (x pp : Nat) (pv : Int32) (hx : gk s.1 x = 1) (hpr : gMr X l (HoldP X (Abs X)) M_Ker_processor 0 0 0 [.ref x, .int pv] s (some pp) s) (hpp : gk s.1 pp = 3) (ta ol dd o e : Nat) (cd : Int32) (hc : gr s.1 18 pp = some ta) (hta : gk s.1 ta = 9) (hto : gr s.1 34 ta = some ol) (hol : gk s.1 ol = 14) (hdd : gi s.1 35 ta = nI dd) (hod : (sl s ol)[dd]? = some o) (ho : gk s.1 o = 11) (hph : gr s.1 39 o = some (cxE X e)) (he : e < 12) (hcd : ([4, 5, 6, 7, 8, 9, 10, 11, 12, 13, 14, 15] : List Int32).getD e 0 = cd) : gMi X l (HoldP X (Abs X)) M_Ker_phase 4 0 0 [.ref x, .int pv] s cd s := by
  refine gM_intro (by decide) (Nat.le_of_ble_eq_true rfl) (fun K hK => ?_)
  show K 0 [(0, .ref x), (1, .int pv)] [] s 0 0
  refine r_aload_n hK d_Ker_phase_0 rfl 0 rfl ?_
  refine r_iload_n hK d_Ker_phase_1 rfl 1 rfl ?_
  refine r_callVr (As := [.int pv]) (b := x) (st := []) hK (hpr) d_Ker_phase_2 ml_Ker_27 cv_Ker_processor rfl (by decide) (p_recv k_Ker (fun g h => h.kd hx (by decide))) (Nat.le_of_ble_eq_true rfl) ?_ rfl
  refine r_astore_n (lv' := [(2, .ref pp), (0, .ref x), (1, .int pv)]) hK d_Ker_phase_5 rfl (by decide) rfl ?_
  refine r_aload_n hK d_Ker_phase_6 rfl 0 rfl ?_
  refine r_ifnull (v := some pp) (tgt := 17) hK d_Ker_phase_7 (by decide) (fun z => absurd z (by simp)) (fun _ _ => ?_)
  refine r_aload_n hK d_Ker_phase_10 rfl 0 rfl ?_
  refine p_getR (f := 18) (v := some ta) hK d_Ker_phase_11 k_Processor fd_Ker_125_Processor (by decide) rfl rfl (fun g h => h.getR hpp (by decide) rfl hc) ?_
  refine r_ifnonnull (v := some ta) (tgt := 21) hK d_Ker_phase_14 (by decide) (fun _ _ => ?_) (fun z => absurd z (by simp))
  refine r_aload_n hK d_Ker_phase_21 rfl 0 rfl ?_
  refine p_getR (f := 18) (v := some ta) hK d_Ker_phase_22 k_Processor fd_Ker_125_Processor (by decide) rfl rfl (fun g h => h.getR hpp (by decide) rfl hc) ?_
  refine p_getR (f := 34) (v := some ol) hK d_Ker_phase_25 k_Task fd_Ker_48_Task (by decide) rfl rfl (fun g h => h.getR hta (by decide) rfl hto) ?_
  refine r_aload_n hK d_Ker_phase_28 rfl 0 rfl ?_
  refine p_getR (f := 18) (v := some ta) hK d_Ker_phase_29 k_Processor fd_Ker_125_Processor (by decide) rfl rfl (fun g h => h.getR hpp (by decide) rfl hc) ?_
  refine p_getI (f := 35) (v := nI dd) hK d_Ker_phase_32 k_Task fd_Ker_133_Task (by decide) rfl rfl (fun g h => h.getI hta (by decide) rfl hdd) ?_
  refine r_callVr (As := [.int (nI dd)]) (b := ol) (st := []) hK (cS_at (s := s) ol dd o (hol) hod) d_Ker_phase_35 ml_Ker_44 cv_AL_get rfl (by decide) (p_recv k_AL (fun g h => h.kd hol (by decide))) (Nat.le_of_ble_eq_true rfl) ?_ rfl
  refine p_cast hK d_Ker_phase_38 cl_Ker_136 ca_Grant_Order (p_recv k_Grant (fun g h => h.kd ho (by decide))) ?_
  refine p_getR (f := 39) (v := some (cxE X e)) hK d_Ker_phase_41 k_Grant fd_Ker_138_Grant (by decide) rfl rfl (fun g h => h.getR ho (by decide) rfl hph) ?_
  refine r_callVi (As := []) (b := cxE X e) (st := []) hK (c_Phase_code X l (HoldP X (Abs X)) s e cd he hcd) d_Ker_phase_44 ml_Ker_142 cv_Phase_code rfl (by decide) (p_recvE he) (Nat.le_of_ble_eq_true rfl) ?_ rfl
  refine r_iret hK d_Ker_phase_47 rfl (rfl) ?_
  exact ⟨rfl, rfl⟩
set_option maxHeartbeats 1000000 in
theorem c_Ker_phase_Revoke (X : gCx) (l : Launch) (s : sS) (x pp : Nat) (pv : Int32) (hx : gk s.1 x = 1) (hpr : gMr X l (HoldP X (Abs X)) M_Ker_processor 0 0 0 [.ref x, .int pv] s (some pp) s) (hpp : gk s.1 pp = 3) (ta ol dd o e : Nat) (cd : Int32) (hc : gr s.1 18 pp = some ta) (hta : gk s.1 ta = 9) (hto : gr s.1 34 ta = some ol) (hol : gk s.1 ol = 14) (hdd : gi s.1 35 ta = nI dd) (hod : (sl s ol)[dd]? = some o) (ho : gk s.1 o = 12) (hph : gr s.1 39 o = some (cxE X e)) (he : e < 12) (hcd : ([4, 5, 6, 7, 8, 9, 10, 11, 12, 13, 14, 15] : List Int32).getD e 0 = cd) : gMi X l (HoldP X (Abs X)) M_Ker_phase 4 0 0 [.ref x, .int pv] s cd s := by
  refine gM_intro (by decide) (Nat.le_of_ble_eq_true rfl) (fun K hK => ?_)
  show K 0 [(0, .ref x), (1, .int pv)] [] s 0 0
  refine r_aload_n hK d_Ker_phase_0 rfl 0 rfl ?_
  refine r_iload_n hK d_Ker_phase_1 rfl 1 rfl ?_
  refine r_callVr (As := [.int pv]) (b := x) (st := []) hK (hpr) d_Ker_phase_2 ml_Ker_27 cv_Ker_processor rfl (by decide) (p_recv k_Ker (fun g h => h.kd hx (by decide))) (Nat.le_of_ble_eq_true rfl) ?_ rfl
  refine r_astore_n (lv' := [(2, .ref pp), (0, .ref x), (1, .int pv)]) hK d_Ker_phase_5 rfl (by decide) rfl ?_
  refine r_aload_n hK d_Ker_phase_6 rfl 0 rfl ?_
  refine r_ifnull (v := some pp) (tgt := 17) hK d_Ker_phase_7 (by decide) (fun z => absurd z (by simp)) (fun _ _ => ?_)
  refine r_aload_n hK d_Ker_phase_10 rfl 0 rfl ?_
  refine p_getR (f := 18) (v := some ta) hK d_Ker_phase_11 k_Processor fd_Ker_125_Processor (by decide) rfl rfl (fun g h => h.getR hpp (by decide) rfl hc) ?_
  refine r_ifnonnull (v := some ta) (tgt := 21) hK d_Ker_phase_14 (by decide) (fun _ _ => ?_) (fun z => absurd z (by simp))
  refine r_aload_n hK d_Ker_phase_21 rfl 0 rfl ?_
  refine p_getR (f := 18) (v := some ta) hK d_Ker_phase_22 k_Processor fd_Ker_125_Processor (by decide) rfl rfl (fun g h => h.getR hpp (by decide) rfl hc) ?_
  refine p_getR (f := 34) (v := some ol) hK d_Ker_phase_25 k_Task fd_Ker_48_Task (by decide) rfl rfl (fun g h => h.getR hta (by decide) rfl hto) ?_
  refine r_aload_n hK d_Ker_phase_28 rfl 0 rfl ?_
  refine p_getR (f := 18) (v := some ta) hK d_Ker_phase_29 k_Processor fd_Ker_125_Processor (by decide) rfl rfl (fun g h => h.getR hpp (by decide) rfl hc) ?_
  refine p_getI (f := 35) (v := nI dd) hK d_Ker_phase_32 k_Task fd_Ker_133_Task (by decide) rfl rfl (fun g h => h.getI hta (by decide) rfl hdd) ?_
  refine r_callVr (As := [.int (nI dd)]) (b := ol) (st := []) hK (cS_at (s := s) ol dd o (hol) hod) d_Ker_phase_35 ml_Ker_44 cv_AL_get rfl (by decide) (p_recv k_AL (fun g h => h.kd hol (by decide))) (Nat.le_of_ble_eq_true rfl) ?_ rfl
  refine p_cast hK d_Ker_phase_38 cl_Ker_136 ca_Revoke_Order (p_recv k_Revoke (fun g h => h.kd ho (by decide))) ?_
  refine p_getR (f := 39) (v := some (cxE X e)) hK d_Ker_phase_41 k_Revoke fd_Ker_138_Revoke (by decide) rfl rfl (fun g h => h.getR ho (by decide) rfl hph) ?_
  refine r_callVi (As := []) (b := cxE X e) (st := []) hK (c_Phase_code X l (HoldP X (Abs X)) s e cd he hcd) d_Ker_phase_44 ml_Ker_142 cv_Phase_code rfl (by decide) (p_recvE he) (Nat.le_of_ble_eq_true rfl) ?_ rfl
  refine r_iret hK d_Ker_phase_47 rfl (rfl) ?_
  exact ⟨rfl, rfl⟩
set_option maxHeartbeats 1000000 in
theorem c_Ker_phase_Move (X : gCx) (l : Launch) (s : sS) (x pp : Nat) (pv : Int32) (hx : gk s.1 x = 1) (hpr : gMr X l (HoldP X (Abs X)) M_Ker_processor 0 0 0 [.ref x, .int pv] s (some pp) s) (hpp : gk s.1 pp = 3) (ta ol dd o e : Nat) (cd : Int32) (hc : gr s.1 18 pp = some ta) (hta : gk s.1 ta = 9) (hto : gr s.1 34 ta = some ol) (hol : gk s.1 ol = 14) (hdd : gi s.1 35 ta = nI dd) (hod : (sl s ol)[dd]? = some o) (ho : gk s.1 o = 13) (hph : gr s.1 39 o = some (cxE X e)) (he : e < 12) (hcd : ([4, 5, 6, 7, 8, 9, 10, 11, 12, 13, 14, 15] : List Int32).getD e 0 = cd) : gMi X l (HoldP X (Abs X)) M_Ker_phase 4 0 0 [.ref x, .int pv] s cd s := by
  refine gM_intro (by decide) (Nat.le_of_ble_eq_true rfl) (fun K hK => ?_)
  show K 0 [(0, .ref x), (1, .int pv)] [] s 0 0
  refine r_aload_n hK d_Ker_phase_0 rfl 0 rfl ?_
  refine r_iload_n hK d_Ker_phase_1 rfl 1 rfl ?_
  refine r_callVr (As := [.int pv]) (b := x) (st := []) hK (hpr) d_Ker_phase_2 ml_Ker_27 cv_Ker_processor rfl (by decide) (p_recv k_Ker (fun g h => h.kd hx (by decide))) (Nat.le_of_ble_eq_true rfl) ?_ rfl
  refine r_astore_n (lv' := [(2, .ref pp), (0, .ref x), (1, .int pv)]) hK d_Ker_phase_5 rfl (by decide) rfl ?_
  refine r_aload_n hK d_Ker_phase_6 rfl 0 rfl ?_
  refine r_ifnull (v := some pp) (tgt := 17) hK d_Ker_phase_7 (by decide) (fun z => absurd z (by simp)) (fun _ _ => ?_)
  refine r_aload_n hK d_Ker_phase_10 rfl 0 rfl ?_
  refine p_getR (f := 18) (v := some ta) hK d_Ker_phase_11 k_Processor fd_Ker_125_Processor (by decide) rfl rfl (fun g h => h.getR hpp (by decide) rfl hc) ?_
  refine r_ifnonnull (v := some ta) (tgt := 21) hK d_Ker_phase_14 (by decide) (fun _ _ => ?_) (fun z => absurd z (by simp))
  refine r_aload_n hK d_Ker_phase_21 rfl 0 rfl ?_
  refine p_getR (f := 18) (v := some ta) hK d_Ker_phase_22 k_Processor fd_Ker_125_Processor (by decide) rfl rfl (fun g h => h.getR hpp (by decide) rfl hc) ?_
  refine p_getR (f := 34) (v := some ol) hK d_Ker_phase_25 k_Task fd_Ker_48_Task (by decide) rfl rfl (fun g h => h.getR hta (by decide) rfl hto) ?_
  refine r_aload_n hK d_Ker_phase_28 rfl 0 rfl ?_
  refine p_getR (f := 18) (v := some ta) hK d_Ker_phase_29 k_Processor fd_Ker_125_Processor (by decide) rfl rfl (fun g h => h.getR hpp (by decide) rfl hc) ?_
  refine p_getI (f := 35) (v := nI dd) hK d_Ker_phase_32 k_Task fd_Ker_133_Task (by decide) rfl rfl (fun g h => h.getI hta (by decide) rfl hdd) ?_
  refine r_callVr (As := [.int (nI dd)]) (b := ol) (st := []) hK (cS_at (s := s) ol dd o (hol) hod) d_Ker_phase_35 ml_Ker_44 cv_AL_get rfl (by decide) (p_recv k_AL (fun g h => h.kd hol (by decide))) (Nat.le_of_ble_eq_true rfl) ?_ rfl
  refine p_cast hK d_Ker_phase_38 cl_Ker_136 ca_Move_Order (p_recv k_Move (fun g h => h.kd ho (by decide))) ?_
  refine p_getR (f := 39) (v := some (cxE X e)) hK d_Ker_phase_41 k_Move fd_Ker_138_Move (by decide) rfl rfl (fun g h => h.getR ho (by decide) rfl hph) ?_
  refine r_callVi (As := []) (b := cxE X e) (st := []) hK (c_Phase_code X l (HoldP X (Abs X)) s e cd he hcd) d_Ker_phase_44 ml_Ker_142 cv_Phase_code rfl (by decide) (p_recvE he) (Nat.le_of_ble_eq_true rfl) ?_ rfl
  refine r_iret hK d_Ker_phase_47 rfl (rfl) ?_
  exact ⟨rfl, rfl⟩
set_option maxHeartbeats 1000000 in
theorem c_Ker_queued_neg (X : gCx) (l : Launch) (s : sS) (x pp : Nat) (pv k : Int32) (hx : gk s.1 x = 1) (hpr : gMr X l (HoldP X (Abs X)) M_Ker_processor 0 0 0 [.ref x, .int pv] s (some pp) s) (hk : ¬ 0 ≤ k) : gMi X l (HoldP X (Abs X)) M_Ker_queued 4 0 0 [.ref x, .int pv, .int k] s (-1) s := by
  refine gM_intro (by decide) (Nat.le_of_ble_eq_true rfl) (fun K hK => ?_)
  show K 0 [(0, .ref x), (1, .int pv), (2, .int k)] [] s 0 0
  refine r_aload_n hK d_Ker_queued_0 rfl 0 rfl ?_
  refine r_iload_n hK d_Ker_queued_1 rfl 1 rfl ?_
  refine r_callVr (As := [.int pv]) (b := x) (st := []) hK (hpr) d_Ker_queued_2 ml_Ker_27 cv_Ker_processor rfl (by decide) (p_recv k_Ker (fun g h => h.kd hx (by decide))) (Nat.le_of_ble_eq_true rfl) ?_ rfl
  refine r_astore_n (lv' := [(3, .ref pp), (0, .ref x), (1, .int pv), (2, .int k)]) hK d_Ker_queued_5 rfl (by decide) rfl ?_
  refine r_aload_n hK d_Ker_queued_6 rfl 0 rfl ?_
  refine r_ifnull (v := some pp) (tgt := 14) hK d_Ker_queued_7 (by decide) (fun z => absurd z (by simp)) (fun _ _ => ?_)
  refine r_iload_n hK d_Ker_queued_10 rfl 3 rfl ?_
  refine r_if_ge (tgt := 18) hK d_Ker_queued_11 (by decide) (fun z => False.elim (hk z)) (fun c11 => ?_)
  refine r_null hK d_Ker_queued_14 ?_
  refine r_goto (tgt := 29) hK d_Ker_queued_15 (by decide) ?_
  refine r_astoreN (lv' := [(4, .null), (3, .ref pp), (0, .ref x), (1, .int pv), (2, .int k)]) hK d_Ker_queued_29 (by decide) rfl ?_
  refine r_aloadN hK d_Ker_queued_31 0 rfl ?_
  refine r_ifnonnull (v := none) (tgt := 40) hK d_Ker_queued_33 (by decide) (fun _ z => absurd z (by simp)) (fun _ => ?_)
  refine r_iconst (v := -1) hK d_Ker_queued_36 (by decide) ?_
  refine r_goto (tgt := 45) hK d_Ker_queued_37 (by decide) ?_
  refine r_iret hK d_Ker_queued_45 rfl (rfl) ?_
  exact ⟨rfl, rfl⟩
set_option maxHeartbeats 1000000 in
theorem c_Ker_queued_none (X : gCx) (l : Launch) (s : sS) (x pp : Nat) (pv : Int32) (hx : gk s.1 x = 1) (hpr : gMr X l (HoldP X (Abs X)) M_Ker_processor 0 0 0 [.ref x, .int pv] s (some pp) s) (hpp : gk s.1 pp = 3) (k qu : Nat) (hkb : k < 2 ^ 31) (hpq : gr s.1 17 pp = some qu) (hqu : gk s.1 qu = 4) (hqb : (sq s qu).length < 2 ^ 30) (hqk : (sq s qu)[k]? = none)  : gMi X l (HoldP X (Abs X)) M_Ker_queued 4 0 0 [.ref x, .int pv, .int (nI k)] s (-1) s := by
  refine gM_intro (by decide) (Nat.le_of_ble_eq_true rfl) (fun K hK => ?_)
  show K 0 [(0, .ref x), (1, .int pv), (2, .int (nI k))] [] s 0 0
  refine r_aload_n hK d_Ker_queued_0 rfl 0 rfl ?_
  refine r_iload_n hK d_Ker_queued_1 rfl 1 rfl ?_
  refine r_callVr (As := [.int pv]) (b := x) (st := []) hK (hpr) d_Ker_queued_2 ml_Ker_27 cv_Ker_processor rfl (by decide) (p_recv k_Ker (fun g h => h.kd hx (by decide))) (Nat.le_of_ble_eq_true rfl) ?_ rfl
  refine r_astore_n (lv' := [(3, .ref pp), (0, .ref x), (1, .int pv), (2, .int (nI k))]) hK d_Ker_queued_5 rfl (by decide) rfl ?_
  refine r_aload_n hK d_Ker_queued_6 rfl 0 rfl ?_
  refine r_ifnull (v := some pp) (tgt := 14) hK d_Ker_queued_7 (by decide) (fun z => absurd z (by simp)) (fun _ _ => ?_)
  refine r_iload_n hK d_Ker_queued_10 rfl 3 rfl ?_
  refine r_nif_ge (a := k) (tgt := 18) hK d_Ker_queued_11 (by decide) (by omega) ?_
  refine r_aload_n hK d_Ker_queued_18 rfl 0 rfl ?_
  refine p_getR (f := 17) (v := some qu) hK d_Ker_queued_19 k_Processor fd_Ker_55_Processor (by decide) rfl rfl (fun g h => h.getR hpp (by decide) rfl hpq) ?_
  refine r_iload_n hK d_Ker_queued_22 rfl 3 rfl ?_
  have hget := cS_get (X := X) (l := l) (s := s) qu k hqu hkb hqb
  rw [hqk] at hget
  refine r_callVr (As := [.int (nI k)]) (b := qu) (st := []) hK (hget) d_Ker_queued_23 ml_Ker_176 cv_Line_get rfl (by decide) (p_recv k_Line (fun g h => h.kd hqu (by decide))) (Nat.le_of_ble_eq_true rfl) ?_ rfl
  refine p_castN hK d_Ker_queued_26 ?_
  refine r_astoreN (lv' := [(4, .null), (3, .ref pp), (0, .ref x), (1, .int pv), (2, .int (nI k))]) hK d_Ker_queued_29 (by decide) rfl ?_
  refine r_aloadN hK d_Ker_queued_31 0 rfl ?_
  refine r_ifnonnull (v := none) (tgt := 40) hK d_Ker_queued_33 (by decide) (fun _ z => absurd z (by simp)) (fun _ => ?_)
  refine r_iconst (v := -1) hK d_Ker_queued_36 (by decide) ?_
  refine r_goto (tgt := 45) hK d_Ker_queued_37 (by decide) ?_
  refine r_iret hK d_Ker_queued_45 rfl (rfl) ?_
  exact ⟨rfl, rfl⟩
set_option maxHeartbeats 1000000 in
theorem c_Ker_queued (X : gCx) (l : Launch) (s : sS) (x pp : Nat) (pv : Int32) (hx : gk s.1 x = 1) (hpr : gMr X l (HoldP X (Abs X)) M_Ker_processor 0 0 0 [.ref x, .int pv] s (some pp) s) (hpp : gk s.1 pp = 3) (k qu : Nat) (hkb : k < 2 ^ 31) (hpq : gr s.1 17 pp = some qu) (hqu : gk s.1 qu = 4) (hqb : (sq s qu).length < 2 ^ 30) (ta t : Nat) (hqk : (sq s qu)[k]? = some ta) (hta : gk s.1 ta = 9) (ht : gi s.1 33 ta = nI t) : gMi X l (HoldP X (Abs X)) M_Ker_queued 4 0 0 [.ref x, .int pv, .int (nI k)] s (nI t) s := by
  refine gM_intro (by decide) (Nat.le_of_ble_eq_true rfl) (fun K hK => ?_)
  show K 0 [(0, .ref x), (1, .int pv), (2, .int (nI k))] [] s 0 0
  refine r_aload_n hK d_Ker_queued_0 rfl 0 rfl ?_
  refine r_iload_n hK d_Ker_queued_1 rfl 1 rfl ?_
  refine r_callVr (As := [.int pv]) (b := x) (st := []) hK (hpr) d_Ker_queued_2 ml_Ker_27 cv_Ker_processor rfl (by decide) (p_recv k_Ker (fun g h => h.kd hx (by decide))) (Nat.le_of_ble_eq_true rfl) ?_ rfl
  refine r_astore_n (lv' := [(3, .ref pp), (0, .ref x), (1, .int pv), (2, .int (nI k))]) hK d_Ker_queued_5 rfl (by decide) rfl ?_
  refine r_aload_n hK d_Ker_queued_6 rfl 0 rfl ?_
  refine r_ifnull (v := some pp) (tgt := 14) hK d_Ker_queued_7 (by decide) (fun z => absurd z (by simp)) (fun _ _ => ?_)
  refine r_iload_n hK d_Ker_queued_10 rfl 3 rfl ?_
  refine r_nif_ge (a := k) (tgt := 18) hK d_Ker_queued_11 (by decide) (by omega) ?_
  refine r_aload_n hK d_Ker_queued_18 rfl 0 rfl ?_
  refine p_getR (f := 17) (v := some qu) hK d_Ker_queued_19 k_Processor fd_Ker_55_Processor (by decide) rfl rfl (fun g h => h.getR hpp (by decide) rfl hpq) ?_
  refine r_iload_n hK d_Ker_queued_22 rfl 3 rfl ?_
  have hget := cS_get (X := X) (l := l) (s := s) qu k hqu hkb hqb
  rw [hqk] at hget
  refine r_callVr (As := [.int (nI k)]) (b := qu) (st := []) hK (hget) d_Ker_queued_23 ml_Ker_176 cv_Line_get rfl (by decide) (p_recv k_Line (fun g h => h.kd hqu (by decide))) (Nat.le_of_ble_eq_true rfl) ?_ rfl
  refine p_cast hK d_Ker_queued_26 cl_Ker_35 ca_Task_Task (p_recv k_Task (fun g h => h.kd hta (by decide))) ?_
  refine r_astore (lv' := [(4, .ref ta), (3, .ref pp), (0, .ref x), (1, .int pv), (2, .int (nI k))]) hK d_Ker_queued_29 (by decide) rfl ?_
  refine r_aload hK d_Ker_queued_31 0 rfl ?_
  refine r_ifnonnull (v := some ta) (tgt := 40) hK d_Ker_queued_33 (by decide) (fun _ _ => ?_) (fun z => absurd z (by simp))
  refine r_aload hK d_Ker_queued_40 0 rfl ?_
  refine p_getI (f := 33) (v := nI t) hK d_Ker_queued_42 k_Task fd_Ker_173_Task (by decide) rfl rfl (fun g h => h.getI hta (by decide) rfl ht) ?_
  refine r_iret hK d_Ker_queued_45 rfl (rfl) ?_
  exact ⟨rfl, rfl⟩
set_option maxHeartbeats 1000000 in
theorem c_Ker_mail (X : gCx) (l : Launch) (s : sS) (x pp : Nat) (pv : Int32) (hx : gk s.1 x = 1) (hpr : gMr X l (HoldP X (Abs X)) M_Ker_processor 0 0 0 [.ref x, .int pv] s (some pp) s) (hpp : gk s.1 pp = 3) (ml : Nat) (hpm : gr s.1 16 pp = some ml) (hml : gk s.1 ml = 4) : gMi X l (HoldP X (Abs X)) M_Ker_mail 4 0 0 [.ref x, .int pv] s (nI ((sq s ml).length)) s := by
  refine gM_intro (by decide) (Nat.le_of_ble_eq_true rfl) (fun K hK => ?_)
  show K 0 [(0, .ref x), (1, .int pv)] [] s 0 0
  refine r_aload_n hK d_Ker_mail_0 rfl 0 rfl ?_
  refine r_iload_n hK d_Ker_mail_1 rfl 1 rfl ?_
  refine r_callVr (As := [.int pv]) (b := x) (st := []) hK (hpr) d_Ker_mail_2 ml_Ker_27 cv_Ker_processor rfl (by decide) (p_recv k_Ker (fun g h => h.kd hx (by decide))) (Nat.le_of_ble_eq_true rfl) ?_ rfl
  refine r_astore_n (lv' := [(2, .ref pp), (0, .ref x), (1, .int pv)]) hK d_Ker_mail_5 rfl (by decide) rfl ?_
  refine r_aload_n hK d_Ker_mail_6 rfl 0 rfl ?_
  refine r_ifnonnull (v := some pp) (tgt := 14) hK d_Ker_mail_7 (by decide) (fun _ _ => ?_) (fun z => absurd z (by simp))
  refine r_aload_n hK d_Ker_mail_14 rfl 0 rfl ?_
  refine p_getR (f := 16) (v := some ml) hK d_Ker_mail_15 k_Processor fd_Ker_100_Processor (by decide) rfl rfl (fun g h => h.getR hpp (by decide) rfl hpm) ?_
  refine p_getI (f := 21) (v := nI (sq s ml).length) hK d_Ker_mail_18 k_Line fd_Ker_158_Line (by decide) rfl rfl (fun g h => h.size hml) ?_
  refine r_iret hK d_Ker_mail_21 rfl (rfl) ?_
  exact ⟨rfl, rfl⟩
set_option maxHeartbeats 1000000 in
theorem c_Ker_table_bad (X : gCx) (l : Launch) (s : sS) (x : Nat) (pg : Int32) (hb : s_Mod_noRange pg (nI 1) ≠ 0) : gMi X l (HoldP X (Abs X)) M_Ker_table 4 0 0 [.ref x, .int pg] s (-1) s := by
  refine gM_intro (by decide) (Nat.le_of_ble_eq_true rfl) (fun K hK => ?_)
  show K 0 [(0, .ref x), (1, .int pg)] [] s 0 0
  refine r_iload_n hK d_Ker_table_0 rfl 1 rfl ?_
  refine r_iconst (v := nI 1) hK d_Ker_table_1 (by decide) ?_
  refine r_callSi (As := [.int pg, .int (nI 1)]) (st := []) hK (c_Ker_noRange X l s pg (nI 1)) d_Ker_table_2 ml_Ker_70 cs_Ker_noRange rfl (by decide) (Nat.le_of_ble_eq_true rfl) ?_ rfl
  refine r_if_ne (tgt := 20) hK d_Ker_table_5 (by decide) (fun c5 => ?_) (fun z => False.elim (hb z))
  refine r_iconst (v := -1) hK d_Ker_table_20 (by decide) ?_
  refine r_iret hK d_Ker_table_21 rfl (rfl) ?_
  exact ⟨rfl, rfl⟩
set_option maxHeartbeats 1000000 in
theorem c_Ker_table_none (X : gCx) (l : Launch) (s : sS) (x m pg : Nat) (hx : gk s.1 x = 1) (hxm : gr s.1 1 x = some m) (hm : gk s.1 m = 2) (hb : s_Mod_noRange (nI pg) (nI 1) = nI 0) (hfr : gMi X l (HoldP X (Abs X)) M_Machine_frame 0 0 0 [.ref m, .int (nI pg)] s (-1) s)  : gMi X l (HoldP X (Abs X)) M_Ker_table 4 0 0 [.ref x, .int (nI pg)] s (-1) s := by
  refine gM_intro (by decide) (Nat.le_of_ble_eq_true rfl) (fun K hK => ?_)
  show K 0 [(0, .ref x), (1, .int (nI pg))] [] s 0 0
  refine r_iload_n hK d_Ker_table_0 rfl 1 rfl ?_
  refine r_iconst (v := nI 1) hK d_Ker_table_1 (by decide) ?_
  refine r_callSi (As := [.int (nI pg), .int (nI 1)]) (st := []) hK (c_Ker_noRange X l s (nI pg) (nI 1)) d_Ker_table_2 ml_Ker_70 cs_Ker_noRange rfl (by decide) (Nat.le_of_ble_eq_true rfl) ?_ rfl
  refine r_tp (b := nI 0) (hb) ?_
  refine r_nif_ne (a := 0) (tgt := 20) hK d_Ker_table_5 (by decide) (by decide) (fun z => absurd z (by decide)) (fun _ => ?_)
  refine r_aload_n hK d_Ker_table_8 rfl 0 rfl ?_
  refine p_getR (f := 1) (v := some m) hK d_Ker_table_9 k_Ker fd_Ker_10_Ker (by decide) rfl rfl (fun g h => h.getR hx (by decide) rfl hxm) ?_
  refine r_iload_n hK d_Ker_table_12 rfl 1 rfl ?_
  refine r_callVi (As := [.int (nI pg)]) (b := m) (st := []) hK (hfr) d_Ker_table_13 ml_Ker_177 cv_Machine_frame rfl (by decide) (p_recv k_Machine (fun g h => h.kd hm (by decide))) (Nat.le_of_ble_eq_true rfl) ?_ rfl
  refine r_iconst (v := -1) hK d_Ker_table_16 (by decide) ?_
  refine r_icmp_ne (tgt := 22) hK d_Ker_table_17 (by decide) (fun z => False.elim (z rfl)) (fun c17 => ?_)
  refine r_iconst (v := -1) hK d_Ker_table_20 (by decide) ?_
  refine r_iret hK d_Ker_table_21 rfl (rfl) ?_
  exact ⟨rfl, rfl⟩
set_option maxHeartbeats 1000000 in
theorem c_Ker_table_0 (X : gCx) (l : Launch) (s : sS) (x m pg f : Nat) (hx : gk s.1 x = 1) (hxm : gr s.1 1 x = some m) (hm : gk s.1 m = 2) (hf : f < 10) (hb : s_Mod_noRange (nI pg) (nI 1) = nI 0) (hfr : gMi X l (HoldP X (Abs X)) M_Machine_frame 0 0 0 [.ref m, .int (nI pg)] s (nI f) s) (hwr : gMi X l (HoldP X (Abs X)) M_Machine_writable 0 0 0 [.ref m, .int (nI pg)] s (nI 0) s)  : gMi X l (HoldP X (Abs X)) M_Ker_table 4 0 0 [.ref x, .int (nI pg)] s (nI (2 * f + 0)) s := by
  refine gM_intro (by decide) (Nat.le_of_ble_eq_true rfl) (fun K hK => ?_)
  show K 0 [(0, .ref x), (1, .int (nI pg))] [] s 0 0
  refine r_iload_n hK d_Ker_table_0 rfl 1 rfl ?_
  refine r_iconst (v := nI 1) hK d_Ker_table_1 (by decide) ?_
  refine r_callSi (As := [.int (nI pg), .int (nI 1)]) (st := []) hK (c_Ker_noRange X l s (nI pg) (nI 1)) d_Ker_table_2 ml_Ker_70 cs_Ker_noRange rfl (by decide) (Nat.le_of_ble_eq_true rfl) ?_ rfl
  refine r_tp (b := nI 0) (hb) ?_
  refine r_nif_ne (a := 0) (tgt := 20) hK d_Ker_table_5 (by decide) (by decide) (fun z => absurd z (by decide)) (fun _ => ?_)
  refine r_aload_n hK d_Ker_table_8 rfl 0 rfl ?_
  refine p_getR (f := 1) (v := some m) hK d_Ker_table_9 k_Ker fd_Ker_10_Ker (by decide) rfl rfl (fun g h => h.getR hx (by decide) rfl hxm) ?_
  refine r_iload_n hK d_Ker_table_12 rfl 1 rfl ?_
  refine r_callVi (As := [.int (nI pg)]) (b := m) (st := []) hK (hfr) d_Ker_table_13 ml_Ker_177 cv_Machine_frame rfl (by decide) (p_recv k_Machine (fun g h => h.kd hm (by decide))) (Nat.le_of_ble_eq_true rfl) ?_ rfl
  refine r_iconst (v := -1) hK d_Ker_table_16 (by decide) ?_
  refine r_icmp_ne (tgt := 22) hK d_Ker_table_17 (by decide) (fun c17 => ?_) (fun z => False.elim (nI_nm1 (by omega) z))
  refine r_iconst (v := nI 2) hK d_Ker_table_22 (by decide) ?_
  refine r_aload_n hK d_Ker_table_23 rfl 0 rfl ?_
  refine p_getR (f := 1) (v := some m) hK d_Ker_table_24 k_Ker fd_Ker_10_Ker (by decide) rfl rfl (fun g h => h.getR hx (by decide) rfl hxm) ?_
  refine r_iload_n hK d_Ker_table_27 rfl 1 rfl ?_
  refine r_callVi (As := [.int (nI pg)]) (b := m) (st := [.int (nI 2)]) hK (hfr) d_Ker_table_28 ml_Ker_177 cv_Machine_frame rfl (by decide) (p_recv k_Machine (fun g h => h.kd hm (by decide))) (Nat.le_of_ble_eq_true rfl) ?_ rfl
  refine r_imul hK d_Ker_table_31 ?_
  refine r_tp (b := nI (2 * f)) (pk_mul _ _) ?_
  refine r_aload_n hK d_Ker_table_32 rfl 0 rfl ?_
  refine p_getR (f := 1) (v := some m) hK d_Ker_table_33 k_Ker fd_Ker_10_Ker (by decide) rfl rfl (fun g h => h.getR hx (by decide) rfl hxm) ?_
  refine r_iload_n hK d_Ker_table_36 rfl 1 rfl ?_
  refine r_callVi (As := [.int (nI pg)]) (b := m) (st := [.int (nI (2 * f))]) hK (hwr) d_Ker_table_37 ml_Ker_180 cv_Machine_writable rfl (by decide) (p_recv k_Machine (fun g h => h.kd hm (by decide))) (Nat.le_of_ble_eq_true rfl) ?_ rfl
  refine r_nif_eq (a := 0) (tgt := 47) hK d_Ker_table_40 (by decide) (by decide) (fun _ => ?_) (fun z => absurd z (by decide))
  refine r_iconst (v := nI 0) hK d_Ker_table_47 (by decide) ?_
  refine r_iadd hK d_Ker_table_48 ?_
  refine r_tp (b := nI (2 * f + 0)) (nI_add _ _) ?_
  refine r_iret hK d_Ker_table_49 rfl (rfl) ?_
  exact ⟨rfl, rfl⟩
set_option maxHeartbeats 1000000 in
theorem c_Ker_table_1 (X : gCx) (l : Launch) (s : sS) (x m pg f : Nat) (hx : gk s.1 x = 1) (hxm : gr s.1 1 x = some m) (hm : gk s.1 m = 2) (hf : f < 10) (hb : s_Mod_noRange (nI pg) (nI 1) = nI 0) (hfr : gMi X l (HoldP X (Abs X)) M_Machine_frame 0 0 0 [.ref m, .int (nI pg)] s (nI f) s) (hwr : gMi X l (HoldP X (Abs X)) M_Machine_writable 0 0 0 [.ref m, .int (nI pg)] s (nI 1) s)  : gMi X l (HoldP X (Abs X)) M_Ker_table 4 0 0 [.ref x, .int (nI pg)] s (nI (2 * f + 1)) s := by
  refine gM_intro (by decide) (Nat.le_of_ble_eq_true rfl) (fun K hK => ?_)
  show K 0 [(0, .ref x), (1, .int (nI pg))] [] s 0 0
  refine r_iload_n hK d_Ker_table_0 rfl 1 rfl ?_
  refine r_iconst (v := nI 1) hK d_Ker_table_1 (by decide) ?_
  refine r_callSi (As := [.int (nI pg), .int (nI 1)]) (st := []) hK (c_Ker_noRange X l s (nI pg) (nI 1)) d_Ker_table_2 ml_Ker_70 cs_Ker_noRange rfl (by decide) (Nat.le_of_ble_eq_true rfl) ?_ rfl
  refine r_tp (b := nI 0) (hb) ?_
  refine r_nif_ne (a := 0) (tgt := 20) hK d_Ker_table_5 (by decide) (by decide) (fun z => absurd z (by decide)) (fun _ => ?_)
  refine r_aload_n hK d_Ker_table_8 rfl 0 rfl ?_
  refine p_getR (f := 1) (v := some m) hK d_Ker_table_9 k_Ker fd_Ker_10_Ker (by decide) rfl rfl (fun g h => h.getR hx (by decide) rfl hxm) ?_
  refine r_iload_n hK d_Ker_table_12 rfl 1 rfl ?_
  refine r_callVi (As := [.int (nI pg)]) (b := m) (st := []) hK (hfr) d_Ker_table_13 ml_Ker_177 cv_Machine_frame rfl (by decide) (p_recv k_Machine (fun g h => h.kd hm (by decide))) (Nat.le_of_ble_eq_true rfl) ?_ rfl
  refine r_iconst (v := -1) hK d_Ker_table_16 (by decide) ?_
  refine r_icmp_ne (tgt := 22) hK d_Ker_table_17 (by decide) (fun c17 => ?_) (fun z => False.elim (nI_nm1 (by omega) z))
  refine r_iconst (v := nI 2) hK d_Ker_table_22 (by decide) ?_
  refine r_aload_n hK d_Ker_table_23 rfl 0 rfl ?_
  refine p_getR (f := 1) (v := some m) hK d_Ker_table_24 k_Ker fd_Ker_10_Ker (by decide) rfl rfl (fun g h => h.getR hx (by decide) rfl hxm) ?_
  refine r_iload_n hK d_Ker_table_27 rfl 1 rfl ?_
  refine r_callVi (As := [.int (nI pg)]) (b := m) (st := [.int (nI 2)]) hK (hfr) d_Ker_table_28 ml_Ker_177 cv_Machine_frame rfl (by decide) (p_recv k_Machine (fun g h => h.kd hm (by decide))) (Nat.le_of_ble_eq_true rfl) ?_ rfl
  refine r_imul hK d_Ker_table_31 ?_
  refine r_tp (b := nI (2 * f)) (pk_mul _ _) ?_
  refine r_aload_n hK d_Ker_table_32 rfl 0 rfl ?_
  refine p_getR (f := 1) (v := some m) hK d_Ker_table_33 k_Ker fd_Ker_10_Ker (by decide) rfl rfl (fun g h => h.getR hx (by decide) rfl hxm) ?_
  refine r_iload_n hK d_Ker_table_36 rfl 1 rfl ?_
  refine r_callVi (As := [.int (nI pg)]) (b := m) (st := [.int (nI (2 * f))]) hK (hwr) d_Ker_table_37 ml_Ker_180 cv_Machine_writable rfl (by decide) (p_recv k_Machine (fun g h => h.kd hm (by decide))) (Nat.le_of_ble_eq_true rfl) ?_ rfl
  refine r_nif_eq (a := 1) (tgt := 47) hK d_Ker_table_40 (by decide) (by decide) (fun z => absurd z (by decide)) (fun _ => ?_)
  refine r_iconst (v := nI 1) hK d_Ker_table_43 (by decide) ?_
  refine r_goto (tgt := 48) hK d_Ker_table_44 (by decide) ?_
  refine r_iadd hK d_Ker_table_48 ?_
  refine r_tp (b := nI (2 * f + 1)) (nI_add _ _) ?_
  refine r_iret hK d_Ker_table_49 rfl (rfl) ?_
  exact ⟨rfl, rfl⟩
set_option maxHeartbeats 1000000 in
theorem c_Ker_translation_none (X : gCx) (l : Launch) (s : sS) (x pp : Nat) (pv : Int32) (hx : gk s.1 x = 1) (hpr : gMr X l (HoldP X (Abs X)) M_Ker_processor 0 0 0 [.ref x, .int pv] s (some pp) s) (hpp : gk s.1 pp = 3) (pg : Int32) (hft : (sr s pp).find? (fun t => decide (gi s.1 24 t = pg)) = none) : gMi X l (HoldP X (Abs X)) M_Ker_translation 4 0 0 [.ref x, .int pv, .int pg] s (-1) s := by
  refine gM_intro (by decide) (Nat.le_of_ble_eq_true rfl) (fun K hK => ?_)
  show K 0 [(0, .ref x), (1, .int pv), (2, .int pg)] [] s 0 0
  refine r_aload_n hK d_Ker_translation_0 rfl 0 rfl ?_
  refine r_iload_n hK d_Ker_translation_1 rfl 1 rfl ?_
  refine r_callVr (As := [.int pv]) (b := x) (st := []) hK (hpr) d_Ker_translation_2 ml_Ker_27 cv_Ker_processor rfl (by decide) (p_recv k_Ker (fun g h => h.kd hx (by decide))) (Nat.le_of_ble_eq_true rfl) ?_ rfl
  refine r_astore_n (lv' := [(3, .ref pp), (0, .ref x), (1, .int pv), (2, .int pg)]) hK d_Ker_translation_5 rfl (by decide) rfl ?_
  refine r_aload_n hK d_Ker_translation_6 rfl 0 rfl ?_
  refine r_ifnonnull (v := some pp) (tgt := 14) hK d_Ker_translation_7 (by decide) (fun _ _ => ?_) (fun z => absurd z (by simp))
  refine r_aload_n hK d_Ker_translation_14 rfl 0 rfl ?_
  refine r_iload_n hK d_Ker_translation_15 rfl 3 rfl ?_
  have hfd := cS_find (X := X) (l := l) (s := s) pp pg hpp
  rw [hft] at hfd
  refine r_callVr (As := [.int pg]) (b := pp) (st := []) hK (hfd) d_Ker_translation_16 ml_Ker_183 cv_Processor_find rfl (by decide) (p_recv k_Processor (fun g h => h.kd hpp (by decide))) (Nat.le_of_ble_eq_true rfl) ?_ rfl
  refine r_astoreN (lv' := [(4, .null), (3, .ref pp), (0, .ref x), (1, .int pv), (2, .int pg)]) hK d_Ker_translation_19 (by decide) rfl ?_
  refine r_aloadN hK d_Ker_translation_21 0 rfl ?_
  refine r_ifnonnull (v := none) (tgt := 30) hK d_Ker_translation_23 (by decide) (fun _ z => absurd z (by simp)) (fun _ => ?_)
  refine r_iconst (v := -1) hK d_Ker_translation_26 (by decide) ?_
  refine r_goto (tgt := 35) hK d_Ker_translation_27 (by decide) ?_
  refine r_iret hK d_Ker_translation_35 rfl (rfl) ?_
  exact ⟨rfl, rfl⟩
set_option maxHeartbeats 1000000 in
theorem c_Ker_translation_0 (X : gCx) (l : Launch) (s : sS) (x pp : Nat) (pv : Int32) (hx : gk s.1 x = 1) (hpr : gMr X l (HoldP X (Abs X)) M_Ker_processor 0 0 0 [.ref x, .int pv] s (some pp) s) (hpp : gk s.1 pp = 3) (pg : Int32) (t f : Nat) (hft : (sr s pp).find? (fun t => decide (gi s.1 24 t = pg)) = some t) (ht : gk s.1 t = 6) (hf : gi s.1 25 t = nI f) (hw : gi s.1 26 t = nI 0) : gMi X l (HoldP X (Abs X)) M_Ker_translation 4 0 0 [.ref x, .int pv, .int pg] s (nI (2 * f + 0)) s := by
  refine gM_intro (by decide) (Nat.le_of_ble_eq_true rfl) (fun K hK => ?_)
  show K 0 [(0, .ref x), (1, .int pv), (2, .int pg)] [] s 0 0
  refine r_aload_n hK d_Ker_translation_0 rfl 0 rfl ?_
  refine r_iload_n hK d_Ker_translation_1 rfl 1 rfl ?_
  refine r_callVr (As := [.int pv]) (b := x) (st := []) hK (hpr) d_Ker_translation_2 ml_Ker_27 cv_Ker_processor rfl (by decide) (p_recv k_Ker (fun g h => h.kd hx (by decide))) (Nat.le_of_ble_eq_true rfl) ?_ rfl
  refine r_astore_n (lv' := [(3, .ref pp), (0, .ref x), (1, .int pv), (2, .int pg)]) hK d_Ker_translation_5 rfl (by decide) rfl ?_
  refine r_aload_n hK d_Ker_translation_6 rfl 0 rfl ?_
  refine r_ifnonnull (v := some pp) (tgt := 14) hK d_Ker_translation_7 (by decide) (fun _ _ => ?_) (fun z => absurd z (by simp))
  refine r_aload_n hK d_Ker_translation_14 rfl 0 rfl ?_
  refine r_iload_n hK d_Ker_translation_15 rfl 3 rfl ?_
  have hfd := cS_find (X := X) (l := l) (s := s) pp pg hpp
  rw [hft] at hfd
  refine r_callVr (As := [.int pg]) (b := pp) (st := []) hK (hfd) d_Ker_translation_16 ml_Ker_183 cv_Processor_find rfl (by decide) (p_recv k_Processor (fun g h => h.kd hpp (by decide))) (Nat.le_of_ble_eq_true rfl) ?_ rfl
  refine r_astore (lv' := [(4, .ref t), (3, .ref pp), (0, .ref x), (1, .int pv), (2, .int pg)]) hK d_Ker_translation_19 (by decide) rfl ?_
  refine r_aload hK d_Ker_translation_21 0 rfl ?_
  refine r_ifnonnull (v := some t) (tgt := 30) hK d_Ker_translation_23 (by decide) (fun _ _ => ?_) (fun z => absurd z (by simp))
  refine r_aload hK d_Ker_translation_30 0 rfl ?_
  refine r_callVi (As := []) (b := t) (st := []) hK (c_Translation_shown_0 X l s t f ht hf hw) d_Ker_translation_32 ml_Ker_187 cv_Translation_shown rfl (by decide) (p_recv k_Translation (fun g h => h.kd ht (by decide))) (Nat.le_of_ble_eq_true rfl) ?_ rfl
  refine r_iret hK d_Ker_translation_35 rfl (rfl) ?_
  exact ⟨rfl, rfl⟩
set_option maxHeartbeats 1000000 in
theorem c_Ker_translation_1 (X : gCx) (l : Launch) (s : sS) (x pp : Nat) (pv : Int32) (hx : gk s.1 x = 1) (hpr : gMr X l (HoldP X (Abs X)) M_Ker_processor 0 0 0 [.ref x, .int pv] s (some pp) s) (hpp : gk s.1 pp = 3) (pg : Int32) (t f : Nat) (hft : (sr s pp).find? (fun t => decide (gi s.1 24 t = pg)) = some t) (ht : gk s.1 t = 6) (hf : gi s.1 25 t = nI f) (hw : gi s.1 26 t = nI 1) : gMi X l (HoldP X (Abs X)) M_Ker_translation 4 0 0 [.ref x, .int pv, .int pg] s (nI (2 * f + 1)) s := by
  refine gM_intro (by decide) (Nat.le_of_ble_eq_true rfl) (fun K hK => ?_)
  show K 0 [(0, .ref x), (1, .int pv), (2, .int pg)] [] s 0 0
  refine r_aload_n hK d_Ker_translation_0 rfl 0 rfl ?_
  refine r_iload_n hK d_Ker_translation_1 rfl 1 rfl ?_
  refine r_callVr (As := [.int pv]) (b := x) (st := []) hK (hpr) d_Ker_translation_2 ml_Ker_27 cv_Ker_processor rfl (by decide) (p_recv k_Ker (fun g h => h.kd hx (by decide))) (Nat.le_of_ble_eq_true rfl) ?_ rfl
  refine r_astore_n (lv' := [(3, .ref pp), (0, .ref x), (1, .int pv), (2, .int pg)]) hK d_Ker_translation_5 rfl (by decide) rfl ?_
  refine r_aload_n hK d_Ker_translation_6 rfl 0 rfl ?_
  refine r_ifnonnull (v := some pp) (tgt := 14) hK d_Ker_translation_7 (by decide) (fun _ _ => ?_) (fun z => absurd z (by simp))
  refine r_aload_n hK d_Ker_translation_14 rfl 0 rfl ?_
  refine r_iload_n hK d_Ker_translation_15 rfl 3 rfl ?_
  have hfd := cS_find (X := X) (l := l) (s := s) pp pg hpp
  rw [hft] at hfd
  refine r_callVr (As := [.int pg]) (b := pp) (st := []) hK (hfd) d_Ker_translation_16 ml_Ker_183 cv_Processor_find rfl (by decide) (p_recv k_Processor (fun g h => h.kd hpp (by decide))) (Nat.le_of_ble_eq_true rfl) ?_ rfl
  refine r_astore (lv' := [(4, .ref t), (3, .ref pp), (0, .ref x), (1, .int pv), (2, .int pg)]) hK d_Ker_translation_19 (by decide) rfl ?_
  refine r_aload hK d_Ker_translation_21 0 rfl ?_
  refine r_ifnonnull (v := some t) (tgt := 30) hK d_Ker_translation_23 (by decide) (fun _ _ => ?_) (fun z => absurd z (by simp))
  refine r_aload hK d_Ker_translation_30 0 rfl ?_
  refine r_callVi (As := []) (b := t) (st := []) hK (c_Translation_shown_1 X l s t f ht hf hw) d_Ker_translation_32 ml_Ker_187 cv_Translation_shown rfl (by decide) (p_recv k_Translation (fun g h => h.kd ht (by decide))) (Nat.le_of_ble_eq_true rfl) ?_ rfl
  refine r_iret hK d_Ker_translation_35 rfl (rfl) ?_
  exact ⟨rfl, rfl⟩
set_option maxHeartbeats 1000000 in
theorem c_Ker_word_neg (X : gCx) (l : Launch) (s : sS) (x : Nat) (f : Int32) (hb : f < 0) : gMi X l (HoldP X (Abs X)) M_Ker_word 4 0 0 [.ref x, .int f] s (-1) s := by
  refine gM_intro (by decide) (Nat.le_of_ble_eq_true rfl) (fun K hK => ?_)
  show K 0 [(0, .ref x), (1, .int f)] [] s 0 0
  refine r_iload_n hK d_Ker_word_0 rfl 1 rfl ?_
  refine r_if_lt (tgt := 10) hK d_Ker_word_1 (by decide) (fun c1 => ?_) (fun z => False.elim (z hb))
  refine r_iconst (v := -1) hK d_Ker_word_10 (by decide) ?_
  refine r_goto (tgt := 23) hK d_Ker_word_11 (by decide) ?_
  refine r_iret hK d_Ker_word_23 rfl (rfl) ?_
  exact ⟨rfl, rfl⟩
set_option maxHeartbeats 1000000 in
theorem c_Ker_word_big (X : gCx) (l : Launch) (s : sS) (x : Nat) (f : Int32) (ha : ¬ f < 0) (hb : ¬ f < nI 10) : gMi X l (HoldP X (Abs X)) M_Ker_word 4 0 0 [.ref x, .int f] s (-1) s := by
  refine gM_intro (by decide) (Nat.le_of_ble_eq_true rfl) (fun K hK => ?_)
  show K 0 [(0, .ref x), (1, .int f)] [] s 0 0
  refine r_iload_n hK d_Ker_word_0 rfl 1 rfl ?_
  refine r_if_lt (tgt := 10) hK d_Ker_word_1 (by decide) (fun z => False.elim (ha z)) (fun c1 => ?_)
  refine r_iload_n hK d_Ker_word_4 rfl 1 rfl ?_
  refine r_bipush (v := nI 10) hK d_Ker_word_5 (by decide) ?_
  refine r_icmp_lt (tgt := 14) hK d_Ker_word_7 (by decide) (fun z => False.elim (hb z)) (fun c7 => ?_)
  refine r_iconst (v := -1) hK d_Ker_word_10 (by decide) ?_
  refine r_goto (tgt := 23) hK d_Ker_word_11 (by decide) ?_
  refine r_iret hK d_Ker_word_23 rfl (rfl) ?_
  exact ⟨rfl, rfl⟩
set_option maxHeartbeats 1000000 in
theorem c_Ker_word (X : gCx) (l : Launch) (s : sS) (x m wd f : Nat) (hx : gk s.1 x = 1) (hxm : gr s.1 1 x = some m) (hm : gk s.1 m = 2) (hmw : gr s.1 8 m = some wd) (hwd : gk s.1 wd = 100) (hwdl : gl s.1 wd = 10) (hf : f < 10) : gMi X l (HoldP X (Abs X)) M_Ker_word 4 0 0 [.ref x, .int (nI f)] s (ga s.1 wd f) s := by
  refine gM_intro (by decide) (Nat.le_of_ble_eq_true rfl) (fun K hK => ?_)
  show K 0 [(0, .ref x), (1, .int (nI f))] [] s 0 0
  refine r_iload_n hK d_Ker_word_0 rfl 1 rfl ?_
  refine r_nif_lt (a := f) (tgt := 10) hK d_Ker_word_1 (by decide) (by omega) ?_
  refine r_iload_n hK d_Ker_word_4 rfl 1 rfl ?_
  refine r_bipush (v := nI 10) hK d_Ker_word_5 (by decide) ?_
  refine r_ncmp_lt (a := f) (b := 10) (tgt := 14) hK d_Ker_word_7 (by decide) (by omega) (by omega) (fun c7 => ?_) (fun z => False.elim (by omega))
  refine r_aload_n hK d_Ker_word_14 rfl 0 rfl ?_
  refine p_getR (f := 1) (v := some m) hK d_Ker_word_15 k_Ker fd_Ker_10_Ker (by decide) rfl rfl (fun g h => h.getR hx (by decide) rfl hxm) ?_
  refine p_getR (f := 8) (v := some wd) hK d_Ker_word_18 k_Machine fd_Ker_192_Machine (by decide) rfl rfl (fun g h => h.getR hm (by decide) rfl hmw) ?_
  refine r_iload_n hK d_Ker_word_21 rfl 1 rfl ?_
  refine p_iald (v := ga s.1 wd f) hK f 10 d_Ker_word_22 rfl (by omega) (fun g h => have e := h.arr (a := wd) (t := 0) (L := 10) (j := f) hwd hwdl; ⟨e.1, e.2.1, e.2.2.1.trans rfl⟩) ?_
  refine r_iret hK d_Ker_word_23 rfl (rfl) ?_
  exact ⟨rfl, rfl⟩
set_option maxHeartbeats 1000000 in
theorem c_Ker_spare (X : gCx) (l : Launch) (s : sS) (x pp : Nat) (pv : Int32) (hx : gk s.1 x = 1) (hpr : gMr X l (HoldP X (Abs X)) M_Ker_processor 0 0 0 [.ref x, .int pv] s (some pp) s) (hpp : gk s.1 pp = 3) (rm : Int32) (hr : gi s.1 15 pp = rm) : gMi X l (HoldP X (Abs X)) M_Ker_spare 4 0 0 [.ref x, .int pv] s rm s := by
  refine gM_intro (by decide) (Nat.le_of_ble_eq_true rfl) (fun K hK => ?_)
  show K 0 [(0, .ref x), (1, .int pv)] [] s 0 0
  refine r_aload_n hK d_Ker_spare_0 rfl 0 rfl ?_
  refine r_iload_n hK d_Ker_spare_1 rfl 1 rfl ?_
  refine r_callVr (As := [.int pv]) (b := x) (st := []) hK (hpr) d_Ker_spare_2 ml_Ker_27 cv_Ker_processor rfl (by decide) (p_recv k_Ker (fun g h => h.kd hx (by decide))) (Nat.le_of_ble_eq_true rfl) ?_ rfl
  refine r_astore_n (lv' := [(2, .ref pp), (0, .ref x), (1, .int pv)]) hK d_Ker_spare_5 rfl (by decide) rfl ?_
  refine r_aload_n hK d_Ker_spare_6 rfl 0 rfl ?_
  refine r_ifnull (v := some pp) (tgt := 17) hK d_Ker_spare_7 (by decide) (fun z => absurd z (by simp)) (fun _ _ => ?_)
  refine r_aload_n hK d_Ker_spare_10 rfl 0 rfl ?_
  refine p_getI (f := 15) (v := rm) hK d_Ker_spare_11 k_Processor fd_Ker_196_Processor (by decide) rfl rfl (fun g h => h.getI hpp (by decide) rfl hr) ?_
  refine r_goto (tgt := 36) hK d_Ker_spare_14 (by decide) ?_
  refine r_iret hK d_Ker_spare_36 rfl (rfl) ?_
  exact ⟨rfl, rfl⟩
set_option maxHeartbeats 1000000 in
theorem c_Ker_spare_pool (X : gCx) (l : Launch) (s : sS) (x m pl : Nat) (hx : gk s.1 x = 1) (hxm : gr s.1 1 x = some m) (hm : gk s.1 m = 2) (hmp7 : gr s.1 7 m = some pl) (hpl : gk s.1 pl = 4) (hpr : gMr X l (HoldP X (Abs X)) M_Ker_processor 0 0 0 [.ref x, .int (nI 4)] s none s)  : gMi X l (HoldP X (Abs X)) M_Ker_spare 4 0 0 [.ref x, .int (nI 4)] s (nI ((sq s pl).length)) s := by
  refine gM_intro (by decide) (Nat.le_of_ble_eq_true rfl) (fun K hK => ?_)
  show K 0 [(0, .ref x), (1, .int (nI 4))] [] s 0 0
  refine r_aload_n hK d_Ker_spare_0 rfl 0 rfl ?_
  refine r_iload_n hK d_Ker_spare_1 rfl 1 rfl ?_
  refine r_callVr (As := [.int (nI 4)]) (b := x) (st := []) hK (hpr) d_Ker_spare_2 ml_Ker_27 cv_Ker_processor rfl (by decide) (p_recv k_Ker (fun g h => h.kd hx (by decide))) (Nat.le_of_ble_eq_true rfl) ?_ rfl
  refine r_astore_nN (lv' := [(2, .null), (0, .ref x), (1, .int (nI 4))]) hK d_Ker_spare_5 rfl (by decide) rfl ?_
  refine r_aload_nN hK d_Ker_spare_6 rfl 0 rfl ?_
  refine r_ifnull (v := none) (tgt := 17) hK d_Ker_spare_7 (by decide) (fun _ => ?_) (fun _ z => absurd z (by simp))
  refine r_iload_n hK d_Ker_spare_17 rfl 2 rfl ?_
  refine r_iconst (v := nI 4) hK d_Ker_spare_18 (by decide) ?_
  refine r_ncmp_ne (a := 4) (b := 4) (tgt := 35) hK d_Ker_spare_19 (by decide) (by decide) (by decide) (fun z => absurd z (by decide)) (fun _ => ?_)
  refine r_aload_n hK d_Ker_spare_22 rfl 1 rfl ?_
  refine p_getR (f := 1) (v := some m) hK d_Ker_spare_23 k_Ker fd_Ker_10_Ker (by decide) rfl rfl (fun g h => h.getR hx (by decide) rfl hxm) ?_
  refine p_getR (f := 7) (v := some pl) hK d_Ker_spare_26 k_Machine fd_Ker_199_Machine (by decide) rfl rfl (fun g h => h.getR hm (by decide) rfl hmp7) ?_
  refine p_getI (f := 21) (v := nI (sq s pl).length) hK d_Ker_spare_29 k_Line fd_Ker_158_Line (by decide) rfl rfl (fun g h => h.size hpl) ?_
  refine r_goto (tgt := 36) hK d_Ker_spare_32 (by decide) ?_
  refine r_iret hK d_Ker_spare_36 rfl (rfl) ?_
  exact ⟨rfl, rfl⟩
set_option maxHeartbeats 1000000 in
theorem c_Ker_spare_bad (X : gCx) (l : Launch) (s : sS) (x : Nat) (pv : Int32) (hx : gk s.1 x = 1) (hne : pv ≠ nI 4) (hpr : gMr X l (HoldP X (Abs X)) M_Ker_processor 0 0 0 [.ref x, .int pv] s none s)  : gMi X l (HoldP X (Abs X)) M_Ker_spare 4 0 0 [.ref x, .int pv] s (-1) s := by
  refine gM_intro (by decide) (Nat.le_of_ble_eq_true rfl) (fun K hK => ?_)
  show K 0 [(0, .ref x), (1, .int pv)] [] s 0 0
  refine r_aload_n hK d_Ker_spare_0 rfl 0 rfl ?_
  refine r_iload_n hK d_Ker_spare_1 rfl 1 rfl ?_
  refine r_callVr (As := [.int pv]) (b := x) (st := []) hK (hpr) d_Ker_spare_2 ml_Ker_27 cv_Ker_processor rfl (by decide) (p_recv k_Ker (fun g h => h.kd hx (by decide))) (Nat.le_of_ble_eq_true rfl) ?_ rfl
  refine r_astore_nN (lv' := [(2, .null), (0, .ref x), (1, .int pv)]) hK d_Ker_spare_5 rfl (by decide) rfl ?_
  refine r_aload_nN hK d_Ker_spare_6 rfl 0 rfl ?_
  refine r_ifnull (v := none) (tgt := 17) hK d_Ker_spare_7 (by decide) (fun _ => ?_) (fun _ z => absurd z (by simp))
  refine r_iload_n hK d_Ker_spare_17 rfl 2 rfl ?_
  refine r_iconst (v := nI 4) hK d_Ker_spare_18 (by decide) ?_
  refine r_icmp_ne (tgt := 35) hK d_Ker_spare_19 (by decide) (fun c19 => ?_) (fun z => False.elim (hne z))
  refine r_iconst (v := -1) hK d_Ker_spare_35 (by decide) ?_
  refine r_iret hK d_Ker_spare_36 rfl (rfl) ?_
  exact ⟨rfl, rfl⟩
set_option maxHeartbeats 1000000 in
theorem c_Ker_tickets (X : gCx) (l : Launch) (s : sS) (x m : Nat) (nx sv : Int32) (hx : gk s.1 x = 1) (hxm : gr s.1 1 x = some m) (hm : gk s.1 m = 2) (hnx : gi s.1 9 m = nx) (hsv : gi s.1 10 m = sv) : gMi X l (HoldP X (Abs X)) M_Ker_tickets 4 0 0 [.ref x] s (nx - sv) s := by
  refine gM_intro (by decide) (Nat.le_of_ble_eq_true rfl) (fun K hK => ?_)
  show K 0 [(0, .ref x)] [] s 0 0
  refine r_aload_n hK d_Ker_tickets_0 rfl 0 rfl ?_
  refine p_getR (f := 1) (v := some m) hK d_Ker_tickets_1 k_Ker fd_Ker_10_Ker (by decide) rfl rfl (fun g h => h.getR hx (by decide) rfl hxm) ?_
  refine p_getI (f := 9) (v := nx) hK d_Ker_tickets_4 k_Machine fd_Ker_202_Machine (by decide) rfl rfl (fun g h => h.getI hm (by decide) rfl hnx) ?_
  refine r_aload_n hK d_Ker_tickets_7 rfl 0 rfl ?_
  refine p_getR (f := 1) (v := some m) hK d_Ker_tickets_8 k_Ker fd_Ker_10_Ker (by decide) rfl rfl (fun g h => h.getR hx (by decide) rfl hxm) ?_
  refine p_getI (f := 10) (v := sv) hK d_Ker_tickets_11 k_Machine fd_Ker_205_Machine (by decide) rfl rfl (fun g h => h.getI hm (by decide) rfl hsv) ?_
  refine r_isub hK d_Ker_tickets_14 ?_
  refine r_iret hK d_Ker_tickets_15 rfl (rfl) ?_
  exact ⟨rfl, rfl⟩
set_option maxHeartbeats 1000000 in
theorem c_Ker_steps (X : gCx) (l : Launch) (s : sS) (x : Nat) (sp : Int32) (hx : gk s.1 x = 1) (hsp : gi s.1 3 x = sp) : gMi X l (HoldP X (Abs X)) M_Ker_steps 4 0 0 [.ref x] s sp s := by
  refine gM_intro (by decide) (Nat.le_of_ble_eq_true rfl) (fun K hK => ?_)
  show K 0 [(0, .ref x)] [] s 0 0
  refine r_aload_n hK d_Ker_steps_0 rfl 0 rfl ?_
  refine p_getI (f := 3) (v := sp) hK d_Ker_steps_1 k_Ker fd_Ker_96_Ker (by decide) rfl rfl (fun g h => h.getI hx (by decide) rfl hsp) ?_
  refine r_iret hK d_Ker_steps_4 rfl (rfl) ?_
  exact ⟨rfl, rfl⟩
set_option maxHeartbeats 1000000 in
theorem c_Ker_result_neg (X : gCx) (l : Launch) (s : sS) (x : Nat) (thr k : Int32) (hb : thr < 0) : gMi X l (HoldP X (Abs X)) M_Ker_result 4 0 0 [.ref x, .int thr, .int k] s (-1) s := by
  refine gM_intro (by decide) (Nat.le_of_ble_eq_true rfl) (fun K hK => ?_)
  show K 0 [(0, .ref x), (1, .int thr), (2, .int k)] [] s 0 0
  refine r_iload_n hK d_Ker_result_0 rfl 1 rfl ?_
  refine r_if_lt (tgt := 40) hK d_Ker_result_1 (by decide) (fun c1 => ?_) (fun z => False.elim (z hb))
  refine r_iconst (v := -1) hK d_Ker_result_40 (by decide) ?_
  refine r_iret hK d_Ker_result_41 rfl (rfl) ?_
  exact ⟨rfl, rfl⟩
set_option maxHeartbeats 1000000 in
theorem c_Ker_result_ge (X : gCx) (l : Launch) (s : sS) (x tl n : Nat) (thr k : Int32) (hx : gk s.1 x = 1) (hxt : gr s.1 2 x = some tl) (htl : gk s.1 tl = 14) (hn : (sl s tl).length = n) (ha : ¬ thr < 0) (hb : nI n ≤ thr) : gMi X l (HoldP X (Abs X)) M_Ker_result 4 0 0 [.ref x, .int thr, .int k] s (-1) s := by
  refine gM_intro (by decide) (Nat.le_of_ble_eq_true rfl) (fun K hK => ?_)
  show K 0 [(0, .ref x), (1, .int thr), (2, .int k)] [] s 0 0
  refine r_iload_n hK d_Ker_result_0 rfl 1 rfl ?_
  refine r_if_lt (tgt := 40) hK d_Ker_result_1 (by decide) (fun z => False.elim (ha z)) (fun c1 => ?_)
  refine r_iload_n hK d_Ker_result_4 rfl 1 rfl ?_
  refine r_aload_n hK d_Ker_result_5 rfl 0 rfl ?_
  refine p_getR (f := 2) (v := some tl) hK d_Ker_result_6 k_Ker fd_Ker_19_Ker (by decide) rfl rfl (fun g h => h.getR hx (by decide) rfl hxt) ?_
  refine r_callVi (As := []) (b := tl) (st := [.int thr]) hK (cS_size (s := s) tl (htl)) d_Ker_result_9 ml_Ker_31 cv_AL_size rfl (by decide) (p_recv k_AL (fun g h => h.kd htl (by decide))) (Nat.le_of_ble_eq_true rfl) ?_ rfl
  refine r_tp (b := nI n) (congrArg nI hn) ?_
  refine r_icmp_ge (tgt := 40) hK d_Ker_result_12 (by decide) (fun c12 => ?_) (fun z => False.elim (z hb))
  refine r_iconst (v := -1) hK d_Ker_result_40 (by decide) ?_
  refine r_iret hK d_Ker_result_41 rfl (rfl) ?_
  exact ⟨rfl, rfl⟩
set_option maxHeartbeats 1000000 in
theorem c_Ker_result_kneg (X : gCx) (l : Launch) (s : sS) (x tl n t : Nat) (k : Int32) (hx : gk s.1 x = 1) (hxt : gr s.1 2 x = some tl) (htl : gk s.1 tl = 14) (hn : (sl s tl).length = n) (hn8 : n ≤ 8) (htn8 : t < n) (hb : k < 0) : gMi X l (HoldP X (Abs X)) M_Ker_result 4 0 0 [.ref x, .int (nI t), .int k] s (-1) s := by
  refine gM_intro (by decide) (Nat.le_of_ble_eq_true rfl) (fun K hK => ?_)
  show K 0 [(0, .ref x), (1, .int (nI t)), (2, .int k)] [] s 0 0
  refine r_iload_n hK d_Ker_result_0 rfl 1 rfl ?_
  refine r_nif_lt (a := t) (tgt := 40) hK d_Ker_result_1 (by decide) (by omega) ?_
  refine r_iload_n hK d_Ker_result_4 rfl 1 rfl ?_
  refine r_aload_n hK d_Ker_result_5 rfl 0 rfl ?_
  refine p_getR (f := 2) (v := some tl) hK d_Ker_result_6 k_Ker fd_Ker_19_Ker (by decide) rfl rfl (fun g h => h.getR hx (by decide) rfl hxt) ?_
  refine r_callVi (As := []) (b := tl) (st := [.int (nI t)]) hK (cS_size (s := s) tl (htl)) d_Ker_result_9 ml_Ker_31 cv_AL_size rfl (by decide) (p_recv k_AL (fun g h => h.kd htl (by decide))) (Nat.le_of_ble_eq_true rfl) ?_ rfl
  refine r_tp (b := nI n) (congrArg nI hn) ?_
  refine r_ncmp_ge (a := t) (b := n) (tgt := 40) hK d_Ker_result_12 (by decide) (by omega) (by omega) (fun z => False.elim (by omega)) (fun c12 => ?_)
  refine r_iload_n hK d_Ker_result_15 rfl 2 rfl ?_
  refine r_if_lt (tgt := 40) hK d_Ker_result_16 (by decide) (fun c16 => ?_) (fun z => False.elim (z hb))
  refine r_iconst (v := -1) hK d_Ker_result_40 (by decide) ?_
  refine r_iret hK d_Ker_result_41 rfl (rfl) ?_
  exact ⟨rfl, rfl⟩
set_option maxHeartbeats 1000000 in
theorem c_Ker_result_kge (X : gCx) (l : Launch) (s : sS) (x tl n t ta ol cn : Nat) (k : Int32) (hx : gk s.1 x = 1) (hxt : gr s.1 2 x = some tl) (htl : gk s.1 tl = 14) (hn : (sl s tl).length = n) (hn8 : n ≤ 8) (htn8 : t < n) (htn : (sl s tl)[t]? = some ta) (hta : gk s.1 ta = 9) (hto : gr s.1 34 ta = some ol) (hol : gk s.1 ol = 14) (hcn : (sl s ol).length = cn) (ha : ¬ k < 0) (hb : ¬ k < nI cn) : gMi X l (HoldP X (Abs X)) M_Ker_result 4 0 0 [.ref x, .int (nI t), .int k] s (-1) s := by
  refine gM_intro (by decide) (Nat.le_of_ble_eq_true rfl) (fun K hK => ?_)
  show K 0 [(0, .ref x), (1, .int (nI t)), (2, .int k)] [] s 0 0
  refine r_iload_n hK d_Ker_result_0 rfl 1 rfl ?_
  refine r_nif_lt (a := t) (tgt := 40) hK d_Ker_result_1 (by decide) (by omega) ?_
  refine r_iload_n hK d_Ker_result_4 rfl 1 rfl ?_
  refine r_aload_n hK d_Ker_result_5 rfl 0 rfl ?_
  refine p_getR (f := 2) (v := some tl) hK d_Ker_result_6 k_Ker fd_Ker_19_Ker (by decide) rfl rfl (fun g h => h.getR hx (by decide) rfl hxt) ?_
  refine r_callVi (As := []) (b := tl) (st := [.int (nI t)]) hK (cS_size (s := s) tl (htl)) d_Ker_result_9 ml_Ker_31 cv_AL_size rfl (by decide) (p_recv k_AL (fun g h => h.kd htl (by decide))) (Nat.le_of_ble_eq_true rfl) ?_ rfl
  refine r_tp (b := nI n) (congrArg nI hn) ?_
  refine r_ncmp_ge (a := t) (b := n) (tgt := 40) hK d_Ker_result_12 (by decide) (by omega) (by omega) (fun z => False.elim (by omega)) (fun c12 => ?_)
  refine r_iload_n hK d_Ker_result_15 rfl 2 rfl ?_
  refine r_if_lt (tgt := 40) hK d_Ker_result_16 (by decide) (fun z => False.elim (ha z)) (fun c16 => ?_)
  refine r_iload_n hK d_Ker_result_19 rfl 2 rfl ?_
  refine r_aload_n hK d_Ker_result_20 rfl 0 rfl ?_
  refine p_getR (f := 2) (v := some tl) hK d_Ker_result_21 k_Ker fd_Ker_19_Ker (by decide) rfl rfl (fun g h => h.getR hx (by decide) rfl hxt) ?_
  refine r_iload_n hK d_Ker_result_24 rfl 1 rfl ?_
  refine r_callVr (As := [.int (nI t)]) (b := tl) (st := [.int k]) hK (cS_at (s := s) tl t ta (htl) htn) d_Ker_result_25 ml_Ker_44 cv_AL_get rfl (by decide) (p_recv k_AL (fun g h => h.kd htl (by decide))) (Nat.le_of_ble_eq_true rfl) ?_ rfl
  refine p_cast hK d_Ker_result_28 cl_Ker_35 ca_Task_Task (p_recv k_Task (fun g h => h.kd hta (by decide))) ?_
  refine p_getR (f := 34) (v := some ol) hK d_Ker_result_31 k_Task fd_Ker_48_Task (by decide) rfl rfl (fun g h => h.getR hta (by decide) rfl hto) ?_
  refine r_callVi (As := []) (b := ol) (st := [.int k]) hK (cS_size (s := s) ol (hol)) d_Ker_result_34 ml_Ker_31 cv_AL_size rfl (by decide) (p_recv k_AL (fun g h => h.kd hol (by decide))) (Nat.le_of_ble_eq_true rfl) ?_ rfl
  refine r_tp (b := nI cn) (congrArg nI hcn) ?_
  refine r_icmp_lt (tgt := 42) hK d_Ker_result_37 (by decide) (fun z => False.elim (hb z)) (fun c37 => ?_)
  refine r_iconst (v := -1) hK d_Ker_result_40 (by decide) ?_
  refine r_iret hK d_Ker_result_41 rfl (rfl) ?_
  exact ⟨rfl, rfl⟩
set_option maxHeartbeats 1000000 in
theorem c_Ker_result_Access (X : gCx) (l : Launch) (s : sS) (x tl n t ta ol cn k o : Nat) (rv : Int32) (hx : gk s.1 x = 1) (hxt : gr s.1 2 x = some tl) (htl : gk s.1 tl = 14) (hn : (sl s tl).length = n) (hn8 : n ≤ 8) (htn8 : t < n) (htn : (sl s tl)[t]? = some ta) (hta : gk s.1 ta = 9) (hto : gr s.1 34 ta = some ol) (hol : gk s.1 ol = 14) (hcn : (sl s ol).length = cn) (hcb : cn < 100) (hk : k < cn) (hok : (sl s ol)[k]? = some o) (ho : gk s.1 o = 10) (hrv : gi s.1 40 o = rv) : gMi X l (HoldP X (Abs X)) M_Ker_result 4 0 0 [.ref x, .int (nI t), .int (nI k)] s rv s := by
  refine gM_intro (by decide) (Nat.le_of_ble_eq_true rfl) (fun K hK => ?_)
  show K 0 [(0, .ref x), (1, .int (nI t)), (2, .int (nI k))] [] s 0 0
  refine r_iload_n hK d_Ker_result_0 rfl 1 rfl ?_
  refine r_nif_lt (a := t) (tgt := 40) hK d_Ker_result_1 (by decide) (by omega) ?_
  refine r_iload_n hK d_Ker_result_4 rfl 1 rfl ?_
  refine r_aload_n hK d_Ker_result_5 rfl 0 rfl ?_
  refine p_getR (f := 2) (v := some tl) hK d_Ker_result_6 k_Ker fd_Ker_19_Ker (by decide) rfl rfl (fun g h => h.getR hx (by decide) rfl hxt) ?_
  refine r_callVi (As := []) (b := tl) (st := [.int (nI t)]) hK (cS_size (s := s) tl (htl)) d_Ker_result_9 ml_Ker_31 cv_AL_size rfl (by decide) (p_recv k_AL (fun g h => h.kd htl (by decide))) (Nat.le_of_ble_eq_true rfl) ?_ rfl
  refine r_tp (b := nI n) (congrArg nI hn) ?_
  refine r_ncmp_ge (a := t) (b := n) (tgt := 40) hK d_Ker_result_12 (by decide) (by omega) (by omega) (fun z => False.elim (by omega)) (fun c12 => ?_)
  refine r_iload_n hK d_Ker_result_15 rfl 2 rfl ?_
  refine r_nif_lt (a := k) (tgt := 40) hK d_Ker_result_16 (by decide) (by omega) ?_
  refine r_iload_n hK d_Ker_result_19 rfl 2 rfl ?_
  refine r_aload_n hK d_Ker_result_20 rfl 0 rfl ?_
  refine p_getR (f := 2) (v := some tl) hK d_Ker_result_21 k_Ker fd_Ker_19_Ker (by decide) rfl rfl (fun g h => h.getR hx (by decide) rfl hxt) ?_
  refine r_iload_n hK d_Ker_result_24 rfl 1 rfl ?_
  refine r_callVr (As := [.int (nI t)]) (b := tl) (st := [.int (nI k)]) hK (cS_at (s := s) tl t ta (htl) htn) d_Ker_result_25 ml_Ker_44 cv_AL_get rfl (by decide) (p_recv k_AL (fun g h => h.kd htl (by decide))) (Nat.le_of_ble_eq_true rfl) ?_ rfl
  refine p_cast hK d_Ker_result_28 cl_Ker_35 ca_Task_Task (p_recv k_Task (fun g h => h.kd hta (by decide))) ?_
  refine p_getR (f := 34) (v := some ol) hK d_Ker_result_31 k_Task fd_Ker_48_Task (by decide) rfl rfl (fun g h => h.getR hta (by decide) rfl hto) ?_
  refine r_callVi (As := []) (b := ol) (st := [.int (nI k)]) hK (cS_size (s := s) ol (hol)) d_Ker_result_34 ml_Ker_31 cv_AL_size rfl (by decide) (p_recv k_AL (fun g h => h.kd hol (by decide))) (Nat.le_of_ble_eq_true rfl) ?_ rfl
  refine r_tp (b := nI cn) (congrArg nI hcn) ?_
  refine r_ncmp_lt (a := k) (b := cn) (tgt := 42) hK d_Ker_result_37 (by decide) (by omega) (by omega) (fun c37 => ?_) (fun z => False.elim (by omega))
  refine r_aload_n hK d_Ker_result_42 rfl 0 rfl ?_
  refine p_getR (f := 2) (v := some tl) hK d_Ker_result_43 k_Ker fd_Ker_19_Ker (by decide) rfl rfl (fun g h => h.getR hx (by decide) rfl hxt) ?_
  refine r_iload_n hK d_Ker_result_46 rfl 1 rfl ?_
  refine r_callVr (As := [.int (nI t)]) (b := tl) (st := []) hK (cS_at (s := s) tl t ta (htl) htn) d_Ker_result_47 ml_Ker_44 cv_AL_get rfl (by decide) (p_recv k_AL (fun g h => h.kd htl (by decide))) (Nat.le_of_ble_eq_true rfl) ?_ rfl
  refine p_cast hK d_Ker_result_50 cl_Ker_35 ca_Task_Task (p_recv k_Task (fun g h => h.kd hta (by decide))) ?_
  refine p_getR (f := 34) (v := some ol) hK d_Ker_result_53 k_Task fd_Ker_48_Task (by decide) rfl rfl (fun g h => h.getR hta (by decide) rfl hto) ?_
  refine r_iload_n hK d_Ker_result_56 rfl 2 rfl ?_
  refine r_callVr (As := [.int (nI k)]) (b := ol) (st := []) hK (cS_at (s := s) ol k o (hol) hok) d_Ker_result_57 ml_Ker_44 cv_AL_get rfl (by decide) (p_recv k_AL (fun g h => h.kd hol (by decide))) (Nat.le_of_ble_eq_true rfl) ?_ rfl
  refine p_cast hK d_Ker_result_60 cl_Ker_136 ca_Access_Order (p_recv k_Access (fun g h => h.kd ho (by decide))) ?_
  refine p_getI (f := 40) (v := rv) hK d_Ker_result_63 k_Access fd_Ker_170_Access (by decide) rfl rfl (fun g h => h.getI ho (by decide) rfl hrv) ?_
  refine r_iret hK d_Ker_result_66 rfl (rfl) ?_
  exact ⟨rfl, rfl⟩
set_option maxHeartbeats 1000000 in
theorem c_Ker_result_Grant (X : gCx) (l : Launch) (s : sS) (x tl n t ta ol cn k o : Nat) (rv : Int32) (hx : gk s.1 x = 1) (hxt : gr s.1 2 x = some tl) (htl : gk s.1 tl = 14) (hn : (sl s tl).length = n) (hn8 : n ≤ 8) (htn8 : t < n) (htn : (sl s tl)[t]? = some ta) (hta : gk s.1 ta = 9) (hto : gr s.1 34 ta = some ol) (hol : gk s.1 ol = 14) (hcn : (sl s ol).length = cn) (hcb : cn < 100) (hk : k < cn) (hok : (sl s ol)[k]? = some o) (ho : gk s.1 o = 11) (hrv : gi s.1 40 o = rv) : gMi X l (HoldP X (Abs X)) M_Ker_result 4 0 0 [.ref x, .int (nI t), .int (nI k)] s rv s := by
  refine gM_intro (by decide) (Nat.le_of_ble_eq_true rfl) (fun K hK => ?_)
  show K 0 [(0, .ref x), (1, .int (nI t)), (2, .int (nI k))] [] s 0 0
  refine r_iload_n hK d_Ker_result_0 rfl 1 rfl ?_
  refine r_nif_lt (a := t) (tgt := 40) hK d_Ker_result_1 (by decide) (by omega) ?_
  refine r_iload_n hK d_Ker_result_4 rfl 1 rfl ?_
  refine r_aload_n hK d_Ker_result_5 rfl 0 rfl ?_
  refine p_getR (f := 2) (v := some tl) hK d_Ker_result_6 k_Ker fd_Ker_19_Ker (by decide) rfl rfl (fun g h => h.getR hx (by decide) rfl hxt) ?_
  refine r_callVi (As := []) (b := tl) (st := [.int (nI t)]) hK (cS_size (s := s) tl (htl)) d_Ker_result_9 ml_Ker_31 cv_AL_size rfl (by decide) (p_recv k_AL (fun g h => h.kd htl (by decide))) (Nat.le_of_ble_eq_true rfl) ?_ rfl
  refine r_tp (b := nI n) (congrArg nI hn) ?_
  refine r_ncmp_ge (a := t) (b := n) (tgt := 40) hK d_Ker_result_12 (by decide) (by omega) (by omega) (fun z => False.elim (by omega)) (fun c12 => ?_)
  refine r_iload_n hK d_Ker_result_15 rfl 2 rfl ?_
  refine r_nif_lt (a := k) (tgt := 40) hK d_Ker_result_16 (by decide) (by omega) ?_
  refine r_iload_n hK d_Ker_result_19 rfl 2 rfl ?_
  refine r_aload_n hK d_Ker_result_20 rfl 0 rfl ?_
  refine p_getR (f := 2) (v := some tl) hK d_Ker_result_21 k_Ker fd_Ker_19_Ker (by decide) rfl rfl (fun g h => h.getR hx (by decide) rfl hxt) ?_
  refine r_iload_n hK d_Ker_result_24 rfl 1 rfl ?_
  refine r_callVr (As := [.int (nI t)]) (b := tl) (st := [.int (nI k)]) hK (cS_at (s := s) tl t ta (htl) htn) d_Ker_result_25 ml_Ker_44 cv_AL_get rfl (by decide) (p_recv k_AL (fun g h => h.kd htl (by decide))) (Nat.le_of_ble_eq_true rfl) ?_ rfl
  refine p_cast hK d_Ker_result_28 cl_Ker_35 ca_Task_Task (p_recv k_Task (fun g h => h.kd hta (by decide))) ?_
  refine p_getR (f := 34) (v := some ol) hK d_Ker_result_31 k_Task fd_Ker_48_Task (by decide) rfl rfl (fun g h => h.getR hta (by decide) rfl hto) ?_
  refine r_callVi (As := []) (b := ol) (st := [.int (nI k)]) hK (cS_size (s := s) ol (hol)) d_Ker_result_34 ml_Ker_31 cv_AL_size rfl (by decide) (p_recv k_AL (fun g h => h.kd hol (by decide))) (Nat.le_of_ble_eq_true rfl) ?_ rfl
  refine r_tp (b := nI cn) (congrArg nI hcn) ?_
  refine r_ncmp_lt (a := k) (b := cn) (tgt := 42) hK d_Ker_result_37 (by decide) (by omega) (by omega) (fun c37 => ?_) (fun z => False.elim (by omega))
  refine r_aload_n hK d_Ker_result_42 rfl 0 rfl ?_
  refine p_getR (f := 2) (v := some tl) hK d_Ker_result_43 k_Ker fd_Ker_19_Ker (by decide) rfl rfl (fun g h => h.getR hx (by decide) rfl hxt) ?_
  refine r_iload_n hK d_Ker_result_46 rfl 1 rfl ?_
  refine r_callVr (As := [.int (nI t)]) (b := tl) (st := []) hK (cS_at (s := s) tl t ta (htl) htn) d_Ker_result_47 ml_Ker_44 cv_AL_get rfl (by decide) (p_recv k_AL (fun g h => h.kd htl (by decide))) (Nat.le_of_ble_eq_true rfl) ?_ rfl
  refine p_cast hK d_Ker_result_50 cl_Ker_35 ca_Task_Task (p_recv k_Task (fun g h => h.kd hta (by decide))) ?_
  refine p_getR (f := 34) (v := some ol) hK d_Ker_result_53 k_Task fd_Ker_48_Task (by decide) rfl rfl (fun g h => h.getR hta (by decide) rfl hto) ?_
  refine r_iload_n hK d_Ker_result_56 rfl 2 rfl ?_
  refine r_callVr (As := [.int (nI k)]) (b := ol) (st := []) hK (cS_at (s := s) ol k o (hol) hok) d_Ker_result_57 ml_Ker_44 cv_AL_get rfl (by decide) (p_recv k_AL (fun g h => h.kd hol (by decide))) (Nat.le_of_ble_eq_true rfl) ?_ rfl
  refine p_cast hK d_Ker_result_60 cl_Ker_136 ca_Grant_Order (p_recv k_Grant (fun g h => h.kd ho (by decide))) ?_
  refine p_getI (f := 40) (v := rv) hK d_Ker_result_63 k_Grant fd_Ker_170_Grant (by decide) rfl rfl (fun g h => h.getI ho (by decide) rfl hrv) ?_
  refine r_iret hK d_Ker_result_66 rfl (rfl) ?_
  exact ⟨rfl, rfl⟩
set_option maxHeartbeats 1000000 in
theorem c_Ker_result_Revoke (X : gCx) (l : Launch) (s : sS) (x tl n t ta ol cn k o : Nat) (rv : Int32) (hx : gk s.1 x = 1) (hxt : gr s.1 2 x = some tl) (htl : gk s.1 tl = 14) (hn : (sl s tl).length = n) (hn8 : n ≤ 8) (htn8 : t < n) (htn : (sl s tl)[t]? = some ta) (hta : gk s.1 ta = 9) (hto : gr s.1 34 ta = some ol) (hol : gk s.1 ol = 14) (hcn : (sl s ol).length = cn) (hcb : cn < 100) (hk : k < cn) (hok : (sl s ol)[k]? = some o) (ho : gk s.1 o = 12) (hrv : gi s.1 40 o = rv) : gMi X l (HoldP X (Abs X)) M_Ker_result 4 0 0 [.ref x, .int (nI t), .int (nI k)] s rv s := by
  refine gM_intro (by decide) (Nat.le_of_ble_eq_true rfl) (fun K hK => ?_)
  show K 0 [(0, .ref x), (1, .int (nI t)), (2, .int (nI k))] [] s 0 0
  refine r_iload_n hK d_Ker_result_0 rfl 1 rfl ?_
  refine r_nif_lt (a := t) (tgt := 40) hK d_Ker_result_1 (by decide) (by omega) ?_
  refine r_iload_n hK d_Ker_result_4 rfl 1 rfl ?_
  refine r_aload_n hK d_Ker_result_5 rfl 0 rfl ?_
  refine p_getR (f := 2) (v := some tl) hK d_Ker_result_6 k_Ker fd_Ker_19_Ker (by decide) rfl rfl (fun g h => h.getR hx (by decide) rfl hxt) ?_
  refine r_callVi (As := []) (b := tl) (st := [.int (nI t)]) hK (cS_size (s := s) tl (htl)) d_Ker_result_9 ml_Ker_31 cv_AL_size rfl (by decide) (p_recv k_AL (fun g h => h.kd htl (by decide))) (Nat.le_of_ble_eq_true rfl) ?_ rfl
  refine r_tp (b := nI n) (congrArg nI hn) ?_
  refine r_ncmp_ge (a := t) (b := n) (tgt := 40) hK d_Ker_result_12 (by decide) (by omega) (by omega) (fun z => False.elim (by omega)) (fun c12 => ?_)
  refine r_iload_n hK d_Ker_result_15 rfl 2 rfl ?_
  refine r_nif_lt (a := k) (tgt := 40) hK d_Ker_result_16 (by decide) (by omega) ?_
  refine r_iload_n hK d_Ker_result_19 rfl 2 rfl ?_
  refine r_aload_n hK d_Ker_result_20 rfl 0 rfl ?_
  refine p_getR (f := 2) (v := some tl) hK d_Ker_result_21 k_Ker fd_Ker_19_Ker (by decide) rfl rfl (fun g h => h.getR hx (by decide) rfl hxt) ?_
  refine r_iload_n hK d_Ker_result_24 rfl 1 rfl ?_
  refine r_callVr (As := [.int (nI t)]) (b := tl) (st := [.int (nI k)]) hK (cS_at (s := s) tl t ta (htl) htn) d_Ker_result_25 ml_Ker_44 cv_AL_get rfl (by decide) (p_recv k_AL (fun g h => h.kd htl (by decide))) (Nat.le_of_ble_eq_true rfl) ?_ rfl
  refine p_cast hK d_Ker_result_28 cl_Ker_35 ca_Task_Task (p_recv k_Task (fun g h => h.kd hta (by decide))) ?_
  refine p_getR (f := 34) (v := some ol) hK d_Ker_result_31 k_Task fd_Ker_48_Task (by decide) rfl rfl (fun g h => h.getR hta (by decide) rfl hto) ?_
  refine r_callVi (As := []) (b := ol) (st := [.int (nI k)]) hK (cS_size (s := s) ol (hol)) d_Ker_result_34 ml_Ker_31 cv_AL_size rfl (by decide) (p_recv k_AL (fun g h => h.kd hol (by decide))) (Nat.le_of_ble_eq_true rfl) ?_ rfl
  refine r_tp (b := nI cn) (congrArg nI hcn) ?_
  refine r_ncmp_lt (a := k) (b := cn) (tgt := 42) hK d_Ker_result_37 (by decide) (by omega) (by omega) (fun c37 => ?_) (fun z => False.elim (by omega))
  refine r_aload_n hK d_Ker_result_42 rfl 0 rfl ?_
  refine p_getR (f := 2) (v := some tl) hK d_Ker_result_43 k_Ker fd_Ker_19_Ker (by decide) rfl rfl (fun g h => h.getR hx (by decide) rfl hxt) ?_
  refine r_iload_n hK d_Ker_result_46 rfl 1 rfl ?_
  refine r_callVr (As := [.int (nI t)]) (b := tl) (st := []) hK (cS_at (s := s) tl t ta (htl) htn) d_Ker_result_47 ml_Ker_44 cv_AL_get rfl (by decide) (p_recv k_AL (fun g h => h.kd htl (by decide))) (Nat.le_of_ble_eq_true rfl) ?_ rfl
  refine p_cast hK d_Ker_result_50 cl_Ker_35 ca_Task_Task (p_recv k_Task (fun g h => h.kd hta (by decide))) ?_
  refine p_getR (f := 34) (v := some ol) hK d_Ker_result_53 k_Task fd_Ker_48_Task (by decide) rfl rfl (fun g h => h.getR hta (by decide) rfl hto) ?_
  refine r_iload_n hK d_Ker_result_56 rfl 2 rfl ?_
  refine r_callVr (As := [.int (nI k)]) (b := ol) (st := []) hK (cS_at (s := s) ol k o (hol) hok) d_Ker_result_57 ml_Ker_44 cv_AL_get rfl (by decide) (p_recv k_AL (fun g h => h.kd hol (by decide))) (Nat.le_of_ble_eq_true rfl) ?_ rfl
  refine p_cast hK d_Ker_result_60 cl_Ker_136 ca_Revoke_Order (p_recv k_Revoke (fun g h => h.kd ho (by decide))) ?_
  refine p_getI (f := 40) (v := rv) hK d_Ker_result_63 k_Revoke fd_Ker_170_Revoke (by decide) rfl rfl (fun g h => h.getI ho (by decide) rfl hrv) ?_
  refine r_iret hK d_Ker_result_66 rfl (rfl) ?_
  exact ⟨rfl, rfl⟩
set_option maxHeartbeats 1000000 in
theorem c_Ker_result_Move (X : gCx) (l : Launch) (s : sS) (x tl n t ta ol cn k o : Nat) (rv : Int32) (hx : gk s.1 x = 1) (hxt : gr s.1 2 x = some tl) (htl : gk s.1 tl = 14) (hn : (sl s tl).length = n) (hn8 : n ≤ 8) (htn8 : t < n) (htn : (sl s tl)[t]? = some ta) (hta : gk s.1 ta = 9) (hto : gr s.1 34 ta = some ol) (hol : gk s.1 ol = 14) (hcn : (sl s ol).length = cn) (hcb : cn < 100) (hk : k < cn) (hok : (sl s ol)[k]? = some o) (ho : gk s.1 o = 13) (hrv : gi s.1 40 o = rv) : gMi X l (HoldP X (Abs X)) M_Ker_result 4 0 0 [.ref x, .int (nI t), .int (nI k)] s rv s := by
  refine gM_intro (by decide) (Nat.le_of_ble_eq_true rfl) (fun K hK => ?_)
  show K 0 [(0, .ref x), (1, .int (nI t)), (2, .int (nI k))] [] s 0 0
  refine r_iload_n hK d_Ker_result_0 rfl 1 rfl ?_
  refine r_nif_lt (a := t) (tgt := 40) hK d_Ker_result_1 (by decide) (by omega) ?_
  refine r_iload_n hK d_Ker_result_4 rfl 1 rfl ?_
  refine r_aload_n hK d_Ker_result_5 rfl 0 rfl ?_
  refine p_getR (f := 2) (v := some tl) hK d_Ker_result_6 k_Ker fd_Ker_19_Ker (by decide) rfl rfl (fun g h => h.getR hx (by decide) rfl hxt) ?_
  refine r_callVi (As := []) (b := tl) (st := [.int (nI t)]) hK (cS_size (s := s) tl (htl)) d_Ker_result_9 ml_Ker_31 cv_AL_size rfl (by decide) (p_recv k_AL (fun g h => h.kd htl (by decide))) (Nat.le_of_ble_eq_true rfl) ?_ rfl
  refine r_tp (b := nI n) (congrArg nI hn) ?_
  refine r_ncmp_ge (a := t) (b := n) (tgt := 40) hK d_Ker_result_12 (by decide) (by omega) (by omega) (fun z => False.elim (by omega)) (fun c12 => ?_)
  refine r_iload_n hK d_Ker_result_15 rfl 2 rfl ?_
  refine r_nif_lt (a := k) (tgt := 40) hK d_Ker_result_16 (by decide) (by omega) ?_
  refine r_iload_n hK d_Ker_result_19 rfl 2 rfl ?_
  refine r_aload_n hK d_Ker_result_20 rfl 0 rfl ?_
  refine p_getR (f := 2) (v := some tl) hK d_Ker_result_21 k_Ker fd_Ker_19_Ker (by decide) rfl rfl (fun g h => h.getR hx (by decide) rfl hxt) ?_
  refine r_iload_n hK d_Ker_result_24 rfl 1 rfl ?_
  refine r_callVr (As := [.int (nI t)]) (b := tl) (st := [.int (nI k)]) hK (cS_at (s := s) tl t ta (htl) htn) d_Ker_result_25 ml_Ker_44 cv_AL_get rfl (by decide) (p_recv k_AL (fun g h => h.kd htl (by decide))) (Nat.le_of_ble_eq_true rfl) ?_ rfl
  refine p_cast hK d_Ker_result_28 cl_Ker_35 ca_Task_Task (p_recv k_Task (fun g h => h.kd hta (by decide))) ?_
  refine p_getR (f := 34) (v := some ol) hK d_Ker_result_31 k_Task fd_Ker_48_Task (by decide) rfl rfl (fun g h => h.getR hta (by decide) rfl hto) ?_
  refine r_callVi (As := []) (b := ol) (st := [.int (nI k)]) hK (cS_size (s := s) ol (hol)) d_Ker_result_34 ml_Ker_31 cv_AL_size rfl (by decide) (p_recv k_AL (fun g h => h.kd hol (by decide))) (Nat.le_of_ble_eq_true rfl) ?_ rfl
  refine r_tp (b := nI cn) (congrArg nI hcn) ?_
  refine r_ncmp_lt (a := k) (b := cn) (tgt := 42) hK d_Ker_result_37 (by decide) (by omega) (by omega) (fun c37 => ?_) (fun z => False.elim (by omega))
  refine r_aload_n hK d_Ker_result_42 rfl 0 rfl ?_
  refine p_getR (f := 2) (v := some tl) hK d_Ker_result_43 k_Ker fd_Ker_19_Ker (by decide) rfl rfl (fun g h => h.getR hx (by decide) rfl hxt) ?_
  refine r_iload_n hK d_Ker_result_46 rfl 1 rfl ?_
  refine r_callVr (As := [.int (nI t)]) (b := tl) (st := []) hK (cS_at (s := s) tl t ta (htl) htn) d_Ker_result_47 ml_Ker_44 cv_AL_get rfl (by decide) (p_recv k_AL (fun g h => h.kd htl (by decide))) (Nat.le_of_ble_eq_true rfl) ?_ rfl
  refine p_cast hK d_Ker_result_50 cl_Ker_35 ca_Task_Task (p_recv k_Task (fun g h => h.kd hta (by decide))) ?_
  refine p_getR (f := 34) (v := some ol) hK d_Ker_result_53 k_Task fd_Ker_48_Task (by decide) rfl rfl (fun g h => h.getR hta (by decide) rfl hto) ?_
  refine r_iload_n hK d_Ker_result_56 rfl 2 rfl ?_
  refine r_callVr (As := [.int (nI k)]) (b := ol) (st := []) hK (cS_at (s := s) ol k o (hol) hok) d_Ker_result_57 ml_Ker_44 cv_AL_get rfl (by decide) (p_recv k_AL (fun g h => h.kd hol (by decide))) (Nat.le_of_ble_eq_true rfl) ?_ rfl
  refine p_cast hK d_Ker_result_60 cl_Ker_136 ca_Move_Order (p_recv k_Move (fun g h => h.kd ho (by decide))) ?_
  refine p_getI (f := 40) (v := rv) hK d_Ker_result_63 k_Move fd_Ker_170_Move (by decide) rfl rfl (fun g h => h.getI ho (by decide) rfl hrv) ?_
  refine r_iret hK d_Ker_result_66 rfl (rfl) ?_
  exact ⟨rfl, rfl⟩
