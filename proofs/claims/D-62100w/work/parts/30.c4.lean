theorem pg_shr : ∀ p, p < 16 → nI p >>> (nI 2 &&& 31) = nI (p / 4) := by decide +kernel
theorem pg_and : ∀ p, p < 16 → nI p &&& nI 3 = nI (p % 4) := by decide +kernel
theorem nz_of {a k : Nat} (h : a = k + 1) : a ≠ 0 := by omega
theorem nzA {a t : Nat} (h : a = 100 + t) : a ≠ 0 := by omega
theorem nI_nm1 {v : Nat} (h : v < 2 ^ 31) : nI v ≠ -1 := fun z => by
  have := nI_pos' h
  rw [z] at this
  exact absurd this (by decide)
set_option maxHeartbeats 1000000 in
theorem c_Order_finish_Access (X : gCx) (l : Launch) (s : sS) (o : Nat) (r : Int32) (ho : gk s.1 o = 10) : gMi X l (HoldP X (Abs X)) M_Order_finish 0 0 0 [.ref o, .int r] s (nI 1) (sSetI s 40 o r) := by
  refine gM_intro (by decide) (Nat.le_of_ble_eq_true rfl) (fun K hK => ?_)
  show K 0 [(0, .ref o), (1, .int r)] [] s 0 0
  refine r_aload_n hK d_Order_finish_0 rfl 0 rfl ?_
  refine r_iload_n hK d_Order_finish_1 rfl 1 rfl ?_
  refine p_putI (k := 3) (f := 40) hK d_Order_finish_2 k_Access fd_Order_9_Access (by decide) rfl rfl rfl rfl rfl (fun g h => ⟨h.kd ho (by decide), h.setI (nz_of (k := 9) ho) rfl⟩) ?_
  refine r_iconst (v := nI 1) hK d_Order_finish_5 (by decide) ?_
  refine r_iret hK d_Order_finish_6 rfl (rfl) ?_
  exact ⟨rfl, rfl⟩
set_option maxHeartbeats 1000000 in
theorem c_Order_go_Access (X : gCx) (l : Launch) (s : sS) (o e : Nat) (ho : gk s.1 o = 10) : gMi X l (HoldP X (Abs X)) M_Order_go 0 0 0 [.ref o, .ref e] s (nI 0) (sSetR s 39 o (some e)) := by
  refine gM_intro (by decide) (Nat.le_of_ble_eq_true rfl) (fun K hK => ?_)
  show K 0 [(0, .ref o), (1, .ref e)] [] s 0 0
  refine r_aload_n hK d_Order_go_0 rfl 0 rfl ?_
  refine r_aload_n hK d_Order_go_1 rfl 1 rfl ?_
  refine p_putR (k := 2) (f := 39) (v := some e) hK d_Order_go_2 k_Access fd_Order_15_Access (by decide) rfl rfl rfl (fun g h => ⟨h.kd ho (by decide), h.setR (nz_of (k := 9) ho) rfl⟩) ?_
  refine r_iconst (v := nI 0) hK d_Order_go_5 (by decide) ?_
  refine r_iret hK d_Order_go_6 rfl (rfl) ?_
  exact ⟨rfl, rfl⟩
set_option maxHeartbeats 1000000 in
theorem c_Order_init_Access (X : gCx) (l : Launch) (s : sS) (o e : Nat) (ho : gk s.1 o = 10) : gMv X l (HoldP X (Abs X)) M_Order_init 1 0 0 [.ref o, .ref e] s (sSetR (sSetI s 40 o (-1)) 39 o (some e)) := by
  refine gM_intro (by decide) (Nat.le_of_ble_eq_true rfl) (fun K hK => ?_)
  show K 0 [(0, .ref o), (1, .ref e)] [] s 0 0
  refine r_aload_n hK d_Order_init_0 rfl 0 rfl ?_
  refine r_objInit hK d_Order_init_1 ml_Order_3 ow_1 ow_2 (by decide) (by decide) ?_
  refine r_aload_n hK d_Order_init_4 rfl 0 rfl ?_
  refine r_iconst (v := -1) hK d_Order_init_5 (by decide) ?_
  refine p_putI (k := 3) (f := 40) hK d_Order_init_6 k_Access fd_Order_9_Access (by decide) rfl rfl rfl rfl rfl (fun g h => ⟨h.kd ho (by decide), h.setI (nz_of (k := 9) ho) rfl⟩) ?_
  refine r_aload_n hK d_Order_init_9 rfl 0 rfl ?_
  refine r_aload_n hK d_Order_init_10 rfl 1 rfl ?_
  refine p_putR (k := 2) (f := 39) (v := some e) hK d_Order_init_11 k_Access fd_Order_15_Access (by decide) rfl rfl rfl (fun g h => ⟨h.kd ho (by decide), h.setR (nz_of (k := 9) ho) rfl⟩) ?_
  refine r_vret hK d_Order_init_14 rfl ?_
  exact ⟨rfl, rfl⟩
set_option maxHeartbeats 1000000 in
theorem c_Order_finish_Grant (X : gCx) (l : Launch) (s : sS) (o : Nat) (r : Int32) (ho : gk s.1 o = 11) : gMi X l (HoldP X (Abs X)) M_Order_finish 0 0 0 [.ref o, .int r] s (nI 1) (sSetI s 40 o r) := by
  refine gM_intro (by decide) (Nat.le_of_ble_eq_true rfl) (fun K hK => ?_)
  show K 0 [(0, .ref o), (1, .int r)] [] s 0 0
  refine r_aload_n hK d_Order_finish_0 rfl 0 rfl ?_
  refine r_iload_n hK d_Order_finish_1 rfl 1 rfl ?_
  refine p_putI (k := 7) (f := 40) hK d_Order_finish_2 k_Grant fd_Order_9_Grant (by decide) rfl rfl rfl rfl rfl (fun g h => ⟨h.kd ho (by decide), h.setI (nz_of (k := 10) ho) rfl⟩) ?_
  refine r_iconst (v := nI 1) hK d_Order_finish_5 (by decide) ?_
  refine r_iret hK d_Order_finish_6 rfl (rfl) ?_
  exact ⟨rfl, rfl⟩
set_option maxHeartbeats 1000000 in
theorem c_Order_go_Grant (X : gCx) (l : Launch) (s : sS) (o e : Nat) (ho : gk s.1 o = 11) : gMi X l (HoldP X (Abs X)) M_Order_go 0 0 0 [.ref o, .ref e] s (nI 0) (sSetR s 39 o (some e)) := by
  refine gM_intro (by decide) (Nat.le_of_ble_eq_true rfl) (fun K hK => ?_)
  show K 0 [(0, .ref o), (1, .ref e)] [] s 0 0
  refine r_aload_n hK d_Order_go_0 rfl 0 rfl ?_
  refine r_aload_n hK d_Order_go_1 rfl 1 rfl ?_
  refine p_putR (k := 6) (f := 39) (v := some e) hK d_Order_go_2 k_Grant fd_Order_15_Grant (by decide) rfl rfl rfl (fun g h => ⟨h.kd ho (by decide), h.setR (nz_of (k := 10) ho) rfl⟩) ?_
  refine r_iconst (v := nI 0) hK d_Order_go_5 (by decide) ?_
  refine r_iret hK d_Order_go_6 rfl (rfl) ?_
  exact ⟨rfl, rfl⟩
set_option maxHeartbeats 1000000 in
theorem c_Order_init_Grant (X : gCx) (l : Launch) (s : sS) (o e : Nat) (ho : gk s.1 o = 11) : gMv X l (HoldP X (Abs X)) M_Order_init 1 0 0 [.ref o, .ref e] s (sSetR (sSetI s 40 o (-1)) 39 o (some e)) := by
  refine gM_intro (by decide) (Nat.le_of_ble_eq_true rfl) (fun K hK => ?_)
  show K 0 [(0, .ref o), (1, .ref e)] [] s 0 0
  refine r_aload_n hK d_Order_init_0 rfl 0 rfl ?_
  refine r_objInit hK d_Order_init_1 ml_Order_3 ow_1 ow_2 (by decide) (by decide) ?_
  refine r_aload_n hK d_Order_init_4 rfl 0 rfl ?_
  refine r_iconst (v := -1) hK d_Order_init_5 (by decide) ?_
  refine p_putI (k := 7) (f := 40) hK d_Order_init_6 k_Grant fd_Order_9_Grant (by decide) rfl rfl rfl rfl rfl (fun g h => ⟨h.kd ho (by decide), h.setI (nz_of (k := 10) ho) rfl⟩) ?_
  refine r_aload_n hK d_Order_init_9 rfl 0 rfl ?_
  refine r_aload_n hK d_Order_init_10 rfl 1 rfl ?_
  refine p_putR (k := 6) (f := 39) (v := some e) hK d_Order_init_11 k_Grant fd_Order_15_Grant (by decide) rfl rfl rfl (fun g h => ⟨h.kd ho (by decide), h.setR (nz_of (k := 10) ho) rfl⟩) ?_
  refine r_vret hK d_Order_init_14 rfl ?_
  exact ⟨rfl, rfl⟩
set_option maxHeartbeats 1000000 in
theorem c_Order_finish_Revoke (X : gCx) (l : Launch) (s : sS) (o : Nat) (r : Int32) (ho : gk s.1 o = 12) : gMi X l (HoldP X (Abs X)) M_Order_finish 0 0 0 [.ref o, .int r] s (nI 1) (sSetI s 40 o r) := by
  refine gM_intro (by decide) (Nat.le_of_ble_eq_true rfl) (fun K hK => ?_)
  show K 0 [(0, .ref o), (1, .int r)] [] s 0 0
  refine r_aload_n hK d_Order_finish_0 rfl 0 rfl ?_
  refine r_iload_n hK d_Order_finish_1 rfl 1 rfl ?_
  refine p_putI (k := 12) (f := 40) hK d_Order_finish_2 k_Revoke fd_Order_9_Revoke (by decide) rfl rfl rfl rfl rfl (fun g h => ⟨h.kd ho (by decide), h.setI (nz_of (k := 11) ho) rfl⟩) ?_
  refine r_iconst (v := nI 1) hK d_Order_finish_5 (by decide) ?_
  refine r_iret hK d_Order_finish_6 rfl (rfl) ?_
  exact ⟨rfl, rfl⟩
set_option maxHeartbeats 1000000 in
theorem c_Order_go_Revoke (X : gCx) (l : Launch) (s : sS) (o e : Nat) (ho : gk s.1 o = 12) : gMi X l (HoldP X (Abs X)) M_Order_go 0 0 0 [.ref o, .ref e] s (nI 0) (sSetR s 39 o (some e)) := by
  refine gM_intro (by decide) (Nat.le_of_ble_eq_true rfl) (fun K hK => ?_)
  show K 0 [(0, .ref o), (1, .ref e)] [] s 0 0
  refine r_aload_n hK d_Order_go_0 rfl 0 rfl ?_
  refine r_aload_n hK d_Order_go_1 rfl 1 rfl ?_
  refine p_putR (k := 11) (f := 39) (v := some e) hK d_Order_go_2 k_Revoke fd_Order_15_Revoke (by decide) rfl rfl rfl (fun g h => ⟨h.kd ho (by decide), h.setR (nz_of (k := 11) ho) rfl⟩) ?_
  refine r_iconst (v := nI 0) hK d_Order_go_5 (by decide) ?_
  refine r_iret hK d_Order_go_6 rfl (rfl) ?_
  exact ⟨rfl, rfl⟩
set_option maxHeartbeats 1000000 in
theorem c_Order_init_Revoke (X : gCx) (l : Launch) (s : sS) (o e : Nat) (ho : gk s.1 o = 12) : gMv X l (HoldP X (Abs X)) M_Order_init 1 0 0 [.ref o, .ref e] s (sSetR (sSetI s 40 o (-1)) 39 o (some e)) := by
  refine gM_intro (by decide) (Nat.le_of_ble_eq_true rfl) (fun K hK => ?_)
  show K 0 [(0, .ref o), (1, .ref e)] [] s 0 0
  refine r_aload_n hK d_Order_init_0 rfl 0 rfl ?_
  refine r_objInit hK d_Order_init_1 ml_Order_3 ow_1 ow_2 (by decide) (by decide) ?_
  refine r_aload_n hK d_Order_init_4 rfl 0 rfl ?_
  refine r_iconst (v := -1) hK d_Order_init_5 (by decide) ?_
  refine p_putI (k := 12) (f := 40) hK d_Order_init_6 k_Revoke fd_Order_9_Revoke (by decide) rfl rfl rfl rfl rfl (fun g h => ⟨h.kd ho (by decide), h.setI (nz_of (k := 11) ho) rfl⟩) ?_
  refine r_aload_n hK d_Order_init_9 rfl 0 rfl ?_
  refine r_aload_n hK d_Order_init_10 rfl 1 rfl ?_
  refine p_putR (k := 11) (f := 39) (v := some e) hK d_Order_init_11 k_Revoke fd_Order_15_Revoke (by decide) rfl rfl rfl (fun g h => ⟨h.kd ho (by decide), h.setR (nz_of (k := 11) ho) rfl⟩) ?_
  refine r_vret hK d_Order_init_14 rfl ?_
  exact ⟨rfl, rfl⟩
set_option maxHeartbeats 1000000 in
theorem c_Order_finish_Move (X : gCx) (l : Launch) (s : sS) (o : Nat) (r : Int32) (ho : gk s.1 o = 13) : gMi X l (HoldP X (Abs X)) M_Order_finish 0 0 0 [.ref o, .int r] s (nI 1) (sSetI s 40 o r) := by
  refine gM_intro (by decide) (Nat.le_of_ble_eq_true rfl) (fun K hK => ?_)
  show K 0 [(0, .ref o), (1, .int r)] [] s 0 0
  refine r_aload_n hK d_Order_finish_0 rfl 0 rfl ?_
  refine r_iload_n hK d_Order_finish_1 rfl 1 rfl ?_
  refine p_putI (k := 2) (f := 40) hK d_Order_finish_2 k_Move fd_Order_9_Move (by decide) rfl rfl rfl rfl rfl (fun g h => ⟨h.kd ho (by decide), h.setI (nz_of (k := 12) ho) rfl⟩) ?_
  refine r_iconst (v := nI 1) hK d_Order_finish_5 (by decide) ?_
  refine r_iret hK d_Order_finish_6 rfl (rfl) ?_
  exact ⟨rfl, rfl⟩
set_option maxHeartbeats 1000000 in
theorem c_Order_go_Move (X : gCx) (l : Launch) (s : sS) (o e : Nat) (ho : gk s.1 o = 13) : gMi X l (HoldP X (Abs X)) M_Order_go 0 0 0 [.ref o, .ref e] s (nI 0) (sSetR s 39 o (some e)) := by
  refine gM_intro (by decide) (Nat.le_of_ble_eq_true rfl) (fun K hK => ?_)
  show K 0 [(0, .ref o), (1, .ref e)] [] s 0 0
  refine r_aload_n hK d_Order_go_0 rfl 0 rfl ?_
  refine r_aload_n hK d_Order_go_1 rfl 1 rfl ?_
  refine p_putR (k := 1) (f := 39) (v := some e) hK d_Order_go_2 k_Move fd_Order_15_Move (by decide) rfl rfl rfl (fun g h => ⟨h.kd ho (by decide), h.setR (nz_of (k := 12) ho) rfl⟩) ?_
  refine r_iconst (v := nI 0) hK d_Order_go_5 (by decide) ?_
  refine r_iret hK d_Order_go_6 rfl (rfl) ?_
  exact ⟨rfl, rfl⟩
set_option maxHeartbeats 1000000 in
theorem c_Order_init_Move (X : gCx) (l : Launch) (s : sS) (o e : Nat) (ho : gk s.1 o = 13) : gMv X l (HoldP X (Abs X)) M_Order_init 1 0 0 [.ref o, .ref e] s (sSetR (sSetI s 40 o (-1)) 39 o (some e)) := by
  refine gM_intro (by decide) (Nat.le_of_ble_eq_true rfl) (fun K hK => ?_)
  show K 0 [(0, .ref o), (1, .ref e)] [] s 0 0
  refine r_aload_n hK d_Order_init_0 rfl 0 rfl ?_
  refine r_objInit hK d_Order_init_1 ml_Order_3 ow_1 ow_2 (by decide) (by decide) ?_
  refine r_aload_n hK d_Order_init_4 rfl 0 rfl ?_
  refine r_iconst (v := -1) hK d_Order_init_5 (by decide) ?_
  refine p_putI (k := 2) (f := 40) hK d_Order_init_6 k_Move fd_Order_9_Move (by decide) rfl rfl rfl rfl rfl (fun g h => ⟨h.kd ho (by decide), h.setI (nz_of (k := 12) ho) rfl⟩) ?_
  refine r_aload_n hK d_Order_init_9 rfl 0 rfl ?_
  refine r_aload_n hK d_Order_init_10 rfl 1 rfl ?_
  refine p_putR (k := 1) (f := 39) (v := some e) hK d_Order_init_11 k_Move fd_Order_15_Move (by decide) rfl rfl rfl (fun g h => ⟨h.kd ho (by decide), h.setR (nz_of (k := 12) ho) rfl⟩) ?_
  refine r_vret hK d_Order_init_14 rfl ?_
  exact ⟨rfl, rfl⟩
set_option maxHeartbeats 1000000 in
theorem c_Access_init (X : gCx) (l : Launch) (s : sS) (o : Nat) (pg v : Int32) (ho : gk s.1 o = 10) : gMv X l (HoldP X (Abs X)) M_Access_init 2 0 0 [.ref o, .int pg, .int v] s (sSetI (sSetI (sSetR (sSetI s 40 o (-1)) 39 o (some (cxE X 0))) 37 o pg) 38 o v) := by
  refine gM_intro (by decide) (Nat.le_of_ble_eq_true rfl) (fun K hK => ?_)
  show K 0 [(0, .ref o), (1, .int pg), (2, .int v)] [] s 0 0
  refine r_aload_n hK d_Access_init_0 rfl 0 rfl ?_
  refine p_phase (e0 := 0) hK d_Access_init_1 rfl fs_Access_3 ?_
  refine r_callIv (As := [.ref (cxE X 0)]) (b := o) (st := []) hK (c_Order_init_Access X l s o (cxE X 0) ho) d_Access_init_4 ml_Access_9 ci_Order_init rfl (by decide) (Nat.le_of_ble_eq_true rfl) ?_ rfl
  refine r_aload_n hK d_Access_init_7 rfl 0 rfl ?_
  refine r_iload_n hK d_Access_init_8 rfl 1 rfl ?_
  refine p_putFI (k := 0) (f := 37) hK d_Access_init_9 k_Access fl_Access_15 rfl rfl (by decide) rfl rfl rfl rfl rfl (fun g h => ⟨h.kd ho (by decide), h.setI (nz_of (k := 9) ho) rfl⟩) ?_
  refine r_aload_n hK d_Access_init_12 rfl 0 rfl ?_
  refine r_iload_n hK d_Access_init_13 rfl 2 rfl ?_
  refine p_putFI (k := 1) (f := 38) hK d_Access_init_14 k_Access fl_Access_21 rfl rfl (by decide) rfl rfl rfl rfl rfl (fun g h => ⟨h.kd ho (by decide), h.setI (nz_of (k := 9) ho) rfl⟩) ?_
  refine r_vret hK d_Access_init_17 rfl ?_
  exact ⟨rfl, rfl⟩
set_option maxHeartbeats 1000000 in
theorem c_Locked_init_Grant (X : gCx) (l : Launch) (s : sS) (o : Nat) (fr n : Int32) (ho : gk s.1 o = 11) : gMv X l (HoldP X (Abs X)) M_Locked_init 2 0 0 [.ref o, .int fr, .int n] s (sSetI (sSetI (sSetR (sSetI s 40 o (-1)) 39 o (some (cxE X 3))) 42 o fr) 43 o n) := by
  refine gM_intro (by decide) (Nat.le_of_ble_eq_true rfl) (fun K hK => ?_)
  show K 0 [(0, .ref o), (1, .int fr), (2, .int n)] [] s 0 0
  refine r_aload_n hK d_Locked_init_0 rfl 0 rfl ?_
  refine p_phase (e0 := 3) hK d_Locked_init_1 rfl fs_Locked_1 ?_
  refine r_callIv (As := [.ref (cxE X 3)]) (b := o) (st := []) hK (c_Order_init_Grant X l s o (cxE X 3) ho) d_Locked_init_4 ml_Locked_7 ci_Order_init rfl (by decide) (Nat.le_of_ble_eq_true rfl) ?_ rfl
  refine r_aload_n hK d_Locked_init_7 rfl 0 rfl ?_
  refine r_iload_n hK d_Locked_init_8 rfl 1 rfl ?_
  refine p_putFI (k := 1) (f := 42) hK d_Locked_init_9 k_Grant fl_Locked_13 rfl rfl (by decide) rfl rfl rfl rfl rfl (fun g h => ⟨h.kd ho (by decide), h.setI (nz_of (k := 10) ho) rfl⟩) ?_
  refine r_aload_n hK d_Locked_init_12 rfl 0 rfl ?_
  refine r_iload_n hK d_Locked_init_13 rfl 2 rfl ?_
  refine p_putFI (k := 2) (f := 43) hK d_Locked_init_14 k_Grant fl_Locked_19 rfl rfl (by decide) rfl rfl rfl rfl rfl (fun g h => ⟨h.kd ho (by decide), h.setI (nz_of (k := 10) ho) rfl⟩) ?_
  refine r_vret hK d_Locked_init_17 rfl ?_
  exact ⟨rfl, rfl⟩
set_option maxHeartbeats 1000000 in
theorem c_Locked_init_Revoke (X : gCx) (l : Launch) (s : sS) (o : Nat) (fr n : Int32) (ho : gk s.1 o = 12) : gMv X l (HoldP X (Abs X)) M_Locked_init 2 0 0 [.ref o, .int fr, .int n] s (sSetI (sSetI (sSetR (sSetI s 40 o (-1)) 39 o (some (cxE X 3))) 42 o fr) 43 o n) := by
  refine gM_intro (by decide) (Nat.le_of_ble_eq_true rfl) (fun K hK => ?_)
  show K 0 [(0, .ref o), (1, .int fr), (2, .int n)] [] s 0 0
  refine r_aload_n hK d_Locked_init_0 rfl 0 rfl ?_
  refine p_phase (e0 := 3) hK d_Locked_init_1 rfl fs_Locked_1 ?_
  refine r_callIv (As := [.ref (cxE X 3)]) (b := o) (st := []) hK (c_Order_init_Revoke X l s o (cxE X 3) ho) d_Locked_init_4 ml_Locked_7 ci_Order_init rfl (by decide) (Nat.le_of_ble_eq_true rfl) ?_ rfl
  refine r_aload_n hK d_Locked_init_7 rfl 0 rfl ?_
  refine r_iload_n hK d_Locked_init_8 rfl 1 rfl ?_
  refine p_putFI (k := 6) (f := 42) hK d_Locked_init_9 k_Revoke fl_Locked_13 rfl rfl (by decide) rfl rfl rfl rfl rfl (fun g h => ⟨h.kd ho (by decide), h.setI (nz_of (k := 11) ho) rfl⟩) ?_
  refine r_aload_n hK d_Locked_init_12 rfl 0 rfl ?_
  refine r_iload_n hK d_Locked_init_13 rfl 2 rfl ?_
  refine p_putFI (k := 7) (f := 43) hK d_Locked_init_14 k_Revoke fl_Locked_19 rfl rfl (by decide) rfl rfl rfl rfl rfl (fun g h => ⟨h.kd ho (by decide), h.setI (nz_of (k := 11) ho) rfl⟩) ?_
  refine r_vret hK d_Locked_init_17 rfl ?_
  exact ⟨rfl, rfl⟩
set_option maxHeartbeats 1000000 in
theorem c_Grant_init (X : gCx) (l : Launch) (s : sS) (o : Nat) (fr n w : Int32) (ho : gk s.1 o = 11) (hw : narrow .boolean (.int w) = .int w) (hw2 : fits .boolean (.int w) = true) : gMv X l (HoldP X (Abs X)) M_Grant_init 3 0 0 [.ref o, .int fr, .int n, .int w] s (sSetI (sSetI (sSetI (sSetR (sSetI s 40 o (-1)) 39 o (some (cxE X 3))) 42 o fr) 43 o n) 41 o w) := by
  refine gM_intro (by decide) (Nat.le_of_ble_eq_true rfl) (fun K hK => ?_)
  show K 0 [(0, .ref o), (1, .int fr), (2, .int n), (3, .int w)] [] s 0 0
  refine r_aload_n hK d_Grant_init_0 rfl 0 rfl ?_
  refine r_iload_n hK d_Grant_init_1 rfl 1 rfl ?_
  refine r_iload_n hK d_Grant_init_2 rfl 2 rfl ?_
  refine r_callIv (As := [.int fr, .int n]) (b := o) (st := []) hK (c_Locked_init_Grant X l s o fr n ho) d_Grant_init_3 ml_Grant_3 ci_Locked_init rfl (by decide) (Nat.le_of_ble_eq_true rfl) ?_ rfl
  refine r_aload_n hK d_Grant_init_6 rfl 0 rfl ?_
  refine r_iload_n hK d_Grant_init_7 rfl 3 rfl ?_
  refine p_putFI (k := 0) (f := 41) hK d_Grant_init_8 k_Grant fl_Grant_9 rfl rfl (by decide) rfl rfl rfl (by first | rfl | assumption) (by first | rfl | assumption) (fun g h => ⟨h.kd ho (by decide), h.setI (nz_of (k := 10) ho) rfl⟩) ?_
  refine r_vret hK d_Grant_init_11 rfl ?_
  exact ⟨rfl, rfl⟩
set_option maxHeartbeats 1000000 in
theorem c_Revoke_init (X : gCx) (l : Launch) (s : sS) (o q : Nat) (fr n w : Int32) (ho : gk s.1 o = 12) (hq : gx s.1 = q) (n1 : o ≠ q) (hw : narrow .boolean (.int w) = .int w) (hw2 : fits .boolean (.int w) = true) : gMv X l (HoldP X (Abs X)) M_Revoke_init 3 1 4 [.ref o, .int fr, .int n, .int w] s (sSetI (sSetR (sNewA (sSetI (sSetI (sSetR (sSetI s 40 o (-1)) 39 o (some (cxE X 3))) 42 o fr) 43 o n) 0 4) 48 o (some q)) 47 o w) := by
  refine gM_intro (by decide) (Nat.le_of_ble_eq_true rfl) (fun K hK => ?_)
  show K 0 [(0, .ref o), (1, .int fr), (2, .int n), (3, .int w)] [] s 1 4
  refine r_aload_n hK d_Revoke_init_0 rfl 0 rfl ?_
  refine r_iload_n hK d_Revoke_init_1 rfl 1 rfl ?_
  refine r_iload_n hK d_Revoke_init_2 rfl 2 rfl ?_
  refine r_callIv (As := [.int fr, .int n]) (b := o) (st := []) hK (c_Locked_init_Revoke X l s o fr n ho) d_Revoke_init_3 ml_Revoke_3 ci_Locked_init rfl (by decide) (Nat.le_of_ble_eq_true rfl) ?_ rfl
  refine r_aload_n hK d_Revoke_init_6 rfl 0 rfl ?_
  refine r_iconst (v := nI 4) hK d_Revoke_init_7 (by decide) ?_
  refine p_newi (t := 0) (n := 4) (a := q) hK d_Revoke_init_8 (by decide) rfl aw_int rfl (by decide) (fun g h => h.newA (by simp [sSetI, sSetR, sSetA, sSetB, sSetQ, sSetL, sSetT, sNew, sNewA, sNewL, sPush, sBump, sBegL, sPutT, sq, sl, sr, gSetI, gSetR, gSetA, gSetB, gNew, gNewA, up2, up1, gx, gk, gl, gi, gr, ga, gb, hq, n1, hq])) ?_
  refine p_putFR (k := 1) (f := 48) (v := some q) hK d_Revoke_init_10 k_Revoke fl_Revoke_9 rfl rfl (by decide) rfl rfl rfl (fun g h => ⟨h.kd (by simp [sSetI, sSetR, sSetA, sSetB, sSetQ, sSetL, sSetT, sNew, sNewA, sNewL, sPush, sBump, sBegL, sPutT, sq, sl, sr, gSetI, gSetR, gSetA, gSetB, gNew, gNewA, up2, up1, gx, gk, gl, gi, gr, ga, gb, hq, n1, ho]) (by decide), h.setR (nz_of (k := 11) (by simp [sSetI, sSetR, sSetA, sSetB, sSetQ, sSetL, sSetT, sNew, sNewA, sNewL, sPush, sBump, sBegL, sPutT, sq, sl, sr, gSetI, gSetR, gSetA, gSetB, gNew, gNewA, up2, up1, gx, gk, gl, gi, gr, ga, gb, hq, n1, ho])) rfl⟩) ?_
  refine r_aload_n hK d_Revoke_init_13 rfl 0 rfl ?_
  refine r_iload_n hK d_Revoke_init_14 rfl 3 rfl ?_
  refine p_putFI (k := 0) (f := 47) hK d_Revoke_init_15 k_Revoke fl_Revoke_15 rfl rfl (by decide) rfl rfl rfl (by first | rfl | assumption) (by first | rfl | assumption) (fun g h => ⟨h.kd (by simp [sSetI, sSetR, sSetA, sSetB, sSetQ, sSetL, sSetT, sNew, sNewA, sNewL, sPush, sBump, sBegL, sPutT, sq, sl, sr, gSetI, gSetR, gSetA, gSetB, gNew, gNewA, up2, up1, gx, gk, gl, gi, gr, ga, gb, hq, n1, ho]) (by decide), h.setI (nz_of (k := 11) (by simp [sSetI, sSetR, sSetA, sSetB, sSetQ, sSetL, sSetT, sNew, sNewA, sNewL, sPush, sBump, sBegL, sPutT, sq, sl, sr, gSetI, gSetR, gSetA, gSetB, gNew, gNewA, up2, up1, gx, gk, gl, gi, gr, ga, gb, hq, n1, ho])) rfl⟩) ?_
  refine r_vret hK d_Revoke_init_18 rfl ?_
  exact ⟨rfl, rfl⟩
set_option maxHeartbeats 1000000 in
theorem c_Move_init (X : gCx) (l : Launch) (s : sS) (o : Nat) (to : Int32) (ho : gk s.1 o = 13) : gMv X l (HoldP X (Abs X)) M_Move_init 2 0 0 [.ref o, .int to] s (sSetI (sSetR (sSetI s 40 o (-1)) 39 o (some (cxE X 11))) 53 o to) := by
  refine gM_intro (by decide) (Nat.le_of_ble_eq_true rfl) (fun K hK => ?_)
  show K 0 [(0, .ref o), (1, .int to)] [] s 0 0
  refine r_aload_n hK d_Move_init_0 rfl 0 rfl ?_
  refine p_phase (e0 := 11) hK d_Move_init_1 rfl fs_Move_1 ?_
  refine r_callIv (As := [.ref (cxE X 11)]) (b := o) (st := []) hK (c_Order_init_Move X l s o (cxE X 11) ho) d_Move_init_4 ml_Move_7 ci_Order_init rfl (by decide) (Nat.le_of_ble_eq_true rfl) ?_ rfl
  refine r_aload_n hK d_Move_init_7 rfl 0 rfl ?_
  refine r_iload_n hK d_Move_init_8 rfl 1 rfl ?_
  refine p_putFI (k := 0) (f := 53) hK d_Move_init_9 k_Move fl_Move_13 rfl rfl (by decide) rfl rfl rfl rfl rfl (fun g h => ⟨h.kd ho (by decide), h.setI (nz_of (k := 12) ho) rfl⟩) ?_
  refine r_vret hK d_Move_init_12 rfl ?_
  exact ⟨rfl, rfl⟩
set_option maxHeartbeats 1000000 in
theorem c_Task_init (X : gCx) (l : Launch) (s : sS) (t q p : Nat) (n : Int32) (ht : gk s.1 t = 9) (hq : gx s.1 = q) (n1 : t ≠ q) : gMv X l (HoldP X (Abs X)) M_Task_init 4 1 3 [.ref t, .int n, .ref p] s (sSetR (sSetI (sSetR (sBegL (sNewL s) q) 34 t (some q)) 33 t n) 36 t (some p)) := by
  refine gM_intro (by decide) (Nat.le_of_ble_eq_true rfl) (fun K hK => ?_)
  show K 0 [(0, .ref t), (1, .int n), (2, .ref p)] [] s 1 3
  refine r_aload_n hK d_Task_init_0 rfl 0 rfl ?_
  refine r_objInit hK d_Task_init_1 ml_Task_1 ow_1 ow_2 (by decide) (by decide) ?_
  refine r_aload_n hK d_Task_init_4 rfl 0 rfl ?_
  refine p_new (ci := 13) (a := q) hK d_Task_init_5 k_AL cl_Task_7 in_AL ii_AL (fun g h => h.newL hq) ?_
  refine r_dup hK d_Task_init_8 rfl ?_
  refine r_callIv (As := []) (b := q) (st := [.ref q, .ref t]) hK (cS_init q (by simp [sSetI, sSetR, sSetA, sSetB, sSetQ, sSetL, sSetT, sNew, sNewA, sNewL, sPush, sBump, sBegL, sPutT, sq, sl, sr, gSetI, gSetR, gSetA, gSetB, gNew, gNewA, up2, up1, gx, gk, gl, gi, gr, ga, gb, hq, n1])) d_Task_init_9 ml_Task_9 ci_AL_init rfl (by decide) (Nat.le_of_ble_eq_true rfl) ?_ rfl
  refine p_putFR (k := 1) (f := 34) (v := some q) hK d_Task_init_12 k_Task fl_Task_10 rfl rfl (by decide) rfl rfl rfl (fun g h => ⟨h.kd (by simp [sSetI, sSetR, sSetA, sSetB, sSetQ, sSetL, sSetT, sNew, sNewA, sNewL, sPush, sBump, sBegL, sPutT, sq, sl, sr, gSetI, gSetR, gSetA, gSetB, gNew, gNewA, up2, up1, gx, gk, gl, gi, gr, ga, gb, hq, n1, ht]) (by decide), h.setR (nz_of (k := 8) (by simp [sSetI, sSetR, sSetA, sSetB, sSetQ, sSetL, sSetT, sNew, sNewA, sNewL, sPush, sBump, sBegL, sPutT, sq, sl, sr, gSetI, gSetR, gSetA, gSetB, gNew, gNewA, up2, up1, gx, gk, gl, gi, gr, ga, gb, hq, n1, ht])) rfl⟩) ?_
  refine r_aload_n hK d_Task_init_15 rfl 0 rfl ?_
  refine r_iload_n hK d_Task_init_16 rfl 1 rfl ?_
  refine p_putFI (k := 0) (f := 33) hK d_Task_init_17 k_Task fl_Task_16 rfl rfl (by decide) rfl rfl rfl rfl rfl (fun g h => ⟨h.kd (by simp [sSetI, sSetR, sSetA, sSetB, sSetQ, sSetL, sSetT, sNew, sNewA, sNewL, sPush, sBump, sBegL, sPutT, sq, sl, sr, gSetI, gSetR, gSetA, gSetB, gNew, gNewA, up2, up1, gx, gk, gl, gi, gr, ga, gb, hq, n1, ht]) (by decide), h.setI (nz_of (k := 8) (by simp [sSetI, sSetR, sSetA, sSetB, sSetQ, sSetL, sSetT, sNew, sNewA, sNewL, sPush, sBump, sBegL, sPutT, sq, sl, sr, gSetI, gSetR, gSetA, gSetB, gNew, gNewA, up2, up1, gx, gk, gl, gi, gr, ga, gb, hq, n1, ht])) rfl⟩) ?_
  refine r_aload_n hK d_Task_init_20 rfl 0 rfl ?_
  refine r_aload_n hK d_Task_init_21 rfl 2 rfl ?_
  refine p_putR (k := 3) (f := 36) (v := some p) hK d_Task_init_22 k_Task fd_Task_20_Task (by decide) rfl rfl rfl (fun g h => ⟨h.kd (by simp [sSetI, sSetR, sSetA, sSetB, sSetQ, sSetL, sSetT, sNew, sNewA, sNewL, sPush, sBump, sBegL, sPutT, sq, sl, sr, gSetI, gSetR, gSetA, gSetB, gNew, gNewA, up2, up1, gx, gk, gl, gi, gr, ga, gb, hq, n1, ht]) (by decide), h.setR (nz_of (k := 8) (by simp [sSetI, sSetR, sSetA, sSetB, sSetQ, sSetL, sSetT, sNew, sNewA, sNewL, sPush, sBump, sBegL, sPutT, sq, sl, sr, gSetI, gSetR, gSetA, gSetB, gNew, gNewA, up2, up1, gx, gk, gl, gi, gr, ga, gb, hq, n1, ht])) rfl⟩) ?_
  refine r_vret hK d_Task_init_25 rfl ?_
  exact ⟨rfl, rfl⟩
set_option maxHeartbeats 1000000 in
theorem c_Request_init (X : gCx) (l : Launch) (s : sS) (a o : Nat) (fr n : Int32) (ha : gk s.1 a = 7) : gMv X l (HoldP X (Abs X)) M_Request_init 2 0 0 [.ref a, .int fr, .int n, .ref o] s (sSetR (sSetI (sSetI s 28 a fr) 29 a n) 30 a (some o)) := by
  refine gM_intro (by decide) (Nat.le_of_ble_eq_true rfl) (fun K hK => ?_)
  show K 0 [(0, .ref a), (1, .int fr), (2, .int n), (3, .ref o)] [] s 0 0
  refine r_aload_n hK d_Request_init_0 rfl 0 rfl ?_
  refine r_callIv (As := []) (b := a) (st := []) hK (c_Rec_init X l (HoldP X (Abs X)) s a) d_Request_init_1 ml_Request_1 ci_Rec_init rfl (by decide) (Nat.le_of_ble_eq_true rfl) ?_ rfl
  refine r_aload_n hK d_Request_init_4 rfl 0 rfl ?_
  refine r_iload_n hK d_Request_init_5 rfl 1 rfl ?_
  refine p_putFI (k := 0) (f := 28) hK d_Request_init_6 k_Request fl_Request_7 rfl rfl (by decide) rfl rfl rfl rfl rfl (fun g h => ⟨h.kd ha (by decide), h.setI (nz_of (k := 6) ha) rfl⟩) ?_
  refine r_aload_n hK d_Request_init_9 rfl 0 rfl ?_
  refine r_iload_n hK d_Request_init_10 rfl 2 rfl ?_
  refine p_putFI (k := 1) (f := 29) hK d_Request_init_11 k_Request fl_Request_13 rfl rfl (by decide) rfl rfl rfl rfl rfl (fun g h => ⟨h.kd ha (by decide), h.setI (nz_of (k := 6) ha) rfl⟩) ?_
  refine r_aload_n hK d_Request_init_14 rfl 0 rfl ?_
  refine r_aload_n hK d_Request_init_15 rfl 3 rfl ?_
  refine p_putFR (k := 2) (f := 30) (v := some o) hK d_Request_init_16 k_Request fl_Request_16 rfl rfl (by decide) rfl rfl rfl (fun g h => ⟨h.kd ha (by decide), h.setR (nz_of (k := 6) ha) rfl⟩) ?_
  refine r_vret hK d_Request_init_19 rfl ?_
  exact ⟨rfl, rfl⟩
set_option maxHeartbeats 1000000 in
theorem c_Translation_init (X : gCx) (l : Launch) (s : sS) (a : Nat) (pg f w : Int32) (ha : gk s.1 a = 6) (hw : narrow .boolean (.int w) = .int w) (hw2 : fits .boolean (.int w) = true) : gMv X l (HoldP X (Abs X)) M_Translation_init 1 0 0 [.ref a, .int pg, .int f, .int w] s (sSetI (sSetI (sSetI s 24 a pg) 25 a f) 26 a w) := by
  refine gM_intro (by decide) (Nat.le_of_ble_eq_true rfl) (fun K hK => ?_)
  show K 0 [(0, .ref a), (1, .int pg), (2, .int f), (3, .int w)] [] s 0 0
  refine r_aload_n hK d_Translation_init_0 rfl 0 rfl ?_
  refine r_objInit hK d_Translation_init_1 ml_Translation_1 ow_1 ow_2 (by decide) (by decide) ?_
  refine r_aload_n hK d_Translation_init_4 rfl 0 rfl ?_
  refine r_iload_n hK d_Translation_init_5 rfl 1 rfl ?_
  refine p_putFI (k := 0) (f := 24) hK d_Translation_init_6 k_Translation fl_Translation_7 rfl rfl (by decide) rfl rfl rfl rfl rfl (fun g h => ⟨h.kd ha (by decide), h.setI (nz_of (k := 5) ha) rfl⟩) ?_
  refine r_aload_n hK d_Translation_init_9 rfl 0 rfl ?_
  refine r_iload_n hK d_Translation_init_10 rfl 2 rfl ?_
  refine p_putFI (k := 1) (f := 25) hK d_Translation_init_11 k_Translation fl_Translation_13 rfl rfl (by decide) rfl rfl rfl rfl rfl (fun g h => ⟨h.kd ha (by decide), h.setI (nz_of (k := 5) ha) rfl⟩) ?_
  refine r_aload_n hK d_Translation_init_14 rfl 0 rfl ?_
  refine r_iload_n hK d_Translation_init_15 rfl 3 rfl ?_
  refine p_putFI (k := 2) (f := 26) hK d_Translation_init_16 k_Translation fl_Translation_16 rfl rfl (by decide) rfl rfl rfl (by first | rfl | assumption) (by first | rfl | assumption) (fun g h => ⟨h.kd ha (by decide), h.setI (nz_of (k := 5) ha) rfl⟩) ?_
  refine r_vret hK d_Translation_init_19 rfl ?_
  exact ⟨rfl, rfl⟩
set_option maxHeartbeats 1000000 in
theorem c_Group_init (X : gCx) (l : Launch) (s : sS) (a q q2 : Nat) (ha : gk s.1 a = 8) (hq : gx s.1 = q) (hq2 : q + 1 = q2) (n1 : a ≠ q) (n2 : a ≠ q2) : gMv X l (HoldP X (Abs X)) M_Group_init 1 2 8 [.ref a] s (sSetR (sNewA (sSetR (sSetA (sSetA (sSetA (sSetA (sNewA s 0 4) q 0 (-1)) q 1 (-1)) q 2 (-1)) q 3 (-1)) 31 a (some q)) 1 4) 32 a (some q2)) := by
  refine gM_intro (by decide) (Nat.le_of_ble_eq_true rfl) (fun K hK => ?_)
  show K 0 [(0, .ref a)] [] s 2 8
  refine r_aload_n hK d_Group_init_0 rfl 0 rfl ?_
  refine r_objInit hK d_Group_init_1 ml_Group_3 ow_1 ow_2 (by decide) (by decide) ?_
  refine r_aload_n hK d_Group_init_4 rfl 0 rfl ?_
  refine r_iconst (v := nI 4) hK d_Group_init_5 (by decide) ?_
  refine p_newi (t := 0) (n := 4) (a := q) hK d_Group_init_6 (by decide) rfl aw_int rfl (by decide) (fun g h => h.newA hq) ?_
  refine r_dup hK d_Group_init_8 rfl ?_
  refine r_iconst (v := nI 0) hK d_Group_init_9 (by decide) ?_
  refine r_iconst (v := -1) hK d_Group_init_10 (by decide) ?_
  refine p_iast hK 0 4 d_Group_init_11 rfl (by omega) (fun g h => have e := h.arr (a := q) (t := 0) (L := 4) (j := 0) (by simp [sSetI, sSetR, sSetA, sSetB, sSetQ, sSetL, sSetT, sNew, sNewA, sNewL, sPush, sBump, sBegL, sPutT, sq, sl, sr, gSetI, gSetR, gSetA, gSetB, gNew, gNewA, up2, up1, gx, gk, gl, gi, gr, ga, gb, hq, n1, n2, hq2]) (by simp [sSetI, sSetR, sSetA, sSetB, sSetQ, sSetL, sSetT, sNew, sNewA, sNewL, sPush, sBump, sBegL, sPutT, sq, sl, sr, gSetI, gSetR, gSetA, gSetB, gNew, gNewA, up2, up1, gx, gk, gl, gi, gr, ga, gb, hq, n1, n2, hq2]); ⟨e.1, e.2.1, h.setA⟩) ?_
  refine r_dup hK d_Group_init_12 rfl ?_
  refine r_iconst (v := nI 1) hK d_Group_init_13 (by decide) ?_
  refine r_iconst (v := -1) hK d_Group_init_14 (by decide) ?_
  refine p_iast hK 1 4 d_Group_init_15 rfl (by omega) (fun g h => have e := h.arr (a := q) (t := 0) (L := 4) (j := 0) (by simp [sSetI, sSetR, sSetA, sSetB, sSetQ, sSetL, sSetT, sNew, sNewA, sNewL, sPush, sBump, sBegL, sPutT, sq, sl, sr, gSetI, gSetR, gSetA, gSetB, gNew, gNewA, up2, up1, gx, gk, gl, gi, gr, ga, gb, hq, n1, n2, hq2]) (by simp [sSetI, sSetR, sSetA, sSetB, sSetQ, sSetL, sSetT, sNew, sNewA, sNewL, sPush, sBump, sBegL, sPutT, sq, sl, sr, gSetI, gSetR, gSetA, gSetB, gNew, gNewA, up2, up1, gx, gk, gl, gi, gr, ga, gb, hq, n1, n2, hq2]); ⟨e.1, e.2.1, h.setA⟩) ?_
  refine r_dup hK d_Group_init_16 rfl ?_
  refine r_iconst (v := nI 2) hK d_Group_init_17 (by decide) ?_
  refine r_iconst (v := -1) hK d_Group_init_18 (by decide) ?_
  refine p_iast hK 2 4 d_Group_init_19 rfl (by omega) (fun g h => have e := h.arr (a := q) (t := 0) (L := 4) (j := 0) (by simp [sSetI, sSetR, sSetA, sSetB, sSetQ, sSetL, sSetT, sNew, sNewA, sNewL, sPush, sBump, sBegL, sPutT, sq, sl, sr, gSetI, gSetR, gSetA, gSetB, gNew, gNewA, up2, up1, gx, gk, gl, gi, gr, ga, gb, hq, n1, n2, hq2]) (by simp [sSetI, sSetR, sSetA, sSetB, sSetQ, sSetL, sSetT, sNew, sNewA, sNewL, sPush, sBump, sBegL, sPutT, sq, sl, sr, gSetI, gSetR, gSetA, gSetB, gNew, gNewA, up2, up1, gx, gk, gl, gi, gr, ga, gb, hq, n1, n2, hq2]); ⟨e.1, e.2.1, h.setA⟩) ?_
  refine r_dup hK d_Group_init_20 rfl ?_
  refine r_iconst (v := nI 3) hK d_Group_init_21 (by decide) ?_
  refine r_iconst (v := -1) hK d_Group_init_22 (by decide) ?_
  refine p_iast hK 3 4 d_Group_init_23 rfl (by omega) (fun g h => have e := h.arr (a := q) (t := 0) (L := 4) (j := 0) (by simp [sSetI, sSetR, sSetA, sSetB, sSetQ, sSetL, sSetT, sNew, sNewA, sNewL, sPush, sBump, sBegL, sPutT, sq, sl, sr, gSetI, gSetR, gSetA, gSetB, gNew, gNewA, up2, up1, gx, gk, gl, gi, gr, ga, gb, hq, n1, n2, hq2]) (by simp [sSetI, sSetR, sSetA, sSetB, sSetQ, sSetL, sSetT, sNew, sNewA, sNewL, sPush, sBump, sBegL, sPutT, sq, sl, sr, gSetI, gSetR, gSetA, gSetB, gNew, gNewA, up2, up1, gx, gk, gl, gi, gr, ga, gb, hq, n1, n2, hq2]); ⟨e.1, e.2.1, h.setA⟩) ?_
  refine p_putFR (k := 0) (f := 31) (v := some q) hK d_Group_init_24 k_Group fl_Group_9 rfl rfl (by decide) rfl rfl rfl (fun g h => ⟨h.kd (by simp [sSetI, sSetR, sSetA, sSetB, sSetQ, sSetL, sSetT, sNew, sNewA, sNewL, sPush, sBump, sBegL, sPutT, sq, sl, sr, gSetI, gSetR, gSetA, gSetB, gNew, gNewA, up2, up1, gx, gk, gl, gi, gr, ga, gb, hq, n1, n2, hq2, ha]) (by decide), h.setR (nz_of (k := 7) (by simp [sSetI, sSetR, sSetA, sSetB, sSetQ, sSetL, sSetT, sNew, sNewA, sNewL, sPush, sBump, sBegL, sPutT, sq, sl, sr, gSetI, gSetR, gSetA, gSetB, gNew, gNewA, up2, up1, gx, gk, gl, gi, gr, ga, gb, hq, n1, n2, hq2, ha])) rfl⟩) ?_
  refine r_aload_n hK d_Group_init_27 rfl 0 rfl ?_
  refine r_iconst (v := nI 4) hK d_Group_init_28 (by decide) ?_
  refine p_newi (t := 1) (n := 4) (a := q2) hK d_Group_init_29 (by decide) rfl aw_boolean rfl (by decide) (fun g h => h.newA (by simp [sSetI, sSetR, sSetA, sSetB, sSetQ, sSetL, sSetT, sNew, sNewA, sNewL, sPush, sBump, sBegL, sPutT, sq, sl, sr, gSetI, gSetR, gSetA, gSetB, gNew, gNewA, up2, up1, gx, gk, gl, gi, gr, ga, gb, hq, n1, n2, hq2, hq])) ?_
  refine p_putFR (k := 1) (f := 32) (v := some q2) hK d_Group_init_31 k_Group fl_Group_15 rfl rfl (by decide) rfl rfl rfl (fun g h => ⟨h.kd (by simp [sSetI, sSetR, sSetA, sSetB, sSetQ, sSetL, sSetT, sNew, sNewA, sNewL, sPush, sBump, sBegL, sPutT, sq, sl, sr, gSetI, gSetR, gSetA, gSetB, gNew, gNewA, up2, up1, gx, gk, gl, gi, gr, ga, gb, hq, n1, n2, hq2, ha]) (by decide), h.setR (nz_of (k := 7) (by simp [sSetI, sSetR, sSetA, sSetB, sSetQ, sSetL, sSetT, sNew, sNewA, sNewL, sPush, sBump, sBegL, sPutT, sq, sl, sr, gSetI, gSetR, gSetA, gSetB, gNew, gNewA, up2, up1, gx, gk, gl, gi, gr, ga, gb, hq, n1, n2, hq2, ha])) rfl⟩) ?_
  refine r_vret hK d_Group_init_34 rfl ?_
  exact ⟨rfl, rfl⟩
set_option maxHeartbeats 1000000 in
theorem c_Request_from (X : gCx) (l : Launch) (s : sS) (a : Nat) (v : Int32) (ha : gk s.1 a = 7) (hv : gi s.1 28 a = v) : gMi X l (HoldP X (Abs X)) M_Request_from 0 0 0 [.ref a] s v s := by
  refine gM_intro (by decide) (Nat.le_of_ble_eq_true rfl) (fun K hK => ?_)
  show K 0 [(0, .ref a)] [] s 0 0
  refine r_aload_n hK d_Request_from_0 rfl 0 rfl ?_
  refine p_getI (f := 28) (v := v) hK d_Request_from_1 k_Request fd_Request_7_Request (by decide) rfl rfl (fun g h => h.getI ha (by decide) rfl hv) ?_
  refine r_iret hK d_Request_from_4 rfl (rfl) ?_
  exact ⟨rfl, rfl⟩
set_option maxHeartbeats 1000000 in
theorem c_Request_n (X : gCx) (l : Launch) (s : sS) (a : Nat) (v : Int32) (ha : gk s.1 a = 7) (hv : gi s.1 29 a = v) : gMi X l (HoldP X (Abs X)) M_Request_n 0 0 0 [.ref a] s v s := by
  refine gM_intro (by decide) (Nat.le_of_ble_eq_true rfl) (fun K hK => ?_)
  show K 0 [(0, .ref a)] [] s 0 0
  refine r_aload_n hK d_Request_n_0 rfl 0 rfl ?_
  refine p_getI (f := 29) (v := v) hK d_Request_n_1 k_Request fd_Request_13_Request (by decide) rfl rfl (fun g h => h.getI ha (by decide) rfl hv) ?_
  refine r_iret hK d_Request_n_4 rfl (rfl) ?_
  exact ⟨rfl, rfl⟩
set_option maxHeartbeats 1000000 in
theorem c_Request_sender (X : gCx) (l : Launch) (s : sS) (a o : Nat) (ha : gk s.1 a = 7) (hv : gr s.1 30 a = some o) : gMr X l (HoldP X (Abs X)) M_Request_sender 0 0 0 [.ref a] s (some o) s := by
  refine gM_intro (by decide) (Nat.le_of_ble_eq_true rfl) (fun K hK => ?_)
  show K 0 [(0, .ref a)] [] s 0 0
  refine r_aload_n hK d_Request_sender_0 rfl 0 rfl ?_
  refine p_getR (f := 30) (v := some o) hK d_Request_sender_1 k_Request fd_Request_16_Request (by decide) rfl rfl (fun g h => h.getR ha (by decide) rfl hv) ?_
  refine r_aret (v := some o) hK d_Request_sender_4 rfl (Or.inl ⟨_, rfl⟩) ?_
  exact ⟨rfl, rfl⟩
set_option maxHeartbeats 1000000 in
theorem c_Translation_shown_0 (X : gCx) (l : Launch) (s : sS) (a f : Nat) (ha : gk s.1 a = 6) (hf : gi s.1 25 a = nI f) (hw : gi s.1 26 a = nI 0) : gMi X l (HoldP X (Abs X)) M_Translation_shown 0 0 0 [.ref a] s (nI (2 * f + 0)) s := by
  refine gM_intro (by decide) (Nat.le_of_ble_eq_true rfl) (fun K hK => ?_)
  show K 0 [(0, .ref a)] [] s 0 0
  refine r_iconst (v := nI 2) hK d_Translation_shown_0 (by decide) ?_
  refine r_aload_n hK d_Translation_shown_1 rfl 0 rfl ?_
  refine p_getI (f := 25) (v := nI f) hK d_Translation_shown_2 k_Translation fd_Translation_13_Translation (by decide) rfl rfl (fun g h => h.getI ha (by decide) rfl hf) ?_
  refine r_imul hK d_Translation_shown_5 ?_
  refine r_tp (b := nI (2 * f)) (pk_mul _ _) ?_
  refine r_aload_n hK d_Translation_shown_6 rfl 0 rfl ?_
  refine p_getI (f := 26) (v := nI 0) hK d_Translation_shown_7 k_Translation fd_Translation_16_Translation (by decide) rfl rfl (fun g h => h.getI ha (by decide) rfl hw) ?_
  refine r_nif_eq (a := 0) (tgt := 17) hK d_Translation_shown_10 (by decide) (by decide) (fun _ => ?_) (fun z => absurd z (by decide))
  refine r_iconst (v := nI 0) hK d_Translation_shown_17 (by decide) ?_
  refine r_iadd hK d_Translation_shown_18 ?_
  refine r_tp (b := nI (2 * f + 0)) (nI_add _ _) ?_
  refine r_iret hK d_Translation_shown_19 rfl (rfl) ?_
  exact ⟨rfl, rfl⟩
set_option maxHeartbeats 1000000 in
theorem c_Translation_shown_1 (X : gCx) (l : Launch) (s : sS) (a f : Nat) (ha : gk s.1 a = 6) (hf : gi s.1 25 a = nI f) (hw : gi s.1 26 a = nI 1) : gMi X l (HoldP X (Abs X)) M_Translation_shown 0 0 0 [.ref a] s (nI (2 * f + 1)) s := by
  refine gM_intro (by decide) (Nat.le_of_ble_eq_true rfl) (fun K hK => ?_)
  show K 0 [(0, .ref a)] [] s 0 0
  refine r_iconst (v := nI 2) hK d_Translation_shown_0 (by decide) ?_
  refine r_aload_n hK d_Translation_shown_1 rfl 0 rfl ?_
  refine p_getI (f := 25) (v := nI f) hK d_Translation_shown_2 k_Translation fd_Translation_13_Translation (by decide) rfl rfl (fun g h => h.getI ha (by decide) rfl hf) ?_
  refine r_imul hK d_Translation_shown_5 ?_
  refine r_tp (b := nI (2 * f)) (pk_mul _ _) ?_
  refine r_aload_n hK d_Translation_shown_6 rfl 0 rfl ?_
  refine p_getI (f := 26) (v := nI 1) hK d_Translation_shown_7 k_Translation fd_Translation_16_Translation (by decide) rfl rfl (fun g h => h.getI ha (by decide) rfl hw) ?_
  refine r_nif_eq (a := 1) (tgt := 17) hK d_Translation_shown_10 (by decide) (by decide) (fun z => absurd z (by decide)) (fun _ => ?_)
  refine r_iconst (v := nI 1) hK d_Translation_shown_13 (by decide) ?_
  refine r_goto (tgt := 18) hK d_Translation_shown_14 (by decide) ?_
  refine r_iadd hK d_Translation_shown_18 ?_
  refine r_tp (b := nI (2 * f + 1)) (nI_add _ _) ?_
  refine r_iret hK d_Translation_shown_19 rfl (rfl) ?_
  exact ⟨rfl, rfl⟩
