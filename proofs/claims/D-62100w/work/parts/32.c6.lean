set_option maxHeartbeats 1000000 in
theorem c_Access_look_0 (X : gCx) (l : Launch) (s : sS) (o m : Nat) (ho : gk s.1 o = 10) : gMi X l (HoldP X (Abs X)) M_Access_look 1 0 0 [.ref o, .ref m, .null] s (nI 0) (sSetR s 39 o (some (cxE X 1))) := by
  refine gM_intro (by decide) (Nat.le_of_ble_eq_true rfl) (fun K hK => ?_)
  show K 0 [(0, .ref o), (1, .ref m), (2, .null)] [] s 0 0
  refine r_aload_nN hK d_Access_look_0 rfl 2 rfl ?_
  refine r_ifnonnull (v := none) (tgt := 12) hK d_Access_look_1 (by decide) (fun _ z => absurd z (by simp)) (fun _ => ?_)
  refine r_aload_n hK d_Access_look_4 rfl 0 rfl ?_
  refine p_phase (e0 := 1) hK d_Access_look_5 rfl fs_Access_62 ?_
  refine r_callUi (As := [.ref (cxE X 1)]) (b := o) (st := []) hK (c_Order_go_Access X l s o (cxE X 1) ho) d_Access_look_8 ml_Access_54 cu_Access_Access_Order_go rfl (by decide) (p_recv k_Access (fun g h => h.kd ho (by decide))) (Nat.le_of_ble_eq_true rfl) ?_ rfl
  refine r_iret hK d_Access_look_11 rfl (rfl) ?_
  exact ⟨rfl, rfl⟩
set_option maxHeartbeats 1000000 in
theorem c_Access_look_1 (X : gCx) (l : Launch) (s : sS) (o m wd t f : Nat) (ho : gk s.1 o = 10) (hm : gk s.1 m = 2) (hmw : gr s.1 8 m = some wd) (hwd : gk s.1 wd = 100) (hwdl : gl s.1 wd = 10) (ht : gk s.1 t = 6) (hf : gi s.1 25 t = nI f) (hf10 : f < 10) (hv : gi s.1 38 o = -1) : gMi X l (HoldP X (Abs X)) M_Access_look 1 0 0 [.ref o, .ref m, .ref t] s (nI 1) (sSetI s 40 o (ga s.1 wd f)) := by
  refine gM_intro (by decide) (Nat.le_of_ble_eq_true rfl) (fun K hK => ?_)
  show K 0 [(0, .ref o), (1, .ref m), (2, .ref t)] [] s 0 0
  refine r_aload_n hK d_Access_look_0 rfl 2 rfl ?_
  refine r_ifnonnull (v := some t) (tgt := 12) hK d_Access_look_1 (by decide) (fun _ _ => ?_) (fun z => absurd z (by simp))
  refine r_aload_n hK d_Access_look_12 rfl 1 rfl ?_
  refine p_getR (f := 8) (v := some wd) hK d_Access_look_13 k_Machine fd_Access_65_Machine (by decide) rfl rfl (fun g h => h.getR hm (by decide) rfl hmw) ?_
  refine r_aload_n hK d_Access_look_16 rfl 2 rfl ?_
  refine p_getI (f := 25) (v := nI f) hK d_Access_look_17 k_Translation fd_Access_69_Translation (by decide) rfl rfl (fun g h => h.getI ht (by decide) rfl hf) ?_
  refine p_iald (v := ga s.1 wd f) hK f 10 d_Access_look_20 rfl (by omega) (fun g h => have e := h.arr (a := wd) (t := 0) (L := 10) (j := f) hwd hwdl; ⟨e.1, e.2.1, e.2.2.1.trans rfl⟩) ?_
  refine r_istore_n (lv' := [(3, .int (ga s.1 wd f)), (0, .ref o), (1, .ref m), (2, .ref t)]) hK d_Access_look_21 rfl (by decide) rfl ?_
  refine r_aload_n hK d_Access_look_22 rfl 1 rfl ?_
  refine p_getI (f := 38) (v := -1) hK d_Access_look_23 k_Access fd_Access_21_Access (by decide) rfl rfl (fun g h => h.getI ho (by decide) rfl hv) ?_
  refine r_iconst (v := -1) hK d_Access_look_26 (by decide) ?_
  refine r_icmp_ne (tgt := 36) hK d_Access_look_27 (by decide) (fun z => False.elim (z rfl)) (fun c27 => ?_)
  refine r_aload_n hK d_Access_look_30 rfl 1 rfl ?_
  refine r_iload_n hK d_Access_look_31 rfl 0 rfl ?_
  refine r_callUi (As := [.int (ga s.1 wd f)]) (b := o) (st := []) hK (c_Order_finish_Access X l s o (ga s.1 wd f) ho) d_Access_look_32 ml_Access_47 cu_Access_Access_Order_finish rfl (by decide) (p_recv k_Access (fun g h => h.kd ho (by decide))) (Nat.le_of_ble_eq_true rfl) ?_ rfl
  refine r_iret hK d_Access_look_35 rfl (rfl) ?_
  exact ⟨rfl, rfl⟩
set_option maxHeartbeats 1000000 in
theorem c_Access_look_2 (X : gCx) (l : Launch) (s : sS) (o m wd t f : Nat) (ho : gk s.1 o = 10) (hm : gk s.1 m = 2) (hmw : gr s.1 8 m = some wd) (hwd : gk s.1 wd = 100) (hwdl : gl s.1 wd = 10) (ht : gk s.1 t = 6) (hf : gi s.1 25 t = nI f) (hf10 : f < 10) (v : Nat) (hvb : v < 2 ^ 31) (hv : gi s.1 38 o = nI v) (hw : gi s.1 26 t = nI 0) : gMi X l (HoldP X (Abs X)) M_Access_look 1 0 0 [.ref o, .ref m, .ref t] s (nI 1) (sSetI s 40 o (-2)) := by
  refine gM_intro (by decide) (Nat.le_of_ble_eq_true rfl) (fun K hK => ?_)
  show K 0 [(0, .ref o), (1, .ref m), (2, .ref t)] [] s 0 0
  refine r_aload_n hK d_Access_look_0 rfl 2 rfl ?_
  refine r_ifnonnull (v := some t) (tgt := 12) hK d_Access_look_1 (by decide) (fun _ _ => ?_) (fun z => absurd z (by simp))
  refine r_aload_n hK d_Access_look_12 rfl 1 rfl ?_
  refine p_getR (f := 8) (v := some wd) hK d_Access_look_13 k_Machine fd_Access_65_Machine (by decide) rfl rfl (fun g h => h.getR hm (by decide) rfl hmw) ?_
  refine r_aload_n hK d_Access_look_16 rfl 2 rfl ?_
  refine p_getI (f := 25) (v := nI f) hK d_Access_look_17 k_Translation fd_Access_69_Translation (by decide) rfl rfl (fun g h => h.getI ht (by decide) rfl hf) ?_
  refine p_iald (v := ga s.1 wd f) hK f 10 d_Access_look_20 rfl (by omega) (fun g h => have e := h.arr (a := wd) (t := 0) (L := 10) (j := f) hwd hwdl; ⟨e.1, e.2.1, e.2.2.1.trans rfl⟩) ?_
  refine r_istore_n (lv' := [(3, .int (ga s.1 wd f)), (0, .ref o), (1, .ref m), (2, .ref t)]) hK d_Access_look_21 rfl (by decide) rfl ?_
  refine r_aload_n hK d_Access_look_22 rfl 1 rfl ?_
  refine p_getI (f := 38) (v := nI v) hK d_Access_look_23 k_Access fd_Access_21_Access (by decide) rfl rfl (fun g h => h.getI ho (by decide) rfl hv) ?_
  refine r_iconst (v := -1) hK d_Access_look_26 (by decide) ?_
  refine r_icmp_ne (tgt := 36) hK d_Access_look_27 (by decide) (fun c27 => ?_) (fun z => False.elim (nI_nm1 hvb z))
  refine r_aload_n hK d_Access_look_36 rfl 3 rfl ?_
  refine p_getI (f := 26) (v := nI 0) hK d_Access_look_37 k_Translation fd_Access_74_Translation (by decide) rfl rfl (fun g h => h.getI ht (by decide) rfl hw) ?_
  refine r_nif_ne (a := 0) (tgt := 50) hK d_Access_look_40 (by decide) (by decide) (fun z => absurd z (by decide)) (fun _ => ?_)
  refine r_aload_n hK d_Access_look_43 rfl 1 rfl ?_
  refine r_bipush (v := -2) hK d_Access_look_44 (by decide) ?_
  refine r_callUi (As := [.int (-2)]) (b := o) (st := []) hK (c_Order_finish_Access X l s o (-2) ho) d_Access_look_46 ml_Access_47 cu_Access_Access_Order_finish rfl (by decide) (p_recv k_Access (fun g h => h.kd ho (by decide))) (Nat.le_of_ble_eq_true rfl) ?_ rfl
  refine r_iret hK d_Access_look_49 rfl (rfl) ?_
  exact ⟨rfl, rfl⟩
set_option maxHeartbeats 1000000 in
theorem c_Access_look_3 (X : gCx) (l : Launch) (s : sS) (o m wd t f : Nat) (ho : gk s.1 o = 10) (hm : gk s.1 m = 2) (hmw : gr s.1 8 m = some wd) (hwd : gk s.1 wd = 100) (hwdl : gl s.1 wd = 10) (ht : gk s.1 t = 6) (hf : gi s.1 25 t = nI f) (hf10 : f < 10) (v : Nat) (hvb : v < 2 ^ 31) (hv : gi s.1 38 o = nI v) (hw : gi s.1 26 t = nI 1) : gMi X l (HoldP X (Abs X)) M_Access_look 1 0 0 [.ref o, .ref m, .ref t] s (nI 1) (sSetI (sSetA s wd f (nI v)) 40 o (ga s.1 wd f)) := by
  refine gM_intro (by decide) (Nat.le_of_ble_eq_true rfl) (fun K hK => ?_)
  show K 0 [(0, .ref o), (1, .ref m), (2, .ref t)] [] s 0 0
  refine r_aload_n hK d_Access_look_0 rfl 2 rfl ?_
  refine r_ifnonnull (v := some t) (tgt := 12) hK d_Access_look_1 (by decide) (fun _ _ => ?_) (fun z => absurd z (by simp))
  refine r_aload_n hK d_Access_look_12 rfl 1 rfl ?_
  refine p_getR (f := 8) (v := some wd) hK d_Access_look_13 k_Machine fd_Access_65_Machine (by decide) rfl rfl (fun g h => h.getR hm (by decide) rfl hmw) ?_
  refine r_aload_n hK d_Access_look_16 rfl 2 rfl ?_
  refine p_getI (f := 25) (v := nI f) hK d_Access_look_17 k_Translation fd_Access_69_Translation (by decide) rfl rfl (fun g h => h.getI ht (by decide) rfl hf) ?_
  refine p_iald (v := ga s.1 wd f) hK f 10 d_Access_look_20 rfl (by omega) (fun g h => have e := h.arr (a := wd) (t := 0) (L := 10) (j := f) hwd hwdl; ⟨e.1, e.2.1, e.2.2.1.trans rfl⟩) ?_
  refine r_istore_n (lv' := [(3, .int (ga s.1 wd f)), (0, .ref o), (1, .ref m), (2, .ref t)]) hK d_Access_look_21 rfl (by decide) rfl ?_
  refine r_aload_n hK d_Access_look_22 rfl 1 rfl ?_
  refine p_getI (f := 38) (v := nI v) hK d_Access_look_23 k_Access fd_Access_21_Access (by decide) rfl rfl (fun g h => h.getI ho (by decide) rfl hv) ?_
  refine r_iconst (v := -1) hK d_Access_look_26 (by decide) ?_
  refine r_icmp_ne (tgt := 36) hK d_Access_look_27 (by decide) (fun c27 => ?_) (fun z => False.elim (nI_nm1 hvb z))
  refine r_aload_n hK d_Access_look_36 rfl 3 rfl ?_
  refine p_getI (f := 26) (v := nI 1) hK d_Access_look_37 k_Translation fd_Access_74_Translation (by decide) rfl rfl (fun g h => h.getI ht (by decide) rfl hw) ?_
  refine r_nif_ne (a := 1) (tgt := 50) hK d_Access_look_40 (by decide) (by decide) (fun _ => ?_) (fun z => absurd z (by decide))
  refine r_aload_n hK d_Access_look_50 rfl 2 rfl ?_
  refine p_getR (f := 8) (v := some wd) hK d_Access_look_51 k_Machine fd_Access_65_Machine (by decide) rfl rfl (fun g h => h.getR hm (by decide) rfl hmw) ?_
  refine r_aload_n hK d_Access_look_54 rfl 3 rfl ?_
  refine p_getI (f := 25) (v := nI f) hK d_Access_look_55 k_Translation fd_Access_69_Translation (by decide) rfl rfl (fun g h => h.getI ht (by decide) rfl hf) ?_
  refine r_aload_n hK d_Access_look_58 rfl 1 rfl ?_
  refine p_getI (f := 38) (v := nI v) hK d_Access_look_59 k_Access fd_Access_21_Access (by decide) rfl rfl (fun g h => h.getI ho (by decide) rfl hv) ?_
  refine p_iast hK f 10 d_Access_look_62 rfl (by omega) (fun g h => have e := h.arr (a := wd) (t := 0) (L := 10) (j := 0) hwd hwdl; ⟨e.1, e.2.1, h.setA⟩) ?_
  refine r_aload_n hK d_Access_look_63 rfl 1 rfl ?_
  refine r_iload_n hK d_Access_look_64 rfl 0 rfl ?_
  refine r_callUi (As := [.int (ga s.1 wd f)]) (b := o) (st := []) hK (c_Order_finish_Access X l (sSetA s wd f (nI v)) o (ga s.1 wd f) ho) d_Access_look_65 ml_Access_47 cu_Access_Access_Order_finish rfl (by decide) (p_recv k_Access (fun g h => h.kd ho (by decide))) (Nat.le_of_ble_eq_true rfl) ?_ rfl
  refine r_iret hK d_Access_look_68 rfl (rfl) ?_
  exact ⟨rfl, rfl⟩
set_option maxHeartbeats 1000000 in
theorem c_Access_leaf_0 (X : gCx) (l : Launch) (s : sS) (o m p pg : Nat) (ho : gk s.1 o = 10) (hm : gk s.1 m = 2) (hp : gk s.1 p = 3) (hpg : gi s.1 37 o = nI pg) (w : Int32) (hfr : gMi X l (HoldP X (Abs X)) M_Machine_frame 0 0 0 [.ref m, .int (nI pg)] s (-1) s) (hwr : gMi X l (HoldP X (Abs X)) M_Machine_writable 0 0 0 [.ref m, .int (nI pg)] s w s)  : gMi X l (HoldP X (Abs X)) M_Access_leaf 3 1 4 [.ref o, .ref m, .ref p] s (nI 1) (sSetI s 40 o (-2)) := by
  refine gM_intro (by decide) (Nat.le_of_ble_eq_true rfl) (fun K hK => ?_)
  show K 0 [(0, .ref o), (1, .ref m), (2, .ref p)] [] s 1 4
  refine r_aload_n hK d_Access_leaf_0 rfl 1 rfl ?_
  refine r_aload_n hK d_Access_leaf_1 rfl 0 rfl ?_
  refine p_getI (f := 37) (v := nI pg) hK d_Access_leaf_2 k_Access fd_Access_15_Access (by decide) rfl rfl (fun g h => h.getI ho (by decide) rfl hpg) ?_
  refine r_callVi (As := [.int (nI pg)]) (b := m) (st := []) hK (hfr) d_Access_leaf_5 ml_Access_78 cv_Machine_frame rfl (by decide) (p_recv k_Machine (fun g h => h.kd hm (by decide))) (Nat.le_of_ble_eq_true rfl) ?_ rfl
  refine r_istore_n (lv' := [(3, .int (-1)), (0, .ref o), (1, .ref m), (2, .ref p)]) hK d_Access_leaf_8 rfl (by decide) rfl ?_
  refine r_aload_n hK d_Access_leaf_9 rfl 2 rfl ?_
  refine r_aload_n hK d_Access_leaf_10 rfl 1 rfl ?_
  refine p_getI (f := 37) (v := nI pg) hK d_Access_leaf_11 k_Access fd_Access_15_Access (by decide) rfl rfl (fun g h => h.getI ho (by decide) rfl hpg) ?_
  refine r_callVi (As := [.int (nI pg)]) (b := m) (st := []) hK (hwr) d_Access_leaf_14 ml_Access_81 cv_Machine_writable rfl (by decide) (p_recv k_Machine (fun g h => h.kd hm (by decide))) (Nat.le_of_ble_eq_true rfl) ?_ rfl
  refine r_istore (lv' := [(4, .int w), (3, .int (-1)), (0, .ref o), (1, .ref m), (2, .ref p)]) hK d_Access_leaf_17 (by decide) rfl ?_
  refine r_iload_n hK d_Access_leaf_19 rfl 1 rfl ?_
  refine r_iconst (v := -1) hK d_Access_leaf_20 (by decide) ?_
  refine r_icmp_eq (tgt := 37) hK d_Access_leaf_21 (by decide) (fun c21 => ?_) (fun z => False.elim (z rfl))
  refine r_aload_n hK d_Access_leaf_37 rfl 2 rfl ?_
  refine r_bipush (v := -2) hK d_Access_leaf_38 (by decide) ?_
  refine r_callUi (As := [.int (-2)]) (b := o) (st := []) hK (c_Order_finish_Access X l s o (-2) ho) d_Access_leaf_40 ml_Access_47 cu_Access_Access_Order_finish rfl (by decide) (p_recv k_Access (fun g h => h.kd ho (by decide))) (Nat.le_of_ble_eq_true rfl) ?_ rfl
  refine r_iret hK d_Access_leaf_43 rfl (rfl) ?_
  exact ⟨rfl, rfl⟩
set_option maxHeartbeats 1000000 in
theorem c_Access_leaf_1 (X : gCx) (l : Launch) (s : sS) (o m p pg : Nat) (ho : gk s.1 o = 10) (hm : gk s.1 m = 2) (hp : gk s.1 p = 3) (hpg : gi s.1 37 o = nI pg) (f v : Nat) (hf : f < 100) (hvb : v < 2 ^ 31) (hv : gi s.1 38 o = nI v) (hfr : gMi X l (HoldP X (Abs X)) M_Machine_frame 0 0 0 [.ref m, .int (nI pg)] s (nI f) s) (hwr : gMi X l (HoldP X (Abs X)) M_Machine_writable 0 0 0 [.ref m, .int (nI pg)] s (nI 0) s)  : gMi X l (HoldP X (Abs X)) M_Access_leaf 3 1 4 [.ref o, .ref m, .ref p] s (nI 1) (sSetI s 40 o (-2)) := by
  refine gM_intro (by decide) (Nat.le_of_ble_eq_true rfl) (fun K hK => ?_)
  show K 0 [(0, .ref o), (1, .ref m), (2, .ref p)] [] s 1 4
  refine r_aload_n hK d_Access_leaf_0 rfl 1 rfl ?_
  refine r_aload_n hK d_Access_leaf_1 rfl 0 rfl ?_
  refine p_getI (f := 37) (v := nI pg) hK d_Access_leaf_2 k_Access fd_Access_15_Access (by decide) rfl rfl (fun g h => h.getI ho (by decide) rfl hpg) ?_
  refine r_callVi (As := [.int (nI pg)]) (b := m) (st := []) hK (hfr) d_Access_leaf_5 ml_Access_78 cv_Machine_frame rfl (by decide) (p_recv k_Machine (fun g h => h.kd hm (by decide))) (Nat.le_of_ble_eq_true rfl) ?_ rfl
  refine r_istore_n (lv' := [(3, .int (nI f)), (0, .ref o), (1, .ref m), (2, .ref p)]) hK d_Access_leaf_8 rfl (by decide) rfl ?_
  refine r_aload_n hK d_Access_leaf_9 rfl 2 rfl ?_
  refine r_aload_n hK d_Access_leaf_10 rfl 1 rfl ?_
  refine p_getI (f := 37) (v := nI pg) hK d_Access_leaf_11 k_Access fd_Access_15_Access (by decide) rfl rfl (fun g h => h.getI ho (by decide) rfl hpg) ?_
  refine r_callVi (As := [.int (nI pg)]) (b := m) (st := []) hK (hwr) d_Access_leaf_14 ml_Access_81 cv_Machine_writable rfl (by decide) (p_recv k_Machine (fun g h => h.kd hm (by decide))) (Nat.le_of_ble_eq_true rfl) ?_ rfl
  refine r_istore (lv' := [(4, .int (nI 0)), (3, .int (nI f)), (0, .ref o), (1, .ref m), (2, .ref p)]) hK d_Access_leaf_17 (by decide) rfl ?_
  refine r_iload_n hK d_Access_leaf_19 rfl 1 rfl ?_
  refine r_iconst (v := -1) hK d_Access_leaf_20 (by decide) ?_
  refine r_icmp_eq (tgt := 37) hK d_Access_leaf_21 (by decide) (fun z => False.elim (nI_nm1 (by omega) z)) (fun c21 => ?_)
  refine r_aload_n hK d_Access_leaf_24 rfl 2 rfl ?_
  refine p_getI (f := 38) (v := nI v) hK d_Access_leaf_25 k_Access fd_Access_21_Access (by decide) rfl rfl (fun g h => h.getI ho (by decide) rfl hv) ?_
  refine r_iconst (v := -1) hK d_Access_leaf_28 (by decide) ?_
  refine r_icmp_eq (tgt := 44) hK d_Access_leaf_29 (by decide) (fun z => False.elim (nI_nm1 hvb z)) (fun c29 => ?_)
  refine r_iload hK d_Access_leaf_32 0 rfl ?_
  refine r_nif_ne (a := 0) (tgt := 44) hK d_Access_leaf_34 (by decide) (by decide) (fun z => absurd z (by decide)) (fun _ => ?_)
  refine r_aload_n hK d_Access_leaf_37 rfl 2 rfl ?_
  refine r_bipush (v := -2) hK d_Access_leaf_38 (by decide) ?_
  refine r_callUi (As := [.int (-2)]) (b := o) (st := []) hK (c_Order_finish_Access X l s o (-2) ho) d_Access_leaf_40 ml_Access_47 cu_Access_Access_Order_finish rfl (by decide) (p_recv k_Access (fun g h => h.kd ho (by decide))) (Nat.le_of_ble_eq_true rfl) ?_ rfl
  refine r_iret hK d_Access_leaf_43 rfl (rfl) ?_
  exact ⟨rfl, rfl⟩
set_option maxHeartbeats 1000000 in
theorem c_Access_leaf_2 (X : gCx) (l : Launch) (s : sS) (o m p pg : Nat) (ho : gk s.1 o = 10) (hm : gk s.1 m = 2) (hp : gk s.1 p = 3) (hpg : gi s.1 37 o = nI pg) (q : Nat) (hq : gx s.1 = q) (n1 : p ≠ q) (n2 : o ≠ q) (f : Nat) (w : Int32) (hf : f < 100) (hv : gi s.1 38 o = -1) (hw : narrow .boolean (.int w) = .int w) (hw2 : fits .boolean (.int w) = true) (hfr : gMi X l (HoldP X (Abs X)) M_Machine_frame 0 0 0 [.ref m, .int (nI pg)] s (nI f) s) (hwr : gMi X l (HoldP X (Abs X)) M_Machine_writable 0 0 0 [.ref m, .int (nI pg)] s w s)  : gMi X l (HoldP X (Abs X)) M_Access_leaf 3 1 4 [.ref o, .ref m, .ref p] s (nI 0) (sSetR (sPutT (sSetI (sSetI (sSetI (sNew s 5) 24 q (nI pg)) 25 q (nI f)) 26 q w) p q ((if (sr s p).length = 3 then (sr s p).tail else sr s p) ++ [q])) 39 o (some (cxE X 0))) := by
  refine gM_intro (by decide) (Nat.le_of_ble_eq_true rfl) (fun K hK => ?_)
  show K 0 [(0, .ref o), (1, .ref m), (2, .ref p)] [] s 1 4
  refine r_aload_n hK d_Access_leaf_0 rfl 1 rfl ?_
  refine r_aload_n hK d_Access_leaf_1 rfl 0 rfl ?_
  refine p_getI (f := 37) (v := nI pg) hK d_Access_leaf_2 k_Access fd_Access_15_Access (by decide) rfl rfl (fun g h => h.getI ho (by decide) rfl hpg) ?_
  refine r_callVi (As := [.int (nI pg)]) (b := m) (st := []) hK (hfr) d_Access_leaf_5 ml_Access_78 cv_Machine_frame rfl (by decide) (p_recv k_Machine (fun g h => h.kd hm (by decide))) (Nat.le_of_ble_eq_true rfl) ?_ rfl
  refine r_istore_n (lv' := [(3, .int (nI f)), (0, .ref o), (1, .ref m), (2, .ref p)]) hK d_Access_leaf_8 rfl (by decide) rfl ?_
  refine r_aload_n hK d_Access_leaf_9 rfl 2 rfl ?_
  refine r_aload_n hK d_Access_leaf_10 rfl 1 rfl ?_
  refine p_getI (f := 37) (v := nI pg) hK d_Access_leaf_11 k_Access fd_Access_15_Access (by decide) rfl rfl (fun g h => h.getI ho (by decide) rfl hpg) ?_
  refine r_callVi (As := [.int (nI pg)]) (b := m) (st := []) hK (hwr) d_Access_leaf_14 ml_Access_81 cv_Machine_writable rfl (by decide) (p_recv k_Machine (fun g h => h.kd hm (by decide))) (Nat.le_of_ble_eq_true rfl) ?_ rfl
  refine r_istore (lv' := [(4, .int w), (3, .int (nI f)), (0, .ref o), (1, .ref m), (2, .ref p)]) hK d_Access_leaf_17 (by decide) rfl ?_
  refine r_iload_n hK d_Access_leaf_19 rfl 1 rfl ?_
  refine r_iconst (v := -1) hK d_Access_leaf_20 (by decide) ?_
  refine r_icmp_eq (tgt := 37) hK d_Access_leaf_21 (by decide) (fun z => False.elim (nI_nm1 (by omega) z)) (fun c21 => ?_)
  refine r_aload_n hK d_Access_leaf_24 rfl 2 rfl ?_
  refine p_getI (f := 38) (v := -1) hK d_Access_leaf_25 k_Access fd_Access_21_Access (by decide) rfl rfl (fun g h => h.getI ho (by decide) rfl hv) ?_
  refine r_iconst (v := -1) hK d_Access_leaf_28 (by decide) ?_
  refine r_icmp_eq (tgt := 44) hK d_Access_leaf_29 (by decide) (fun c29 => ?_) (fun z => False.elim (z rfl))
  refine r_aload_n hK d_Access_leaf_44 rfl 4 rfl ?_
  refine p_new (ci := 5) (a := q) hK d_Access_leaf_45 k_Translation cl_Access_70 in_Translation ii_Translation (fun g h => h.new hq (by decide) (by decide)) ?_
  refine r_dup hK d_Access_leaf_48 rfl ?_
  refine r_aload_n hK d_Access_leaf_49 rfl 2 rfl ?_
  refine p_getI (f := 37) (v := nI pg) hK d_Access_leaf_50 k_Access fd_Access_15_Access (by decide) rfl rfl (fun g h => h.getI (by simp [sSetI, sSetR, sSetA, sSetB, sSetQ, sSetL, sSetT, sNew, sNewA, sNewL, sPush, sBump, sBegL, sPutT, sq, sl, sr, gSetI, gSetR, gSetA, gSetB, gNew, gNewA, up2, up1, gx, gk, gl, gi, gr, ga, gb, hq, n1, n2, ho]) (by decide) rfl (by simp [sSetI, sSetR, sSetA, sSetB, sSetQ, sSetL, sSetT, sNew, sNewA, sNewL, sPush, sBump, sBegL, sPutT, sq, sl, sr, gSetI, gSetR, gSetA, gSetB, gNew, gNewA, up2, up1, gx, gk, gl, gi, gr, ga, gb, hq, n1, n2, hpg])) ?_
  refine r_iload_n hK d_Access_leaf_53 rfl 1 rfl ?_
  refine r_iload hK d_Access_leaf_54 0 rfl ?_
  refine r_callIv (As := [.int (nI pg), .int (nI f), .int w]) (b := q) (st := [.ref q, .ref p]) hK (c_Translation_init X l (sNew s 5) q (nI pg) (nI f) w (by simp [sSetI, sSetR, sSetA, sSetB, sSetQ, sSetL, sSetT, sNew, sNewA, sNewL, sPush, sBump, sBegL, sPutT, sq, sl, sr, gSetI, gSetR, gSetA, gSetB, gNew, gNewA, up2, up1, gx, gk, gl, gi, gr, ga, gb, hq, n1, n2]) hw hw2) d_Access_leaf_56 ml_Access_83 ci_Translation_init rfl (by decide) (Nat.le_of_ble_eq_true rfl) ?_ rfl
  have hsr : sr (sSetI (sSetI (sSetI (sNew s 5) 24 q (nI pg)) 25 q (nI f)) 26 q w) p = sr s p := by simp [sSetI, sSetR, sSetA, sSetB, sSetQ, sSetL, sSetT, sNew, sNewA, sNewL, sPush, sBump, sBegL, sPutT, sq, sl, sr, gSetI, gSetR, gSetA, gSetB, gNew, gNewA, up2, up1, gx, gk, gl, gi, gr, ga, gb, hq, n1, n2, n1]
  have hput := cS_putT (X := X) (l := l) (s := sSetI (sSetI (sSetI (sNew s 5) 24 q (nI pg)) 25 q (nI f)) 26 q w) p q (by simp [sSetI, sSetR, sSetA, sSetB, sSetQ, sSetL, sSetT, sNew, sNewA, sNewL, sPush, sBump, sBegL, sPutT, sq, sl, sr, gSetI, gSetR, gSetA, gSetB, gNew, gNewA, up2, up1, gx, gk, gl, gi, gr, ga, gb, hq, n1, n2, hp, n1]) (by simp [sSetI, sSetR, sSetA, sSetB, sSetQ, sSetL, sSetT, sNew, sNewA, sNewL, sPush, sBump, sBegL, sPutT, sq, sl, sr, gSetI, gSetR, gSetA, gSetB, gNew, gNewA, up2, up1, gx, gk, gl, gi, gr, ga, gb, hq, n1, n2]) (by simp [sSetI, sSetR, sSetA, sSetB, sSetQ, sSetL, sSetT, sNew, sNewA, sNewL, sPush, sBump, sBegL, sPutT, sq, sl, sr, gSetI, gSetR, gSetA, gSetB, gNew, gNewA, up2, up1, gx, gk, gl, gi, gr, ga, gb, hq, n1, n2])
  rw [hsr] at hput
  refine r_callVv (As := [.ref q]) (b := p) (st := []) hK (hput) d_Access_leaf_59 ml_Access_86 cv_Processor_put rfl (by decide) (p_recv k_Processor (fun g h => h.kd (by simp [sSetI, sSetR, sSetA, sSetB, sSetQ, sSetL, sSetT, sNew, sNewA, sNewL, sPush, sBump, sBegL, sPutT, sq, sl, sr, gSetI, gSetR, gSetA, gSetB, gNew, gNewA, up2, up1, gx, gk, gl, gi, gr, ga, gb, hq, n1, n2, hp, n1]) (by decide))) (Nat.le_of_ble_eq_true rfl) ?_ rfl
  refine r_aload_n hK d_Access_leaf_62 rfl 2 rfl ?_
  refine p_phase (e0 := 0) hK d_Access_leaf_63 rfl fs_Access_3 ?_
  refine r_callUi (As := [.ref (cxE X 0)]) (b := o) (st := []) hK (c_Order_go_Access X l (sPutT (sSetI (sSetI (sSetI (sNew s 5) 24 q (nI pg)) 25 q (nI f)) 26 q w) p q ((if (sr s p).length = 3 then (sr s p).tail else sr s p) ++ [q])) o (cxE X 0) (by simp [sSetI, sSetR, sSetA, sSetB, sSetQ, sSetL, sSetT, sNew, sNewA, sNewL, sPush, sBump, sBegL, sPutT, sq, sl, sr, gSetI, gSetR, gSetA, gSetB, gNew, gNewA, up2, up1, gx, gk, gl, gi, gr, ga, gb, hq, n1, n2, ho])) d_Access_leaf_66 ml_Access_54 cu_Access_Access_Order_go rfl (by decide) (p_recv k_Access (fun g h => h.kd (by simp [sSetI, sSetR, sSetA, sSetB, sSetQ, sSetL, sSetT, sNew, sNewA, sNewL, sPush, sBump, sBegL, sPutT, sq, sl, sr, gSetI, gSetR, gSetA, gSetB, gNew, gNewA, up2, up1, gx, gk, gl, gi, gr, ga, gb, hq, n1, n2, ho]) (by decide))) (Nat.le_of_ble_eq_true rfl) ?_ rfl
  refine r_iret hK d_Access_leaf_69 rfl (rfl) ?_
  exact ⟨rfl, rfl⟩
set_option maxHeartbeats 1000000 in
theorem c_Access_leaf_3 (X : gCx) (l : Launch) (s : sS) (o m p pg : Nat) (ho : gk s.1 o = 10) (hm : gk s.1 m = 2) (hp : gk s.1 p = 3) (hpg : gi s.1 37 o = nI pg) (q : Nat) (hq : gx s.1 = q) (n1 : p ≠ q) (n2 : o ≠ q) (f v : Nat) (hf : f < 100) (hvb : v < 2 ^ 31) (hv : gi s.1 38 o = nI v) (hfr : gMi X l (HoldP X (Abs X)) M_Machine_frame 0 0 0 [.ref m, .int (nI pg)] s (nI f) s) (hwr : gMi X l (HoldP X (Abs X)) M_Machine_writable 0 0 0 [.ref m, .int (nI pg)] s (nI 1) s)  : gMi X l (HoldP X (Abs X)) M_Access_leaf 3 1 4 [.ref o, .ref m, .ref p] s (nI 0) (sSetR (sPutT (sSetI (sSetI (sSetI (sNew s 5) 24 q (nI pg)) 25 q (nI f)) 26 q (nI 1)) p q ((if (sr s p).length = 3 then (sr s p).tail else sr s p) ++ [q])) 39 o (some (cxE X 0))) := by
  refine gM_intro (by decide) (Nat.le_of_ble_eq_true rfl) (fun K hK => ?_)
  show K 0 [(0, .ref o), (1, .ref m), (2, .ref p)] [] s 1 4
  refine r_aload_n hK d_Access_leaf_0 rfl 1 rfl ?_
  refine r_aload_n hK d_Access_leaf_1 rfl 0 rfl ?_
  refine p_getI (f := 37) (v := nI pg) hK d_Access_leaf_2 k_Access fd_Access_15_Access (by decide) rfl rfl (fun g h => h.getI ho (by decide) rfl hpg) ?_
  refine r_callVi (As := [.int (nI pg)]) (b := m) (st := []) hK (hfr) d_Access_leaf_5 ml_Access_78 cv_Machine_frame rfl (by decide) (p_recv k_Machine (fun g h => h.kd hm (by decide))) (Nat.le_of_ble_eq_true rfl) ?_ rfl
  refine r_istore_n (lv' := [(3, .int (nI f)), (0, .ref o), (1, .ref m), (2, .ref p)]) hK d_Access_leaf_8 rfl (by decide) rfl ?_
  refine r_aload_n hK d_Access_leaf_9 rfl 2 rfl ?_
  refine r_aload_n hK d_Access_leaf_10 rfl 1 rfl ?_
  refine p_getI (f := 37) (v := nI pg) hK d_Access_leaf_11 k_Access fd_Access_15_Access (by decide) rfl rfl (fun g h => h.getI ho (by decide) rfl hpg) ?_
  refine r_callVi (As := [.int (nI pg)]) (b := m) (st := []) hK (hwr) d_Access_leaf_14 ml_Access_81 cv_Machine_writable rfl (by decide) (p_recv k_Machine (fun g h => h.kd hm (by decide))) (Nat.le_of_ble_eq_true rfl) ?_ rfl
  refine r_istore (lv' := [(4, .int (nI 1)), (3, .int (nI f)), (0, .ref o), (1, .ref m), (2, .ref p)]) hK d_Access_leaf_17 (by decide) rfl ?_
  refine r_iload_n hK d_Access_leaf_19 rfl 1 rfl ?_
  refine r_iconst (v := -1) hK d_Access_leaf_20 (by decide) ?_
  refine r_icmp_eq (tgt := 37) hK d_Access_leaf_21 (by decide) (fun z => False.elim (nI_nm1 (by omega) z)) (fun c21 => ?_)
  refine r_aload_n hK d_Access_leaf_24 rfl 2 rfl ?_
  refine p_getI (f := 38) (v := nI v) hK d_Access_leaf_25 k_Access fd_Access_21_Access (by decide) rfl rfl (fun g h => h.getI ho (by decide) rfl hv) ?_
  refine r_iconst (v := -1) hK d_Access_leaf_28 (by decide) ?_
  refine r_icmp_eq (tgt := 44) hK d_Access_leaf_29 (by decide) (fun z => False.elim (nI_nm1 hvb z)) (fun c29 => ?_)
  refine r_iload hK d_Access_leaf_32 0 rfl ?_
  refine r_nif_ne (a := 1) (tgt := 44) hK d_Access_leaf_34 (by decide) (by decide) (fun _ => ?_) (fun z => absurd z (by decide))
  refine r_aload_n hK d_Access_leaf_44 rfl 4 rfl ?_
  refine p_new (ci := 5) (a := q) hK d_Access_leaf_45 k_Translation cl_Access_70 in_Translation ii_Translation (fun g h => h.new hq (by decide) (by decide)) ?_
  refine r_dup hK d_Access_leaf_48 rfl ?_
  refine r_aload_n hK d_Access_leaf_49 rfl 2 rfl ?_
  refine p_getI (f := 37) (v := nI pg) hK d_Access_leaf_50 k_Access fd_Access_15_Access (by decide) rfl rfl (fun g h => h.getI (by simp [sSetI, sSetR, sSetA, sSetB, sSetQ, sSetL, sSetT, sNew, sNewA, sNewL, sPush, sBump, sBegL, sPutT, sq, sl, sr, gSetI, gSetR, gSetA, gSetB, gNew, gNewA, up2, up1, gx, gk, gl, gi, gr, ga, gb, hq, n1, n2, ho]) (by decide) rfl (by simp [sSetI, sSetR, sSetA, sSetB, sSetQ, sSetL, sSetT, sNew, sNewA, sNewL, sPush, sBump, sBegL, sPutT, sq, sl, sr, gSetI, gSetR, gSetA, gSetB, gNew, gNewA, up2, up1, gx, gk, gl, gi, gr, ga, gb, hq, n1, n2, hpg])) ?_
  refine r_iload_n hK d_Access_leaf_53 rfl 1 rfl ?_
  refine r_iload hK d_Access_leaf_54 0 rfl ?_
  refine r_callIv (As := [.int (nI pg), .int (nI f), .int (nI 1)]) (b := q) (st := [.ref q, .ref p]) hK (c_Translation_init X l (sNew s 5) q (nI pg) (nI f) (nI 1) (by simp [sSetI, sSetR, sSetA, sSetB, sSetQ, sSetL, sSetT, sNew, sNewA, sNewL, sPush, sBump, sBegL, sPutT, sq, sl, sr, gSetI, gSetR, gSetA, gSetB, gNew, gNewA, up2, up1, gx, gk, gl, gi, gr, ga, gb, hq, n1, n2]) (by decide) (by decide)) d_Access_leaf_56 ml_Access_83 ci_Translation_init rfl (by decide) (Nat.le_of_ble_eq_true rfl) ?_ rfl
  have hsr : sr (sSetI (sSetI (sSetI (sNew s 5) 24 q (nI pg)) 25 q (nI f)) 26 q (nI 1)) p = sr s p := by simp [sSetI, sSetR, sSetA, sSetB, sSetQ, sSetL, sSetT, sNew, sNewA, sNewL, sPush, sBump, sBegL, sPutT, sq, sl, sr, gSetI, gSetR, gSetA, gSetB, gNew, gNewA, up2, up1, gx, gk, gl, gi, gr, ga, gb, hq, n1, n2, n1]
  have hput := cS_putT (X := X) (l := l) (s := sSetI (sSetI (sSetI (sNew s 5) 24 q (nI pg)) 25 q (nI f)) 26 q (nI 1)) p q (by simp [sSetI, sSetR, sSetA, sSetB, sSetQ, sSetL, sSetT, sNew, sNewA, sNewL, sPush, sBump, sBegL, sPutT, sq, sl, sr, gSetI, gSetR, gSetA, gSetB, gNew, gNewA, up2, up1, gx, gk, gl, gi, gr, ga, gb, hq, n1, n2, hp, n1]) (by simp [sSetI, sSetR, sSetA, sSetB, sSetQ, sSetL, sSetT, sNew, sNewA, sNewL, sPush, sBump, sBegL, sPutT, sq, sl, sr, gSetI, gSetR, gSetA, gSetB, gNew, gNewA, up2, up1, gx, gk, gl, gi, gr, ga, gb, hq, n1, n2]) (by simp [sSetI, sSetR, sSetA, sSetB, sSetQ, sSetL, sSetT, sNew, sNewA, sNewL, sPush, sBump, sBegL, sPutT, sq, sl, sr, gSetI, gSetR, gSetA, gSetB, gNew, gNewA, up2, up1, gx, gk, gl, gi, gr, ga, gb, hq, n1, n2])
  rw [hsr] at hput
  refine r_callVv (As := [.ref q]) (b := p) (st := []) hK (hput) d_Access_leaf_59 ml_Access_86 cv_Processor_put rfl (by decide) (p_recv k_Processor (fun g h => h.kd (by simp [sSetI, sSetR, sSetA, sSetB, sSetQ, sSetL, sSetT, sNew, sNewA, sNewL, sPush, sBump, sBegL, sPutT, sq, sl, sr, gSetI, gSetR, gSetA, gSetB, gNew, gNewA, up2, up1, gx, gk, gl, gi, gr, ga, gb, hq, n1, n2, hp, n1]) (by decide))) (Nat.le_of_ble_eq_true rfl) ?_ rfl
  refine r_aload_n hK d_Access_leaf_62 rfl 2 rfl ?_
  refine p_phase (e0 := 0) hK d_Access_leaf_63 rfl fs_Access_3 ?_
  refine r_callUi (As := [.ref (cxE X 0)]) (b := o) (st := []) hK (c_Order_go_Access X l (sPutT (sSetI (sSetI (sSetI (sNew s 5) 24 q (nI pg)) 25 q (nI f)) 26 q (nI 1)) p q ((if (sr s p).length = 3 then (sr s p).tail else sr s p) ++ [q])) o (cxE X 0) (by simp [sSetI, sSetR, sSetA, sSetB, sSetQ, sSetL, sSetT, sNew, sNewA, sNewL, sPush, sBump, sBegL, sPutT, sq, sl, sr, gSetI, gSetR, gSetA, gSetB, gNew, gNewA, up2, up1, gx, gk, gl, gi, gr, ga, gb, hq, n1, n2, ho])) d_Access_leaf_66 ml_Access_54 cu_Access_Access_Order_go rfl (by decide) (p_recv k_Access (fun g h => h.kd (by simp [sSetI, sSetR, sSetA, sSetB, sSetQ, sSetL, sSetT, sNew, sNewA, sNewL, sPush, sBump, sBegL, sPutT, sq, sl, sr, gSetI, gSetR, gSetA, gSetB, gNew, gNewA, up2, up1, gx, gk, gl, gi, gr, ga, gb, hq, n1, n2, ho]) (by decide))) (Nat.le_of_ble_eq_true rfl) ?_ rfl
  refine r_iret hK d_Access_leaf_69 rfl (rfl) ?_
  exact ⟨rfl, rfl⟩
set_option maxHeartbeats 1000000 in
theorem c_Access_act_look (X : gCx) (l : Launch) (s : sS) (s' : sS) (o m p pg : Nat) (t : Option Nat) (b : Int32) (ho : gk s.1 o = 10) (hp : gk s.1 p = 3) (hph : gr s.1 39 o = some (cxE X 0)) (hpg : gi s.1 37 o = nI pg) (hft : (sr s p).find? (fun t => decide (gi s.1 24 t = nI pg)) = t) (hlk : gMi X l (HoldP X (Abs X)) M_Access_look 1 0 0 [.ref o, .ref m, va_rf t] s b s') (hb : narrow .boolean (.int b) = .int b) : gMi X l (HoldP X (Abs X)) M_Access_act 2 3 10 [.ref o, .ref m, .ref p] s b s' := by
  refine gM_intro (by decide) (Nat.le_of_ble_eq_true rfl) (fun K hK => ?_)
  show K 0 [(0, .ref o), (1, .ref m), (2, .ref p)] [] s 3 10
  refine r_aload_n hK d_Access_act_0 rfl 0 rfl ?_
  refine p_getR (f := 39) (v := some (cxE X 0)) hK d_Access_act_1 k_Access fd_Access_24_Access (by decide) rfl rfl (fun g h => h.getR ho (by decide) rfl hph) ?_
  refine r_callUi (As := []) (b := cxE X 0) (st := []) hK (c_Enum_ordinal X l (HoldP X (Abs X)) s 0 (nI 0) (by decide) (by decide)) d_Access_act_4 ml_Access_27 cu_Phase_Phase_Enum_ordinal rfl (by decide) (p_recvE (by decide)) (Nat.le_of_ble_eq_true rfl) ?_ rfl
  refine r_lookup (off := 25) (tgt := 32) hK d_Access_act_7 (by decide) (by decide) (by decide) ?_
  refine r_aload_n hK d_Access_act_32 rfl 0 rfl ?_
  refine r_aload_n hK d_Access_act_33 rfl 1 rfl ?_
  refine r_aload_n hK d_Access_act_34 rfl 2 rfl ?_
  refine r_aload_n hK d_Access_act_35 rfl 0 rfl ?_
  refine p_getI (f := 37) (v := nI pg) hK d_Access_act_36 k_Access fd_Access_15_Access (by decide) rfl rfl (fun g h => h.getI ho (by decide) rfl hpg) ?_
  have hfd := cS_find (X := X) (l := l) (s := s) p (nI pg) hp
  rw [hft] at hfd
  refine r_callVr (As := [.int (nI pg)]) (b := p) (st := [.ref m, .ref o]) hK (hfd) d_Access_act_39 ml_Access_31 cv_Processor_find rfl (by decide) (p_recv k_Processor (fun g h => h.kd hp (by decide))) (Nat.le_of_ble_eq_true rfl) ?_ rfl
  refine r_callVi (As := [.ref m, va_rf t]) (b := o) (st := []) hK (hlk) d_Access_act_42 ml_Access_37 cv_Access_look rfl (by decide) (p_recv k_Access (fun g h => h.kd ho (by decide))) (Nat.le_of_ble_eq_true rfl) ?_ rfl
  refine r_iret hK d_Access_act_45 rfl (hb) ?_
  exact ⟨rfl, rfl⟩
set_option maxHeartbeats 1000000 in
theorem c_Access_act_leaf (X : gCx) (l : Launch) (s : sS) (s' : sS) (o m p : Nat) (b : Int32) (ho : gk s.1 o = 10) (hph : gr s.1 39 o = some (cxE X 2)) (hlf : gMi X l (HoldP X (Abs X)) M_Access_leaf 3 1 4 [.ref o, .ref m, .ref p] s b s') (hb : narrow .boolean (.int b) = .int b) : gMi X l (HoldP X (Abs X)) M_Access_act 4 3 10 [.ref o, .ref m, .ref p] s b s' := by
  refine gM_intro (by decide) (Nat.le_of_ble_eq_true rfl) (fun K hK => ?_)
  show K 0 [(0, .ref o), (1, .ref m), (2, .ref p)] [] s 3 10
  refine r_aload_n hK d_Access_act_0 rfl 0 rfl ?_
  refine p_getR (f := 39) (v := some (cxE X 2)) hK d_Access_act_1 k_Access fd_Access_24_Access (by decide) rfl rfl (fun g h => h.getR ho (by decide) rfl hph) ?_
  refine r_callUi (As := []) (b := cxE X 2) (st := []) hK (c_Enum_ordinal X l (HoldP X (Abs X)) s 2 (nI 2) (by decide) (by decide)) d_Access_act_4 ml_Access_27 cu_Phase_Phase_Enum_ordinal rfl (by decide) (p_recvE (by decide)) (Nat.le_of_ble_eq_true rfl) ?_ rfl
  refine r_lookup (off := 70) (tgt := 77) hK d_Access_act_7 (by decide) (by decide) (by decide) ?_
  refine r_aload_n hK d_Access_act_77 rfl 0 rfl ?_
  refine r_aload_n hK d_Access_act_78 rfl 1 rfl ?_
  refine r_aload_n hK d_Access_act_79 rfl 2 rfl ?_
  refine r_callVi (As := [.ref m, .ref p]) (b := o) (st := []) hK (hlf) d_Access_act_80 ml_Access_58 cv_Access_leaf rfl (by decide) (p_recv k_Access (fun g h => h.kd ho (by decide))) (Nat.le_of_ble_eq_true rfl) ?_ rfl
  refine r_iret hK d_Access_act_83 rfl (hb) ?_
  exact ⟨rfl, rfl⟩
set_option maxHeartbeats 1000000 in
theorem c_Access_act_top0 (X : gCx) (l : Launch) (s : sS) (o m p pg gp : Nat) (ho : gk s.1 o = 10) (hm : gk s.1 m = 2) (hmg : gr s.1 6 m = some gp) (hgp : gk s.1 gp = 103) (hgl : gl s.1 gp = 4) (hph : gr s.1 39 o = some (cxE X 1)) (hpg : gi s.1 37 o = nI pg) (hpg16 : pg < 16) (hg0 : gb s.1 gp (pg / 4) = none) : gMi X l (HoldP X (Abs X)) M_Access_act 1 3 10 [.ref o, .ref m, .ref p] s (nI 1) (sSetI s 40 o (-2)) := by
  refine gM_intro (by decide) (Nat.le_of_ble_eq_true rfl) (fun K hK => ?_)
  show K 0 [(0, .ref o), (1, .ref m), (2, .ref p)] [] s 3 10
  refine r_aload_n hK d_Access_act_0 rfl 0 rfl ?_
  refine p_getR (f := 39) (v := some (cxE X 1)) hK d_Access_act_1 k_Access fd_Access_24_Access (by decide) rfl rfl (fun g h => h.getR ho (by decide) rfl hph) ?_
  refine r_callUi (As := []) (b := cxE X 1) (st := []) hK (c_Enum_ordinal X l (HoldP X (Abs X)) s 1 (nI 1) (by decide) (by decide)) d_Access_act_4 ml_Access_27 cu_Phase_Phase_Enum_ordinal rfl (by decide) (p_recvE (by decide)) (Nat.le_of_ble_eq_true rfl) ?_ rfl
  refine r_lookup (off := 39) (tgt := 46) hK d_Access_act_7 (by decide) (by decide) (by decide) ?_
  refine r_aload_n hK d_Access_act_46 rfl 1 rfl ?_
  refine p_getR (f := 6) (v := some gp) hK d_Access_act_47 k_Machine fd_Access_41_Machine (by decide) rfl rfl (fun g h => h.getR hm (by decide) rfl hmg) ?_
  refine r_aload_n hK d_Access_act_50 rfl 0 rfl ?_
  refine p_getI (f := 37) (v := nI pg) hK d_Access_act_51 k_Access fd_Access_15_Access (by decide) rfl rfl (fun g h => h.getI ho (by decide) rfl hpg) ?_
  refine r_iconst (v := nI 2) hK d_Access_act_54 (by decide) ?_
  refine r_ishr hK d_Access_act_55 ?_
  refine r_tp (b := nI (pg / 4)) (pg_shr pg hpg16) ?_
  refine p_aald (t := 3) (v := none) hK (pg / 4) 4 d_Access_act_56 (by decide) (by decide) rfl rfl (by omega) (fun g h => have e := h.arr (a := gp) (t := 3) (L := 4) (j := (pg / 4)) hgp hgl; ⟨e.1, e.2.1, e.2.2.2.trans hg0⟩) ?_
  refine r_ifnonnull (v := none) (tgt := 69) hK d_Access_act_57 (by decide) (fun _ z => absurd z (by simp)) (fun _ => ?_)
  refine r_aload_n hK d_Access_act_60 rfl 0 rfl ?_
  refine r_bipush (v := -2) hK d_Access_act_61 (by decide) ?_
  refine r_callUi (As := [.int (-2)]) (b := o) (st := []) hK (c_Order_finish_Access X l s o (-2) ho) d_Access_act_63 ml_Access_47 cu_Access_Access_Order_finish rfl (by decide) (p_recv k_Access (fun g h => h.kd ho (by decide))) (Nat.le_of_ble_eq_true rfl) ?_ rfl
  refine r_goto (tgt := 76) hK d_Access_act_66 (by decide) ?_
  refine r_iret hK d_Access_act_76 rfl (rfl) ?_
  exact ⟨rfl, rfl⟩
set_option maxHeartbeats 1000000 in
theorem c_Access_act_top1 (X : gCx) (l : Launch) (s : sS) (o m p pg gp G : Nat) (ho : gk s.1 o = 10) (hm : gk s.1 m = 2) (hmg : gr s.1 6 m = some gp) (hgp : gk s.1 gp = 103) (hgl : gl s.1 gp = 4) (hph : gr s.1 39 o = some (cxE X 1)) (hpg : gi s.1 37 o = nI pg) (hpg16 : pg < 16) (hg0 : gb s.1 gp (pg / 4) = some G) : gMi X l (HoldP X (Abs X)) M_Access_act 1 3 10 [.ref o, .ref m, .ref p] s (nI 0) (sSetR s 39 o (some (cxE X 2))) := by
  refine gM_intro (by decide) (Nat.le_of_ble_eq_true rfl) (fun K hK => ?_)
  show K 0 [(0, .ref o), (1, .ref m), (2, .ref p)] [] s 3 10
  refine r_aload_n hK d_Access_act_0 rfl 0 rfl ?_
  refine p_getR (f := 39) (v := some (cxE X 1)) hK d_Access_act_1 k_Access fd_Access_24_Access (by decide) rfl rfl (fun g h => h.getR ho (by decide) rfl hph) ?_
  refine r_callUi (As := []) (b := cxE X 1) (st := []) hK (c_Enum_ordinal X l (HoldP X (Abs X)) s 1 (nI 1) (by decide) (by decide)) d_Access_act_4 ml_Access_27 cu_Phase_Phase_Enum_ordinal rfl (by decide) (p_recvE (by decide)) (Nat.le_of_ble_eq_true rfl) ?_ rfl
  refine r_lookup (off := 39) (tgt := 46) hK d_Access_act_7 (by decide) (by decide) (by decide) ?_
  refine r_aload_n hK d_Access_act_46 rfl 1 rfl ?_
  refine p_getR (f := 6) (v := some gp) hK d_Access_act_47 k_Machine fd_Access_41_Machine (by decide) rfl rfl (fun g h => h.getR hm (by decide) rfl hmg) ?_
  refine r_aload_n hK d_Access_act_50 rfl 0 rfl ?_
  refine p_getI (f := 37) (v := nI pg) hK d_Access_act_51 k_Access fd_Access_15_Access (by decide) rfl rfl (fun g h => h.getI ho (by decide) rfl hpg) ?_
  refine r_iconst (v := nI 2) hK d_Access_act_54 (by decide) ?_
  refine r_ishr hK d_Access_act_55 ?_
  refine r_tp (b := nI (pg / 4)) (pg_shr pg hpg16) ?_
  refine p_aald (t := 3) (v := some G) hK (pg / 4) 4 d_Access_act_56 (by decide) (by decide) rfl rfl (by omega) (fun g h => have e := h.arr (a := gp) (t := 3) (L := 4) (j := (pg / 4)) hgp hgl; ⟨e.1, e.2.1, e.2.2.2.trans hg0⟩) ?_
  refine r_ifnonnull (v := some G) (tgt := 69) hK d_Access_act_57 (by decide) (fun _ _ => ?_) (fun z => absurd z (by simp))
  refine r_aload_n hK d_Access_act_69 rfl 0 rfl ?_
  refine p_phase (e0 := 2) hK d_Access_act_70 rfl fs_Access_51 ?_
  refine r_callUi (As := [.ref (cxE X 2)]) (b := o) (st := []) hK (c_Order_go_Access X l s o (cxE X 2) ho) d_Access_act_73 ml_Access_54 cu_Access_Access_Order_go rfl (by decide) (p_recv k_Access (fun g h => h.kd ho (by decide))) (Nat.le_of_ble_eq_true rfl) ?_ rfl
  refine r_iret hK d_Access_act_76 rfl (rfl) ?_
  exact ⟨rfl, rfl⟩
set_option maxHeartbeats 1000000 in
theorem c_Move_act (X : gCx) (l : Launch) (s : sS) (o m p : Nat) (ho : gk s.1 o = 13) : gMi X l (HoldP X (Abs X)) M_Move_act 1 3 10 [.ref o, .ref m, .ref p] s (nI 1) (sSetI s 40 o (nI 0)) := by
  refine gM_intro (by decide) (Nat.le_of_ble_eq_true rfl) (fun K hK => ?_)
  show K 0 [(0, .ref o), (1, .ref m), (2, .ref p)] [] s 3 10
  refine r_aload_n hK d_Move_act_0 rfl 0 rfl ?_
  refine r_iconst (v := nI 0) hK d_Move_act_1 (by decide) ?_
  refine r_callUi (As := [.int (nI 0)]) (b := o) (st := []) hK (c_Order_finish_Move X l s o (nI 0) ho) d_Move_act_2 ml_Move_19 cu_Move_Move_Order_finish rfl (by decide) (p_recv k_Move (fun g h => h.kd ho (by decide))) (Nat.le_of_ble_eq_true rfl) ?_ rfl
  refine r_iret hK d_Move_act_5 rfl (rfl) ?_
  exact ⟨rfl, rfl⟩
