set_option maxHeartbeats 1000000 in
theorem c_Grant_change_room (X : gCx) (l : Launch) (s : sS) (s2 : sS) (o m p pg f : Nat) (w : Int32) (wd : Nat) (ho : gk s.1 o = 11) (hm : gk s.1 m = 2) (hp : gk s.1 p = 3) (hmw : gr s.1 8 m = some wd) (hwd : gk s.1 wd = 100) (hwdl : gl s.1 wd = 10) (hw : gi s.1 41 o = w) (hf : f < 10) (r ra : Nat) (hr : gi s.1 15 p = nI (r + 1)) (hr2 : r < 2) (hpr : gr s.1 14 p = some ra) (hra : gk s.1 ra = 100) (hral : gl s.1 ra = 2) (hfr : ga s.1 ra r = nI f) (hset : gMv X l (HoldP X (Abs X)) M_Machine_set 2 3 10 [.ref m, .int (nI pg), .int (nI f), .int w] (sSetA (sSetI s 15 p (nI r)) wd f (nI 0)) s2)  : gMi X l (HoldP X (Abs X)) M_Grant_change 3 3 10 [.ref o, .ref m, .ref p, .int (nI pg)] s (nI 1) s2 := by
  refine gM_intro (by decide) (Nat.le_of_ble_eq_true rfl) (fun K hK => ?_)
  show K 0 [(0, .ref o), (1, .ref m), (2, .ref p), (3, .int (nI pg))] [] s 3 10
  refine r_iconst (v := -1) hK d_Grant_change_0 (by decide) ?_
  refine r_istore (lv' := [(4, .int (-1)), (0, .ref o), (1, .ref m), (2, .ref p), (3, .int (nI pg))]) hK d_Grant_change_1 (by decide) rfl ?_
  refine r_aload_n hK d_Grant_change_3 rfl 3 rfl ?_
  refine p_getI (f := 15) (v := nI (r + 1)) hK d_Grant_change_4 k_Processor fd_Grant_24_Processor (by decide) rfl rfl (fun g h => h.getI hp (by decide) rfl hr) ?_
  refine r_nif_le (a := r + 1) (tgt := 34) hK d_Grant_change_7 (by decide) (by omega) (fun z => False.elim (by omega)) (fun c7 => ?_)
  refine r_aload_n hK d_Grant_change_10 rfl 3 rfl ?_
  refine r_dup hK d_Grant_change_11 rfl ?_
  refine p_getI (f := 15) (v := nI (r + 1)) hK d_Grant_change_12 k_Processor fd_Grant_24_Processor (by decide) rfl rfl (fun g h => h.getI hp (by decide) rfl hr) ?_
  refine r_iconst (v := nI 1) hK d_Grant_change_15 (by decide) ?_
  refine r_isub hK d_Grant_change_16 ?_
  refine r_tp (b := nI r) (nI_pred r) ?_
  refine p_putI (k := 4) (f := 15) hK d_Grant_change_17 k_Processor fd_Grant_24_Processor (by decide) rfl rfl rfl rfl rfl (fun g h => ⟨h.kd hp (by decide), h.setI (nz_of (k := 2) hp) rfl⟩) ?_
  refine r_aload_n hK d_Grant_change_20 rfl 3 rfl ?_
  refine p_getR (f := 14) (v := some ra) hK d_Grant_change_21 k_Processor fd_Grant_61_Processor (by decide) rfl rfl (fun g h => h.getR hp (by decide) rfl (by simp [sSetI, sSetR, sSetA, sSetB, sSetQ, sSetL, sSetT, sNew, sNewA, sNewL, sPush, sBump, sBegL, sPutT, sq, sl, sr, gSetI, gSetR, gSetA, gSetB, gNew, gNewA, up2, up1, gx, gk, gl, gi, gr, ga, gb, hpr])) ?_
  refine r_aload_n hK d_Grant_change_24 rfl 3 rfl ?_
  refine p_getI (f := 15) (v := nI r) hK d_Grant_change_25 k_Processor fd_Grant_24_Processor (by decide) rfl rfl (fun g h => h.getI hp (by decide) rfl (by simp [sSetI, sSetR, sSetA, sSetB, sSetQ, sSetL, sSetT, sNew, sNewA, sNewL, sPush, sBump, sBegL, sPutT, sq, sl, sr, gSetI, gSetR, gSetA, gSetB, gNew, gNewA, up2, up1, gx, gk, gl, gi, gr, ga, gb])) ?_
  refine p_iald (v := nI f) hK r 2 d_Grant_change_28 rfl (by omega) (fun g h => have e := h.arr (a := ra) (t := 0) (L := 2) (j := r) hra hral; ⟨e.1, e.2.1, e.2.2.1.trans (by simp [sSetI, sSetR, sSetA, sSetB, sSetQ, sSetL, sSetT, sNew, sNewA, sNewL, sPush, sBump, sBegL, sPutT, sq, sl, sr, gSetI, gSetR, gSetA, gSetB, gNew, gNewA, up2, up1, gx, gk, gl, gi, gr, ga, gb, hfr])⟩) ?_
  refine r_istore (lv' := [(4, .int (nI f)), (0, .ref o), (1, .ref m), (2, .ref p), (3, .int (nI pg))]) hK d_Grant_change_29 (by decide) rfl ?_
  refine r_goto (tgt := 62) hK d_Grant_change_31 (by decide) ?_
  refine r_iload hK d_Grant_change_62 0 rfl ?_
  refine r_nif_lt (a := f) (tgt := 75) hK d_Grant_change_64 (by decide) (by omega) ?_
  refine r_aload_n hK d_Grant_change_67 rfl 2 rfl ?_
  refine p_getR (f := 8) (v := some wd) hK d_Grant_change_68 k_Machine fd_Grant_75_Machine (by decide) rfl rfl (fun g h => h.getR hm (by decide) rfl (by simp [sSetI, sSetR, sSetA, sSetB, sSetQ, sSetL, sSetT, sNew, sNewA, sNewL, sPush, sBump, sBegL, sPutT, sq, sl, sr, gSetI, gSetR, gSetA, gSetB, gNew, gNewA, up2, up1, gx, gk, gl, gi, gr, ga, gb, hmw])) ?_
  refine r_iload hK d_Grant_change_71 0 rfl ?_
  refine r_iconst (v := nI 0) hK d_Grant_change_73 (by decide) ?_
  refine p_iast hK f 10 d_Grant_change_74 rfl (by omega) (fun g h => have e := h.arr (a := wd) (t := 0) (L := 10) (j := 0) hwd hwdl; ⟨e.1, e.2.1, h.setA⟩) ?_
  refine r_aload_n hK d_Grant_change_75 rfl 2 rfl ?_
  refine r_iload_n hK d_Grant_change_76 rfl 4 rfl ?_
  refine r_iload hK d_Grant_change_77 0 rfl ?_
  refine r_aload_n hK d_Grant_change_79 rfl 1 rfl ?_
  refine p_getI (f := 41) (v := w) hK d_Grant_change_80 k_Grant fd_Grant_9_Grant (by decide) rfl rfl (fun g h => h.getI ho (by decide) rfl (by simp [sSetI, sSetR, sSetA, sSetB, sSetQ, sSetL, sSetT, sNew, sNewA, sNewL, sPush, sBump, sBegL, sPutT, sq, sl, sr, gSetI, gSetR, gSetA, gSetB, gNew, gNewA, up2, up1, gx, gk, gl, gi, gr, ga, gb, hw])) ?_
  refine r_callVv (As := [.int (nI pg), .int (nI f), .int w]) (b := m) (st := []) hK (hset) d_Grant_change_83 ml_Grant_78 cv_Machine_set rfl (by decide) (p_recv k_Machine (fun g h => h.kd hm (by decide))) (Nat.le_of_ble_eq_true rfl) ?_ rfl
  refine r_iconst (v := nI 1) hK d_Grant_change_86 (by decide) ?_
  refine r_iret hK d_Grant_change_87 rfl (rfl) ?_
  exact ⟨rfl, rfl⟩
set_option maxHeartbeats 1000000 in
theorem c_Grant_change_pool (X : gCx) (l : Launch) (s : sS) (s2 : sS) (o m p pg f : Nat) (w : Int32) (wd : Nat) (ho : gk s.1 o = 11) (hm : gk s.1 m = 2) (hp : gk s.1 p = 3) (hmw : gr s.1 8 m = some wd) (hwd : gk s.1 wd = 100) (hwdl : gl s.1 wd = 10) (hw : gi s.1 41 o = w) (hf : f < 10) (pl : Nat) (vs : List Nat) (hr : gi s.1 15 p = nI 0) (hmp : gr s.1 7 m = some pl) (hpl : gk s.1 pl = 4) (hpv : sq s pl = cxI X (f + 128) :: vs) (hset : gMv X l (HoldP X (Abs X)) M_Machine_set 2 3 10 [.ref m, .int (nI pg), .int (nI f), .int w] (sSetA (sSetQ s pl vs) wd f (nI 0)) s2)  : gMi X l (HoldP X (Abs X)) M_Grant_change 3 3 10 [.ref o, .ref m, .ref p, .int (nI pg)] s (nI 1) s2 := by
  refine gM_intro (by decide) (Nat.le_of_ble_eq_true rfl) (fun K hK => ?_)
  show K 0 [(0, .ref o), (1, .ref m), (2, .ref p), (3, .int (nI pg))] [] s 3 10
  refine r_iconst (v := -1) hK d_Grant_change_0 (by decide) ?_
  refine r_istore (lv' := [(4, .int (-1)), (0, .ref o), (1, .ref m), (2, .ref p), (3, .int (nI pg))]) hK d_Grant_change_1 (by decide) rfl ?_
  refine r_aload_n hK d_Grant_change_3 rfl 3 rfl ?_
  refine p_getI (f := 15) (v := nI 0) hK d_Grant_change_4 k_Processor fd_Grant_24_Processor (by decide) rfl rfl (fun g h => h.getI hp (by decide) rfl hr) ?_
  refine r_nif_le (a := 0) (tgt := 34) hK d_Grant_change_7 (by decide) (by decide) (fun _ => ?_) (fun z => absurd z (by decide))
  refine r_aload_n hK d_Grant_change_34 rfl 2 rfl ?_
  refine p_getR (f := 7) (v := some pl) hK d_Grant_change_35 k_Machine fd_Grant_30_Machine (by decide) rfl rfl (fun g h => h.getR hm (by decide) rfl hmp) ?_
  refine r_callVr (As := []) (b := pl) (st := []) hK (cS_take (s := s) pl (cxI X (f + 128)) vs hpl hpv) d_Grant_change_38 ml_Grant_65 cv_Line_take rfl (by decide) (p_recv k_Line (fun g h => h.kd hpl (by decide))) (Nat.le_of_ble_eq_true rfl) ?_ rfl
  refine p_castI (j := f + 128) hK d_Grant_change_41 cl_Grant_69 in_Integer (by omega) ?_
  refine r_astore (lv' := [(5, .ref (cxI X (f + 128))), (4, .int (-1)), (0, .ref o), (1, .ref m), (2, .ref p), (3, .int (nI pg))]) hK d_Grant_change_44 (by decide) rfl ?_
  refine r_aload hK d_Grant_change_46 0 rfl ?_
  refine r_ifnonnull (v := some (cxI X (f + 128))) (tgt := 55) hK d_Grant_change_48 (by decide) (fun _ _ => ?_) (fun z => absurd z (by simp))
  refine r_aload hK d_Grant_change_55 0 rfl ?_
  refine r_callVi (As := []) (b := cxI X (f + 128)) (st := []) hK (c_Int_intValue X l (HoldP X (Abs X)) (sSetQ s pl vs) (f + 128) (by omega)) d_Grant_change_57 ml_Grant_71 cv_Int_intValue rfl (by decide) (p_recvI (by omega)) (Nat.le_of_ble_eq_true rfl) ?_ rfl
  refine r_tp (b := nI f) (vb_nI f hf) ?_
  refine r_istore (lv' := [(4, .int (nI f)), (5, .ref (cxI X (f + 128))), (0, .ref o), (1, .ref m), (2, .ref p), (3, .int (nI pg))]) hK d_Grant_change_60 (by decide) rfl ?_
  refine r_iload hK d_Grant_change_62 0 rfl ?_
  refine r_nif_lt (a := f) (tgt := 75) hK d_Grant_change_64 (by decide) (by omega) ?_
  refine r_aload_n hK d_Grant_change_67 rfl 3 rfl ?_
  refine p_getR (f := 8) (v := some wd) hK d_Grant_change_68 k_Machine fd_Grant_75_Machine (by decide) rfl rfl (fun g h => h.getR hm (by decide) rfl (by simp [sSetI, sSetR, sSetA, sSetB, sSetQ, sSetL, sSetT, sNew, sNewA, sNewL, sPush, sBump, sBegL, sPutT, sq, sl, sr, gSetI, gSetR, gSetA, gSetB, gNew, gNewA, up2, up1, gx, gk, gl, gi, gr, ga, gb, hmw])) ?_
  refine r_iload hK d_Grant_change_71 0 rfl ?_
  refine r_iconst (v := nI 0) hK d_Grant_change_73 (by decide) ?_
  refine p_iast hK f 10 d_Grant_change_74 rfl (by omega) (fun g h => have e := h.arr (a := wd) (t := 0) (L := 10) (j := 0) hwd hwdl; ⟨e.1, e.2.1, h.setA⟩) ?_
  refine r_aload_n hK d_Grant_change_75 rfl 3 rfl ?_
  refine r_iload_n hK d_Grant_change_76 rfl 5 rfl ?_
  refine r_iload hK d_Grant_change_77 0 rfl ?_
  refine r_aload_n hK d_Grant_change_79 rfl 2 rfl ?_
  refine p_getI (f := 41) (v := w) hK d_Grant_change_80 k_Grant fd_Grant_9_Grant (by decide) rfl rfl (fun g h => h.getI ho (by decide) rfl (by simp [sSetI, sSetR, sSetA, sSetB, sSetQ, sSetL, sSetT, sNew, sNewA, sNewL, sPush, sBump, sBegL, sPutT, sq, sl, sr, gSetI, gSetR, gSetA, gSetB, gNew, gNewA, up2, up1, gx, gk, gl, gi, gr, ga, gb, hw])) ?_
  refine r_callVv (As := [.int (nI pg), .int (nI f), .int w]) (b := m) (st := []) hK (hset) d_Grant_change_83 ml_Grant_78 cv_Machine_set rfl (by decide) (p_recv k_Machine (fun g h => h.kd hm (by decide))) (Nat.le_of_ble_eq_true rfl) ?_ rfl
  refine r_iconst (v := nI 1) hK d_Grant_change_86 (by decide) ?_
  refine r_iret hK d_Grant_change_87 rfl (rfl) ?_
  exact ⟨rfl, rfl⟩
set_option maxHeartbeats 1000000 in
theorem c_Revoke_change_u0 (X : gCx) (l : Launch) (s : sS) (o m p pg : Nat) (ho : gk s.1 o = 12) (hm : gk s.1 m = 2) (hu : gi s.1 47 o = nI 1) (hfr : gMi X l (HoldP X (Abs X)) M_Machine_frame 0 0 0 [.ref m, .int (nI pg)] s (-1) s)  : gMi X l (HoldP X (Abs X)) M_Revoke_change 3 3 10 [.ref o, .ref m, .ref p, .int (nI pg)] s (nI 0) s := by
  refine gM_intro (by decide) (Nat.le_of_ble_eq_true rfl) (fun K hK => ?_)
  show K 0 [(0, .ref o), (1, .ref m), (2, .ref p), (3, .int (nI pg))] [] s 3 10
  refine r_aload_n hK d_Revoke_change_0 rfl 1 rfl ?_
  refine r_iload_n hK d_Revoke_change_1 rfl 3 rfl ?_
  refine r_callVi (As := [.int (nI pg)]) (b := m) (st := []) hK (hfr) d_Revoke_change_2 ml_Revoke_35 cv_Machine_frame rfl (by decide) (p_recv k_Machine (fun g h => h.kd hm (by decide))) (Nat.le_of_ble_eq_true rfl) ?_ rfl
  refine r_istore (lv' := [(4, .int (-1)), (0, .ref o), (1, .ref m), (2, .ref p), (3, .int (nI pg))]) hK d_Revoke_change_5 (by decide) rfl ?_
  refine r_aload_n hK d_Revoke_change_7 rfl 1 rfl ?_
  refine p_getI (f := 47) (v := nI 1) hK d_Revoke_change_8 k_Revoke fd_Revoke_15_Revoke (by decide) rfl rfl (fun g h => h.getI ho (by decide) rfl hu) ?_
  refine r_nif_eq (a := 1) (tgt := 28) hK d_Revoke_change_11 (by decide) (by decide) (fun z => absurd z (by decide)) (fun _ => ?_)
  refine r_iload hK d_Revoke_change_14 0 rfl ?_
  refine r_iconst (v := -1) hK d_Revoke_change_16 (by decide) ?_
  refine r_icmp_eq (tgt := 24) hK d_Revoke_change_17 (by decide) (fun c17 => ?_) (fun z => False.elim (z rfl))
  refine r_iconst (v := nI 0) hK d_Revoke_change_24 (by decide) ?_
  refine r_goto (tgt := 33) hK d_Revoke_change_25 (by decide) ?_
  refine r_istore (lv' := [(5, .int (nI 0)), (4, .int (-1)), (0, .ref o), (1, .ref m), (2, .ref p), (3, .int (nI pg))]) hK d_Revoke_change_33 (by decide) rfl ?_
  refine r_iload hK d_Revoke_change_35 0 rfl ?_
  refine r_nif_ne (a := 0) (tgt := 42) hK d_Revoke_change_37 (by decide) (by decide) (fun z => absurd z (by decide)) (fun _ => ?_)
  refine r_iconst (v := nI 0) hK d_Revoke_change_40 (by decide) ?_
  refine r_iret hK d_Revoke_change_41 rfl (rfl) ?_
  exact ⟨rfl, rfl⟩
set_option maxHeartbeats 1000000 in
theorem c_Revoke_change_u1 (X : gCx) (l : Launch) (s : sS) (s2 : sS) (o m p pg : Nat) (ho : gk s.1 o = 12) (hm : gk s.1 m = 2) (f ka k : Nat) (hf : f < 10) (hu : gi s.1 47 o = nI 1) (hok : gr s.1 48 o = some ka) (hka : gk s.1 ka = 100) (hkal : gl s.1 ka = 4) (hk : gi s.1 49 o = nI k) (hk4 : k < 4) (hfr : gMi X l (HoldP X (Abs X)) M_Machine_frame 0 0 0 [.ref m, .int (nI pg)] s (nI f) s) (hset : gMv X l (HoldP X (Abs X)) M_Machine_set 2 3 10 [.ref m, .int (nI pg), .int (-1), .int (nI 0)] (sSetI (sSetA s ka k (nI f)) 49 o (nI (k + 1))) s2)  : gMi X l (HoldP X (Abs X)) M_Revoke_change 3 3 10 [.ref o, .ref m, .ref p, .int (nI pg)] s (nI 1) s2 := by
  refine gM_intro (by decide) (Nat.le_of_ble_eq_true rfl) (fun K hK => ?_)
  show K 0 [(0, .ref o), (1, .ref m), (2, .ref p), (3, .int (nI pg))] [] s 3 10
  refine r_aload_n hK d_Revoke_change_0 rfl 1 rfl ?_
  refine r_iload_n hK d_Revoke_change_1 rfl 3 rfl ?_
  refine r_callVi (As := [.int (nI pg)]) (b := m) (st := []) hK (hfr) d_Revoke_change_2 ml_Revoke_35 cv_Machine_frame rfl (by decide) (p_recv k_Machine (fun g h => h.kd hm (by decide))) (Nat.le_of_ble_eq_true rfl) ?_ rfl
  refine r_istore (lv' := [(4, .int (nI f)), (0, .ref o), (1, .ref m), (2, .ref p), (3, .int (nI pg))]) hK d_Revoke_change_5 (by decide) rfl ?_
  refine r_aload_n hK d_Revoke_change_7 rfl 1 rfl ?_
  refine p_getI (f := 47) (v := nI 1) hK d_Revoke_change_8 k_Revoke fd_Revoke_15_Revoke (by decide) rfl rfl (fun g h => h.getI ho (by decide) rfl hu) ?_
  refine r_nif_eq (a := 1) (tgt := 28) hK d_Revoke_change_11 (by decide) (by decide) (fun z => absurd z (by decide)) (fun _ => ?_)
  refine r_iload hK d_Revoke_change_14 0 rfl ?_
  refine r_iconst (v := -1) hK d_Revoke_change_16 (by decide) ?_
  refine r_icmp_eq (tgt := 24) hK d_Revoke_change_17 (by decide) (fun z => False.elim (nI_nm1 (by omega) z)) (fun c17 => ?_)
  refine r_iconst (v := nI 1) hK d_Revoke_change_20 (by decide) ?_
  refine r_goto (tgt := 33) hK d_Revoke_change_21 (by decide) ?_
  refine r_istore (lv' := [(5, .int (nI 1)), (4, .int (nI f)), (0, .ref o), (1, .ref m), (2, .ref p), (3, .int (nI pg))]) hK d_Revoke_change_33 (by decide) rfl ?_
  refine r_iload hK d_Revoke_change_35 0 rfl ?_
  refine r_nif_ne (a := 1) (tgt := 42) hK d_Revoke_change_37 (by decide) (by decide) (fun _ => ?_) (fun z => absurd z (by decide))
  refine r_aload_n hK d_Revoke_change_42 rfl 2 rfl ?_
  refine p_getI (f := 47) (v := nI 1) hK d_Revoke_change_43 k_Revoke fd_Revoke_15_Revoke (by decide) rfl rfl (fun g h => h.getI ho (by decide) rfl hu) ?_
  refine r_nif_eq (a := 1) (tgt := 70) hK d_Revoke_change_46 (by decide) (by decide) (fun z => absurd z (by decide)) (fun _ => ?_)
  refine r_aload_n hK d_Revoke_change_49 rfl 2 rfl ?_
  refine p_getR (f := 48) (v := some ka) hK d_Revoke_change_50 k_Revoke fd_Revoke_9_Revoke (by decide) rfl rfl (fun g h => h.getR ho (by decide) rfl hok) ?_
  refine r_aload_n hK d_Revoke_change_53 rfl 2 rfl ?_
  refine p_getI (f := 49) (v := nI k) hK d_Revoke_change_54 k_Revoke fd_Revoke_45_Revoke (by decide) rfl rfl (fun g h => h.getI ho (by decide) rfl hk) ?_
  refine r_iload hK d_Revoke_change_57 1 rfl ?_
  refine p_iast hK k 4 d_Revoke_change_59 rfl (by omega) (fun g h => have e := h.arr (a := ka) (t := 0) (L := 4) (j := 0) hka hkal; ⟨e.1, e.2.1, h.setA⟩) ?_
  refine r_aload_n hK d_Revoke_change_60 rfl 2 rfl ?_
  refine r_dup hK d_Revoke_change_61 rfl ?_
  refine p_getI (f := 49) (v := nI k) hK d_Revoke_change_62 k_Revoke fd_Revoke_45_Revoke (by decide) rfl rfl (fun g h => h.getI ho (by decide) rfl (by simp [sSetI, sSetR, sSetA, sSetB, sSetQ, sSetL, sSetT, sNew, sNewA, sNewL, sPush, sBump, sBegL, sPutT, sq, sl, sr, gSetI, gSetR, gSetA, gSetB, gNew, gNewA, up2, up1, gx, gk, gl, gi, gr, ga, gb, hk])) ?_
  refine r_iconst (v := nI 1) hK d_Revoke_change_65 (by decide) ?_
  refine r_iadd hK d_Revoke_change_66 ?_
  refine r_tp (b := nI (k + 1)) (nI_add _ _) ?_
  refine p_putI (k := 2) (f := 49) hK d_Revoke_change_67 k_Revoke fd_Revoke_45_Revoke (by decide) rfl rfl rfl rfl rfl (fun g h => ⟨h.kd ho (by decide), h.setI (nz_of (k := 11) ho) rfl⟩) ?_
  refine r_aload_n hK d_Revoke_change_70 rfl 3 rfl ?_
  refine r_iload_n hK d_Revoke_change_71 rfl 5 rfl ?_
  refine r_aload_n hK d_Revoke_change_72 rfl 2 rfl ?_
  refine p_getI (f := 47) (v := nI 1) hK d_Revoke_change_73 k_Revoke fd_Revoke_15_Revoke (by decide) rfl rfl (fun g h => h.getI ho (by decide) rfl (by simp [sSetI, sSetR, sSetA, sSetB, sSetQ, sSetL, sSetT, sNew, sNewA, sNewL, sPush, sBump, sBegL, sPutT, sq, sl, sr, gSetI, gSetR, gSetA, gSetB, gNew, gNewA, up2, up1, gx, gk, gl, gi, gr, ga, gb, hu])) ?_
  refine r_nif_eq (a := 1) (tgt := 83) hK d_Revoke_change_76 (by decide) (by decide) (fun z => absurd z (by decide)) (fun _ => ?_)
  refine r_iconst (v := -1) hK d_Revoke_change_79 (by decide) ?_
  refine r_goto (tgt := 85) hK d_Revoke_change_80 (by decide) ?_
  refine r_iconst (v := nI 0) hK d_Revoke_change_85 (by decide) ?_
  refine r_callVv (As := [.int (nI pg), .int (-1), .int (nI 0)]) (b := m) (st := []) hK (hset) d_Revoke_change_86 ml_Revoke_48 cv_Machine_set rfl (by decide) (p_recv k_Machine (fun g h => h.kd hm (by decide))) (Nat.le_of_ble_eq_true rfl) ?_ rfl
  refine r_iconst (v := nI 1) hK d_Revoke_change_89 (by decide) ?_
  refine r_iret hK d_Revoke_change_90 rfl (rfl) ?_
  exact ⟨rfl, rfl⟩
set_option maxHeartbeats 1000000 in
theorem c_Revoke_change_p0 (X : gCx) (l : Launch) (s : sS) (o m p pg : Nat) (ho : gk s.1 o = 12) (hm : gk s.1 m = 2) (fv : Int32) (hu : gi s.1 47 o = nI 0) (hfr : gMi X l (HoldP X (Abs X)) M_Machine_frame 0 0 0 [.ref m, .int (nI pg)] s fv s) (hwr : gMi X l (HoldP X (Abs X)) M_Machine_writable 0 0 0 [.ref m, .int (nI pg)] s (nI 0) s)  : gMi X l (HoldP X (Abs X)) M_Revoke_change 3 3 10 [.ref o, .ref m, .ref p, .int (nI pg)] s (nI 0) s := by
  refine gM_intro (by decide) (Nat.le_of_ble_eq_true rfl) (fun K hK => ?_)
  show K 0 [(0, .ref o), (1, .ref m), (2, .ref p), (3, .int (nI pg))] [] s 3 10
  refine r_aload_n hK d_Revoke_change_0 rfl 1 rfl ?_
  refine r_iload_n hK d_Revoke_change_1 rfl 3 rfl ?_
  refine r_callVi (As := [.int (nI pg)]) (b := m) (st := []) hK (hfr) d_Revoke_change_2 ml_Revoke_35 cv_Machine_frame rfl (by decide) (p_recv k_Machine (fun g h => h.kd hm (by decide))) (Nat.le_of_ble_eq_true rfl) ?_ rfl
  refine r_istore (lv' := [(4, .int fv), (0, .ref o), (1, .ref m), (2, .ref p), (3, .int (nI pg))]) hK d_Revoke_change_5 (by decide) rfl ?_
  refine r_aload_n hK d_Revoke_change_7 rfl 1 rfl ?_
  refine p_getI (f := 47) (v := nI 0) hK d_Revoke_change_8 k_Revoke fd_Revoke_15_Revoke (by decide) rfl rfl (fun g h => h.getI ho (by decide) rfl hu) ?_
  refine r_nif_eq (a := 0) (tgt := 28) hK d_Revoke_change_11 (by decide) (by decide) (fun _ => ?_) (fun z => absurd z (by decide))
  refine r_aload_n hK d_Revoke_change_28 rfl 2 rfl ?_
  refine r_iload_n hK d_Revoke_change_29 rfl 4 rfl ?_
  refine r_callVi (As := [.int (nI pg)]) (b := m) (st := []) hK (hwr) d_Revoke_change_30 ml_Revoke_41 cv_Machine_writable rfl (by decide) (p_recv k_Machine (fun g h => h.kd hm (by decide))) (Nat.le_of_ble_eq_true rfl) ?_ rfl
  refine r_istore (lv' := [(5, .int (nI 0)), (4, .int fv), (0, .ref o), (1, .ref m), (2, .ref p), (3, .int (nI pg))]) hK d_Revoke_change_33 (by decide) rfl ?_
  refine r_iload hK d_Revoke_change_35 0 rfl ?_
  refine r_nif_ne (a := 0) (tgt := 42) hK d_Revoke_change_37 (by decide) (by decide) (fun z => absurd z (by decide)) (fun _ => ?_)
  refine r_iconst (v := nI 0) hK d_Revoke_change_40 (by decide) ?_
  refine r_iret hK d_Revoke_change_41 rfl (rfl) ?_
  exact ⟨rfl, rfl⟩
set_option maxHeartbeats 1000000 in
theorem c_Revoke_change_p1 (X : gCx) (l : Launch) (s : sS) (s2 : sS) (o m p pg : Nat) (ho : gk s.1 o = 12) (hm : gk s.1 m = 2) (fv : Int32) (hu : gi s.1 47 o = nI 0) (hfr : gMi X l (HoldP X (Abs X)) M_Machine_frame 0 0 0 [.ref m, .int (nI pg)] s fv s) (hwr : gMi X l (HoldP X (Abs X)) M_Machine_writable 0 0 0 [.ref m, .int (nI pg)] s (nI 1) s) (hset : gMv X l (HoldP X (Abs X)) M_Machine_set 2 3 10 [.ref m, .int (nI pg), .int fv, .int (nI 0)] s s2)  : gMi X l (HoldP X (Abs X)) M_Revoke_change 3 3 10 [.ref o, .ref m, .ref p, .int (nI pg)] s (nI 1) s2 := by
  refine gM_intro (by decide) (Nat.le_of_ble_eq_true rfl) (fun K hK => ?_)
  show K 0 [(0, .ref o), (1, .ref m), (2, .ref p), (3, .int (nI pg))] [] s 3 10
  refine r_aload_n hK d_Revoke_change_0 rfl 1 rfl ?_
  refine r_iload_n hK d_Revoke_change_1 rfl 3 rfl ?_
  refine r_callVi (As := [.int (nI pg)]) (b := m) (st := []) hK (hfr) d_Revoke_change_2 ml_Revoke_35 cv_Machine_frame rfl (by decide) (p_recv k_Machine (fun g h => h.kd hm (by decide))) (Nat.le_of_ble_eq_true rfl) ?_ rfl
  refine r_istore (lv' := [(4, .int fv), (0, .ref o), (1, .ref m), (2, .ref p), (3, .int (nI pg))]) hK d_Revoke_change_5 (by decide) rfl ?_
  refine r_aload_n hK d_Revoke_change_7 rfl 1 rfl ?_
  refine p_getI (f := 47) (v := nI 0) hK d_Revoke_change_8 k_Revoke fd_Revoke_15_Revoke (by decide) rfl rfl (fun g h => h.getI ho (by decide) rfl hu) ?_
  refine r_nif_eq (a := 0) (tgt := 28) hK d_Revoke_change_11 (by decide) (by decide) (fun _ => ?_) (fun z => absurd z (by decide))
  refine r_aload_n hK d_Revoke_change_28 rfl 2 rfl ?_
  refine r_iload_n hK d_Revoke_change_29 rfl 4 rfl ?_
  refine r_callVi (As := [.int (nI pg)]) (b := m) (st := []) hK (hwr) d_Revoke_change_30 ml_Revoke_41 cv_Machine_writable rfl (by decide) (p_recv k_Machine (fun g h => h.kd hm (by decide))) (Nat.le_of_ble_eq_true rfl) ?_ rfl
  refine r_istore (lv' := [(5, .int (nI 1)), (4, .int fv), (0, .ref o), (1, .ref m), (2, .ref p), (3, .int (nI pg))]) hK d_Revoke_change_33 (by decide) rfl ?_
  refine r_iload hK d_Revoke_change_35 0 rfl ?_
  refine r_nif_ne (a := 1) (tgt := 42) hK d_Revoke_change_37 (by decide) (by decide) (fun _ => ?_) (fun z => absurd z (by decide))
  refine r_aload_n hK d_Revoke_change_42 rfl 2 rfl ?_
  refine p_getI (f := 47) (v := nI 0) hK d_Revoke_change_43 k_Revoke fd_Revoke_15_Revoke (by decide) rfl rfl (fun g h => h.getI ho (by decide) rfl hu) ?_
  refine r_nif_eq (a := 0) (tgt := 70) hK d_Revoke_change_46 (by decide) (by decide) (fun _ => ?_) (fun z => absurd z (by decide))
  refine r_aload_n hK d_Revoke_change_70 rfl 3 rfl ?_
  refine r_iload_n hK d_Revoke_change_71 rfl 5 rfl ?_
  refine r_aload_n hK d_Revoke_change_72 rfl 2 rfl ?_
  refine p_getI (f := 47) (v := nI 0) hK d_Revoke_change_73 k_Revoke fd_Revoke_15_Revoke (by decide) rfl rfl (fun g h => h.getI ho (by decide) rfl hu) ?_
  refine r_nif_eq (a := 0) (tgt := 83) hK d_Revoke_change_76 (by decide) (by decide) (fun _ => ?_) (fun z => absurd z (by decide))
  refine r_iload hK d_Revoke_change_83 1 rfl ?_
  refine r_iconst (v := nI 0) hK d_Revoke_change_85 (by decide) ?_
  refine r_callVv (As := [.int (nI pg), .int fv, .int (nI 0)]) (b := m) (st := []) hK (hset) d_Revoke_change_86 ml_Revoke_48 cv_Machine_set rfl (by decide) (p_recv k_Machine (fun g h => h.kd hm (by decide))) (Nat.le_of_ble_eq_true rfl) ?_ rfl
  refine r_iconst (v := nI 1) hK d_Revoke_change_89 (by decide) ?_
  refine r_iret hK d_Revoke_change_90 rfl (rfl) ?_
  exact ⟨rfl, rfl⟩
set_option maxHeartbeats 1000000 in
theorem c_Revoke_send_own (X : gCx) (l : Launch) (s : sS) (s1 : sS) (o fr n : Nat) (ho : gk s.1 o = 12) (hfr : gi s.1 42 o = nI fr) (hn : gi s.1 43 o = nI n) (p : Nat) (hp : gk s.1 p = 3) (hdr : gMv X l (HoldP X (Abs X)) M_Processor_drop 0 0 0 [.ref p, .int (nI fr), .int (nI n)] s s1) : gMv X l (HoldP X (Abs X)) M_Revoke_send 3 2 5 [.ref o, .ref p, .ref p] s s1 := by
  refine gM_intro (by decide) (Nat.le_of_ble_eq_true rfl) (fun K hK => ?_)
  show K 0 [(0, .ref o), (1, .ref p), (2, .ref p)] [] s 2 5
  refine r_aload_n hK d_Revoke_send_0 rfl 1 rfl ?_
  refine r_aload_n hK d_Revoke_send_1 rfl 2 rfl ?_
  refine r_acmp_ne (a := some p) (b := some p) (tgt := 18) hK d_Revoke_send_2 (by decide) (fun z => False.elim (z rfl)) (fun c2 => ?_)
  refine r_aload_n hK d_Revoke_send_5 rfl 2 rfl ?_
  refine r_aload_n hK d_Revoke_send_6 rfl 0 rfl ?_
  refine p_getI (f := 42) (v := nI fr) hK d_Revoke_send_7 k_Revoke fd_Revoke_87_Revoke (by decide) rfl rfl (fun g h => h.getI ho (by decide) rfl hfr) ?_
  refine r_aload_n hK d_Revoke_send_10 rfl 0 rfl ?_
  refine p_getI (f := 43) (v := nI n) hK d_Revoke_send_11 k_Revoke fd_Revoke_90_Revoke (by decide) rfl rfl (fun g h => h.getI ho (by decide) rfl hn) ?_
  refine r_callVv (As := [.int (nI fr), .int (nI n)]) (b := p) (st := []) hK (hdr) d_Revoke_send_14 ml_Revoke_93 cv_Processor_drop rfl (by decide) (p_recv k_Processor (fun g h => h.kd hp (by decide))) (Nat.le_of_ble_eq_true rfl) ?_ rfl
  refine r_vret hK d_Revoke_send_17 rfl ?_
  exact ⟨rfl, rfl⟩
set_option maxHeartbeats 1000000 in
theorem c_Revoke_send_mail (X : gCx) (l : Launch) (s : sS) (o fr n : Nat) (ho : gk s.1 o = 12) (hfr : gi s.1 42 o = nI fr) (hn : gi s.1 43 o = nI n) (q p ml a k : Nat) (hq : gk s.1 q = 3) (hml : gk s.1 ml = 4) (hqm : gr s.1 16 q = some ml) (hk : gi s.1 52 o = nI k) (hne : q ≠ p) (ha : gx s.1 = a) (n1 : o ≠ a) (n2 : ml ≠ a) : gMv X l (HoldP X (Abs X)) M_Revoke_send 3 2 5 [.ref o, .ref q, .ref p] s (sSetI (sPush (sSetR (sSetI (sSetI (sNew s 6) 28 a (nI fr)) 29 a (nI n)) 30 a (some o)) ml a) 52 o (nI (k + 1))) := by
  refine gM_intro (by decide) (Nat.le_of_ble_eq_true rfl) (fun K hK => ?_)
  show K 0 [(0, .ref o), (1, .ref q), (2, .ref p)] [] s 2 5
  refine r_aload_n hK d_Revoke_send_0 rfl 1 rfl ?_
  refine r_aload_n hK d_Revoke_send_1 rfl 2 rfl ?_
  refine r_acmp_ne (a := some q) (b := some p) (tgt := 18) hK d_Revoke_send_2 (by decide) (fun c2 => ?_) (fun z => False.elim (hne (Option.some.inj z)))
  refine r_aload_n hK d_Revoke_send_18 rfl 1 rfl ?_
  refine p_getR (f := 16) (v := some ml) hK d_Revoke_send_19 k_Processor fd_Revoke_98_Processor (by decide) rfl rfl (fun g h => h.getR hq (by decide) rfl hqm) ?_
  refine p_new (ci := 6) (a := a) hK d_Revoke_send_22 k_Request cl_Revoke_102 in_Request ii_Request (fun g h => h.new ha (by decide) (by decide)) ?_
  refine r_dup hK d_Revoke_send_25 rfl ?_
  refine r_aload_n hK d_Revoke_send_26 rfl 0 rfl ?_
  refine p_getI (f := 42) (v := nI fr) hK d_Revoke_send_27 k_Revoke fd_Revoke_87_Revoke (by decide) rfl rfl (fun g h => h.getI (by simp [sSetI, sSetR, sSetA, sSetB, sSetQ, sSetL, sSetT, sNew, sNewA, sNewL, sPush, sBump, sBegL, sPutT, sq, sl, sr, gSetI, gSetR, gSetA, gSetB, gNew, gNewA, up2, up1, gx, gk, gl, gi, gr, ga, gb, ha, n1, n2, ho]) (by decide) rfl (by simp [sSetI, sSetR, sSetA, sSetB, sSetQ, sSetL, sSetT, sNew, sNewA, sNewL, sPush, sBump, sBegL, sPutT, sq, sl, sr, gSetI, gSetR, gSetA, gSetB, gNew, gNewA, up2, up1, gx, gk, gl, gi, gr, ga, gb, ha, n1, n2, hfr])) ?_
  refine r_aload_n hK d_Revoke_send_30 rfl 0 rfl ?_
  refine p_getI (f := 43) (v := nI n) hK d_Revoke_send_31 k_Revoke fd_Revoke_90_Revoke (by decide) rfl rfl (fun g h => h.getI (by simp [sSetI, sSetR, sSetA, sSetB, sSetQ, sSetL, sSetT, sNew, sNewA, sNewL, sPush, sBump, sBegL, sPutT, sq, sl, sr, gSetI, gSetR, gSetA, gSetB, gNew, gNewA, up2, up1, gx, gk, gl, gi, gr, ga, gb, ha, n1, n2, ho]) (by decide) rfl (by simp [sSetI, sSetR, sSetA, sSetB, sSetQ, sSetL, sSetT, sNew, sNewA, sNewL, sPush, sBump, sBegL, sPutT, sq, sl, sr, gSetI, gSetR, gSetA, gSetB, gNew, gNewA, up2, up1, gx, gk, gl, gi, gr, ga, gb, ha, n1, n2, hn])) ?_
  refine r_aload_n hK d_Revoke_send_34 rfl 0 rfl ?_
  refine r_callNv (As := [.int (nI fr), .int (nI n), .ref o]) (b := a) (st := [.ref a, .ref ml]) hK (c_Request_init X l (sNew s 6) a o (nI fr) (nI n) (by simp [sSetI, sSetR, sSetA, sSetB, sSetQ, sSetL, sSetT, sNew, sNewA, sNewL, sPush, sBump, sBegL, sPutT, sq, sl, sr, gSetI, gSetR, gSetA, gSetB, gNew, gNewA, up2, up1, gx, gk, gl, gi, gr, ga, gb, ha, n1, n2])) d_Revoke_send_35 mn_Revoke_104 ci_Request_init rfl (by decide) (Nat.le_of_ble_eq_true rfl) ?_ rfl
  have hsq : sq (sSetR (sSetI (sSetI (sNew s 6) 28 a (nI fr)) 29 a (nI n)) 30 a (some o)) ml = sq s ml := by simp [sSetI, sSetR, sSetA, sSetB, sSetQ, sSetL, sSetT, sNew, sNewA, sNewL, sPush, sBump, sBegL, sPutT, sq, sl, sr, gSetI, gSetR, gSetA, gSetB, gNew, gNewA, up2, up1, gx, gk, gl, gi, gr, ga, gb, ha, n1, n2]
  have hadd := cS_add (X := X) (l := l) (s := sSetR (sSetI (sSetI (sNew s 6) 28 a (nI fr)) 29 a (nI n)) 30 a (some o)) ml a (by simp [sSetI, sSetR, sSetA, sSetB, sSetQ, sSetL, sSetT, sNew, sNewA, sNewL, sPush, sBump, sBegL, sPutT, sq, sl, sr, gSetI, gSetR, gSetA, gSetB, gNew, gNewA, up2, up1, gx, gk, gl, gi, gr, ga, gb, ha, n1, n2, hml])
  refine r_callVv (As := [.ref a]) (b := ml) (st := []) hK (hadd) d_Revoke_send_38 ml_Revoke_107 cv_Line_add rfl (by decide) (p_recv k_Line (fun g h => h.kd (by simp [sSetI, sSetR, sSetA, sSetB, sSetQ, sSetL, sSetT, sNew, sNewA, sNewL, sPush, sBump, sBegL, sPutT, sq, sl, sr, gSetI, gSetR, gSetA, gSetB, gNew, gNewA, up2, up1, gx, gk, gl, gi, gr, ga, gb, ha, n1, n2, hml]) (by decide))) (Nat.le_of_ble_eq_true rfl) ?_ rfl
  refine r_aload_n hK d_Revoke_send_41 rfl 0 rfl ?_
  refine r_dup hK d_Revoke_send_42 rfl ?_
  refine p_getI (f := 52) (v := nI k) hK d_Revoke_send_43 k_Revoke fd_Revoke_77_Revoke (by decide) rfl rfl (fun g h => h.getI (by simp [sSetI, sSetR, sSetA, sSetB, sSetQ, sSetL, sSetT, sNew, sNewA, sNewL, sPush, sBump, sBegL, sPutT, sq, sl, sr, gSetI, gSetR, gSetA, gSetB, gNew, gNewA, up2, up1, gx, gk, gl, gi, gr, ga, gb, ha, n1, n2, ho]) (by decide) rfl (by simp [sSetI, sSetR, sSetA, sSetB, sSetQ, sSetL, sSetT, sNew, sNewA, sNewL, sPush, sBump, sBegL, sPutT, sq, sl, sr, gSetI, gSetR, gSetA, gSetB, gNew, gNewA, up2, up1, gx, gk, gl, gi, gr, ga, gb, ha, n1, n2, hk])) ?_
  refine r_iconst (v := nI 1) hK d_Revoke_send_46 (by decide) ?_
  refine r_iadd hK d_Revoke_send_47 ?_
  refine r_tp (b := nI (k + 1)) (nI_add _ _) ?_
  refine p_putI (k := 5) (f := 52) hK d_Revoke_send_48 k_Revoke fd_Revoke_77_Revoke (by decide) rfl rfl rfl rfl rfl (fun g h => ⟨h.kd (by simp [sSetI, sSetR, sSetA, sSetB, sSetQ, sSetL, sSetT, sNew, sNewA, sNewL, sPush, sBump, sBegL, sPutT, sq, sl, sr, gSetI, gSetR, gSetA, gSetB, gNew, gNewA, up2, up1, gx, gk, gl, gi, gr, ga, gb, ha, n1, n2, ho]) (by decide), h.setI (nz_of (k := 11) (by simp [sSetI, sSetR, sSetA, sSetB, sSetQ, sSetL, sSetT, sNew, sNewA, sNewL, sPush, sBump, sBegL, sPutT, sq, sl, sr, gSetI, gSetR, gSetA, gSetB, gNew, gNewA, up2, up1, gx, gk, gl, gi, gr, ga, gb, ha, n1, n2, ho])) rfl⟩) ?_
  refine r_vret hK d_Revoke_send_51 rfl ?_
  exact ⟨rfl, rfl⟩
set_option maxHeartbeats 1000000 in
theorem c_Revoke_further_send0 (X : gCx) (l : Launch) (s : sS) (s1 : sS) (o m p pa k q : Nat) (ho : gk s.1 o = 12) (hm : gk s.1 m = 2) (hmp : gr s.1 5 m = some pa) (hpa : gk s.1 pa = 102) (hpal : gl s.1 pa = 4) (hph : gr s.1 39 o = some (cxE X 7)) (hk : gi s.1 51 o = nI k) (hk4 : k < 4) (hq : gb s.1 pa k = some q) (hse : gMv X l (HoldP X (Abs X)) M_Revoke_send 3 2 5 [.ref o, .ref q, .ref p] s s1) (ho1 : gk s1.1 o = 12) (hk1 : gi s1.1 51 o = nI k) (hl : k + 1 ≠ 4) : gMv X l (HoldP X (Abs X)) M_Revoke_further 4 2 5 [.ref o, .ref m, .ref p] s (sSetR (sSetI s1 51 o (nI (k + 1))) 39 o (some (cxE X 7))) := by
  refine gM_intro (by decide) (Nat.le_of_ble_eq_true rfl) (fun K hK => ?_)
  show K 0 [(0, .ref o), (1, .ref m), (2, .ref p)] [] s 2 5
  refine r_aload_n hK d_Revoke_further_0 rfl 0 rfl ?_
  refine p_getR (f := 39) (v := some (cxE X 7)) hK d_Revoke_further_1 k_Revoke fd_Revoke_52_Revoke (by decide) rfl rfl (fun g h => h.getR ho (by decide) rfl hph) ?_
  refine r_callUi (As := []) (b := cxE X 7) (st := []) hK (c_Enum_ordinal X l (HoldP X (Abs X)) s 7 (nI 7) (by decide) (by decide)) d_Revoke_further_4 ml_Revoke_55 cu_Phase_Phase_Enum_ordinal rfl (by decide) (p_recvE (by decide)) (Nat.le_of_ble_eq_true rfl) ?_ rfl
  refine r_lookup (off := 25) (tgt := 32) hK d_Revoke_further_7 (by decide) (by decide) (by decide) ?_
  refine r_aload_n hK d_Revoke_further_32 rfl 0 rfl ?_
  refine r_aload_n hK d_Revoke_further_33 rfl 1 rfl ?_
  refine p_getR (f := 5) (v := some pa) hK d_Revoke_further_34 k_Machine fd_Revoke_59_Machine (by decide) rfl rfl (fun g h => h.getR hm (by decide) rfl hmp) ?_
  refine r_aload_n hK d_Revoke_further_37 rfl 0 rfl ?_
  refine p_getI (f := 51) (v := nI k) hK d_Revoke_further_38 k_Revoke fd_Revoke_63_Revoke (by decide) rfl rfl (fun g h => h.getI ho (by decide) rfl hk) ?_
  refine p_aald (t := 2) (v := some q) hK k 4 d_Revoke_further_41 (by decide) (by decide) rfl rfl (by omega) (fun g h => have e := h.arr (a := pa) (t := 2) (L := 4) (j := k) hpa hpal; ⟨e.1, e.2.1, e.2.2.2.trans hq⟩) ?_
  refine r_aload_n hK d_Revoke_further_42 rfl 2 rfl ?_
  refine r_callVv (As := [.ref q, .ref p]) (b := o) (st := []) hK (hse) d_Revoke_further_43 ml_Revoke_66 cv_Revoke_send rfl (by decide) (p_recv k_Revoke (fun g h => h.kd ho (by decide))) (Nat.le_of_ble_eq_true rfl) ?_ rfl
  refine r_aload_n hK d_Revoke_further_46 rfl 0 rfl ?_
  refine r_dup hK d_Revoke_further_47 rfl ?_
  refine p_getI (f := 51) (v := nI k) hK d_Revoke_further_48 k_Revoke fd_Revoke_63_Revoke (by decide) rfl rfl (fun g h => h.getI ho1 (by decide) rfl hk1) ?_
  refine r_iconst (v := nI 1) hK d_Revoke_further_51 (by decide) ?_
  refine r_iadd hK d_Revoke_further_52 ?_
  refine r_tp (b := nI (k + 1)) (nI_add _ _) ?_
  refine p_putI (k := 4) (f := 51) hK d_Revoke_further_53 k_Revoke fd_Revoke_63_Revoke (by decide) rfl rfl rfl rfl rfl (fun g h => ⟨h.kd ho1 (by decide), h.setI (nz_of (k := 11) ho1) rfl⟩) ?_
  refine r_aload_n hK d_Revoke_further_56 rfl 0 rfl ?_
  refine r_aload_n hK d_Revoke_further_57 rfl 0 rfl ?_
  refine p_getI (f := 51) (v := nI (k + 1)) hK d_Revoke_further_58 k_Revoke fd_Revoke_63_Revoke (by decide) rfl rfl (fun g h => h.getI ho1 (by decide) rfl (by simp [sSetI, sSetR, sSetA, sSetB, sSetQ, sSetL, sSetT, sNew, sNewA, sNewL, sPush, sBump, sBegL, sPutT, sq, sl, sr, gSetI, gSetR, gSetA, gSetB, gNew, gNewA, up2, up1, gx, gk, gl, gi, gr, ga, gb])) ?_
  refine r_iconst (v := nI 4) hK d_Revoke_further_61 (by decide) ?_
  refine r_ncmp_ne (a := k + 1) (b := 4) (tgt := 71) hK d_Revoke_further_62 (by decide) (by omega) (by omega) (fun c62 => ?_) (fun z => False.elim (by omega))
  refine p_phase (e0 := 7) hK d_Revoke_further_71 rfl fs_Revoke_29 ?_
  refine r_callUi (As := [.ref (cxE X 7)]) (b := o) (st := []) hK (c_Order_go_Revoke X l (sSetI s1 51 o (nI (k + 1))) o (cxE X 7) ho1) d_Revoke_further_74 ml_Revoke_73 cu_Revoke_Revoke_Order_go rfl (by decide) (p_recv k_Revoke (fun g h => h.kd ho1 (by decide))) (Nat.le_of_ble_eq_true rfl) ?_ rfl
  refine r_pop hK d_Revoke_further_77 rfl ?_
  refine r_goto (tgt := 124) hK d_Revoke_further_78 (by decide) ?_
  refine r_vret hK d_Revoke_further_124 rfl ?_
  exact ⟨rfl, rfl⟩
set_option maxHeartbeats 1000000 in
theorem c_Revoke_further_send1 (X : gCx) (l : Launch) (s : sS) (s1 : sS) (o m p pa k q : Nat) (ho : gk s.1 o = 12) (hm : gk s.1 m = 2) (hmp : gr s.1 5 m = some pa) (hpa : gk s.1 pa = 102) (hpal : gl s.1 pa = 4) (hph : gr s.1 39 o = some (cxE X 7)) (hk : gi s.1 51 o = nI k) (hk4 : k < 4) (hq : gb s.1 pa k = some q) (hse : gMv X l (HoldP X (Abs X)) M_Revoke_send 3 2 5 [.ref o, .ref q, .ref p] s s1) (ho1 : gk s1.1 o = 12) (hk1 : gi s1.1 51 o = nI k) (hl : k + 1 = 4) : gMv X l (HoldP X (Abs X)) M_Revoke_further 4 2 5 [.ref o, .ref m, .ref p] s (sSetR (sSetI s1 51 o (nI (k + 1))) 39 o (some (cxE X 8))) := by
  refine gM_intro (by decide) (Nat.le_of_ble_eq_true rfl) (fun K hK => ?_)
  show K 0 [(0, .ref o), (1, .ref m), (2, .ref p)] [] s 2 5
  refine r_aload_n hK d_Revoke_further_0 rfl 0 rfl ?_
  refine p_getR (f := 39) (v := some (cxE X 7)) hK d_Revoke_further_1 k_Revoke fd_Revoke_52_Revoke (by decide) rfl rfl (fun g h => h.getR ho (by decide) rfl hph) ?_
  refine r_callUi (As := []) (b := cxE X 7) (st := []) hK (c_Enum_ordinal X l (HoldP X (Abs X)) s 7 (nI 7) (by decide) (by decide)) d_Revoke_further_4 ml_Revoke_55 cu_Phase_Phase_Enum_ordinal rfl (by decide) (p_recvE (by decide)) (Nat.le_of_ble_eq_true rfl) ?_ rfl
  refine r_lookup (off := 25) (tgt := 32) hK d_Revoke_further_7 (by decide) (by decide) (by decide) ?_
  refine r_aload_n hK d_Revoke_further_32 rfl 0 rfl ?_
  refine r_aload_n hK d_Revoke_further_33 rfl 1 rfl ?_
  refine p_getR (f := 5) (v := some pa) hK d_Revoke_further_34 k_Machine fd_Revoke_59_Machine (by decide) rfl rfl (fun g h => h.getR hm (by decide) rfl hmp) ?_
  refine r_aload_n hK d_Revoke_further_37 rfl 0 rfl ?_
  refine p_getI (f := 51) (v := nI k) hK d_Revoke_further_38 k_Revoke fd_Revoke_63_Revoke (by decide) rfl rfl (fun g h => h.getI ho (by decide) rfl hk) ?_
  refine p_aald (t := 2) (v := some q) hK k 4 d_Revoke_further_41 (by decide) (by decide) rfl rfl (by omega) (fun g h => have e := h.arr (a := pa) (t := 2) (L := 4) (j := k) hpa hpal; ⟨e.1, e.2.1, e.2.2.2.trans hq⟩) ?_
  refine r_aload_n hK d_Revoke_further_42 rfl 2 rfl ?_
  refine r_callVv (As := [.ref q, .ref p]) (b := o) (st := []) hK (hse) d_Revoke_further_43 ml_Revoke_66 cv_Revoke_send rfl (by decide) (p_recv k_Revoke (fun g h => h.kd ho (by decide))) (Nat.le_of_ble_eq_true rfl) ?_ rfl
  refine r_aload_n hK d_Revoke_further_46 rfl 0 rfl ?_
  refine r_dup hK d_Revoke_further_47 rfl ?_
  refine p_getI (f := 51) (v := nI k) hK d_Revoke_further_48 k_Revoke fd_Revoke_63_Revoke (by decide) rfl rfl (fun g h => h.getI ho1 (by decide) rfl hk1) ?_
  refine r_iconst (v := nI 1) hK d_Revoke_further_51 (by decide) ?_
  refine r_iadd hK d_Revoke_further_52 ?_
  refine r_tp (b := nI (k + 1)) (nI_add _ _) ?_
  refine p_putI (k := 4) (f := 51) hK d_Revoke_further_53 k_Revoke fd_Revoke_63_Revoke (by decide) rfl rfl rfl rfl rfl (fun g h => ⟨h.kd ho1 (by decide), h.setI (nz_of (k := 11) ho1) rfl⟩) ?_
  refine r_aload_n hK d_Revoke_further_56 rfl 0 rfl ?_
  refine r_aload_n hK d_Revoke_further_57 rfl 0 rfl ?_
  refine p_getI (f := 51) (v := nI (k + 1)) hK d_Revoke_further_58 k_Revoke fd_Revoke_63_Revoke (by decide) rfl rfl (fun g h => h.getI ho1 (by decide) rfl (by simp [sSetI, sSetR, sSetA, sSetB, sSetQ, sSetL, sSetT, sNew, sNewA, sNewL, sPush, sBump, sBegL, sPutT, sq, sl, sr, gSetI, gSetR, gSetA, gSetB, gNew, gNewA, up2, up1, gx, gk, gl, gi, gr, ga, gb])) ?_
  refine r_iconst (v := nI 4) hK d_Revoke_further_61 (by decide) ?_
  refine r_ncmp_ne (a := k + 1) (b := 4) (tgt := 71) hK d_Revoke_further_62 (by decide) (by omega) (by omega) (fun z => False.elim (by omega)) (fun c62 => ?_)
  refine p_phase (e0 := 8) hK d_Revoke_further_65 rfl fs_Revoke_70 ?_
  refine r_goto (tgt := 74) hK d_Revoke_further_68 (by decide) ?_
  refine r_callUi (As := [.ref (cxE X 8)]) (b := o) (st := []) hK (c_Order_go_Revoke X l (sSetI s1 51 o (nI (k + 1))) o (cxE X 8) ho1) d_Revoke_further_74 ml_Revoke_73 cu_Revoke_Revoke_Order_go rfl (by decide) (p_recv k_Revoke (fun g h => h.kd ho1 (by decide))) (Nat.le_of_ble_eq_true rfl) ?_ rfl
  refine r_pop hK d_Revoke_further_77 rfl ?_
  refine r_goto (tgt := 124) hK d_Revoke_further_78 (by decide) ?_
  refine r_vret hK d_Revoke_further_124 rfl ?_
  exact ⟨rfl, rfl⟩
set_option maxHeartbeats 1000000 in
theorem c_Revoke_further_await (X : gCx) (l : Launch) (s : sS) (o m p : Nat) (ho : gk s.1 o = 12) (hph : gr s.1 39 o = some (cxE X 8)) (k : Nat) (how : gi s.1 52 o = nI (k + 1)) (hkb : k < 100) : gMv X l (HoldP X (Abs X)) M_Revoke_further 4 2 5 [.ref o, .ref m, .ref p] s (sSetR s 39 o (some (cxE X 8))) := by
  refine gM_intro (by decide) (Nat.le_of_ble_eq_true rfl) (fun K hK => ?_)
  show K 0 [(0, .ref o), (1, .ref m), (2, .ref p)] [] s 2 5
  refine r_aload_n hK d_Revoke_further_0 rfl 0 rfl ?_
  refine p_getR (f := 39) (v := some (cxE X 8)) hK d_Revoke_further_1 k_Revoke fd_Revoke_52_Revoke (by decide) rfl rfl (fun g h => h.getR ho (by decide) rfl hph) ?_
  refine r_callUi (As := []) (b := cxE X 8) (st := []) hK (c_Enum_ordinal X l (HoldP X (Abs X)) s 8 (nI 8) (by decide) (by decide)) d_Revoke_further_4 ml_Revoke_55 cu_Phase_Phase_Enum_ordinal rfl (by decide) (p_recvE (by decide)) (Nat.le_of_ble_eq_true rfl) ?_ rfl
  refine r_lookup (off := 74) (tgt := 81) hK d_Revoke_further_7 (by decide) (by decide) (by decide) ?_
  refine r_aload_n hK d_Revoke_further_81 rfl 0 rfl ?_
  refine r_aload_n hK d_Revoke_further_82 rfl 0 rfl ?_
  refine p_getI (f := 52) (v := nI (k + 1)) hK d_Revoke_further_83 k_Revoke fd_Revoke_77_Revoke (by decide) rfl rfl (fun g h => h.getI ho (by decide) rfl how) ?_
  refine r_nif_le (a := k + 1) (tgt := 95) hK d_Revoke_further_86 (by decide) (by omega) (fun z => False.elim (by omega)) (fun c86 => ?_)
  refine p_phase (e0 := 8) hK d_Revoke_further_89 rfl fs_Revoke_70 ?_
  refine r_goto (tgt := 111) hK d_Revoke_further_92 (by decide) ?_
  refine r_callUi (As := [.ref (cxE X 8)]) (b := o) (st := []) hK (c_Order_go_Revoke X l s o (cxE X 8) ho) d_Revoke_further_111 ml_Revoke_73 cu_Revoke_Revoke_Order_go rfl (by decide) (p_recv k_Revoke (fun g h => h.kd ho (by decide))) (Nat.le_of_ble_eq_true rfl) ?_ rfl
  refine r_pop hK d_Revoke_further_114 rfl ?_
  refine r_goto (tgt := 124) hK d_Revoke_further_115 (by decide) ?_
  refine r_vret hK d_Revoke_further_124 rfl ?_
  exact ⟨rfl, rfl⟩
set_option maxHeartbeats 1000000 in
theorem c_Revoke_further_free1 (X : gCx) (l : Launch) (s : sS) (o m p : Nat) (ho : gk s.1 o = 12) (hph : gr s.1 39 o = some (cxE X 8)) (how : gi s.1 52 o = nI 0) (hum : gi s.1 47 o = nI 1) : gMv X l (HoldP X (Abs X)) M_Revoke_further 4 2 5 [.ref o, .ref m, .ref p] s (sSetR s 39 o (some (cxE X 9))) := by
  refine gM_intro (by decide) (Nat.le_of_ble_eq_true rfl) (fun K hK => ?_)
  show K 0 [(0, .ref o), (1, .ref m), (2, .ref p)] [] s 2 5
  refine r_aload_n hK d_Revoke_further_0 rfl 0 rfl ?_
  refine p_getR (f := 39) (v := some (cxE X 8)) hK d_Revoke_further_1 k_Revoke fd_Revoke_52_Revoke (by decide) rfl rfl (fun g h => h.getR ho (by decide) rfl hph) ?_
  refine r_callUi (As := []) (b := cxE X 8) (st := []) hK (c_Enum_ordinal X l (HoldP X (Abs X)) s 8 (nI 8) (by decide) (by decide)) d_Revoke_further_4 ml_Revoke_55 cu_Phase_Phase_Enum_ordinal rfl (by decide) (p_recvE (by decide)) (Nat.le_of_ble_eq_true rfl) ?_ rfl
  refine r_lookup (off := 74) (tgt := 81) hK d_Revoke_further_7 (by decide) (by decide) (by decide) ?_
  refine r_aload_n hK d_Revoke_further_81 rfl 0 rfl ?_
  refine r_aload_n hK d_Revoke_further_82 rfl 0 rfl ?_
  refine p_getI (f := 52) (v := nI 0) hK d_Revoke_further_83 k_Revoke fd_Revoke_77_Revoke (by decide) rfl rfl (fun g h => h.getI ho (by decide) rfl how) ?_
  refine r_nif_le (a := 0) (tgt := 95) hK d_Revoke_further_86 (by decide) (by decide) (fun _ => ?_) (fun z => absurd z (by decide))
  refine r_aload_n hK d_Revoke_further_95 rfl 0 rfl ?_
  refine p_getI (f := 47) (v := nI 1) hK d_Revoke_further_96 k_Revoke fd_Revoke_15_Revoke (by decide) rfl rfl (fun g h => h.getI ho (by decide) rfl hum) ?_
  refine r_nif_eq (a := 1) (tgt := 108) hK d_Revoke_further_99 (by decide) (by decide) (fun z => absurd z (by decide)) (fun _ => ?_)
  refine p_phase (e0 := 9) hK d_Revoke_further_102 rfl fs_Revoke_80 ?_
  refine r_goto (tgt := 111) hK d_Revoke_further_105 (by decide) ?_
  refine r_callUi (As := [.ref (cxE X 9)]) (b := o) (st := []) hK (c_Order_go_Revoke X l s o (cxE X 9) ho) d_Revoke_further_111 ml_Revoke_73 cu_Revoke_Revoke_Order_go rfl (by decide) (p_recv k_Revoke (fun g h => h.kd ho (by decide))) (Nat.le_of_ble_eq_true rfl) ?_ rfl
  refine r_pop hK d_Revoke_further_114 rfl ?_
  refine r_goto (tgt := 124) hK d_Revoke_further_115 (by decide) ?_
  refine r_vret hK d_Revoke_further_124 rfl ?_
  exact ⟨rfl, rfl⟩
set_option maxHeartbeats 1000000 in
theorem c_Revoke_further_free0 (X : gCx) (l : Launch) (s : sS) (o m p : Nat) (ho : gk s.1 o = 12) (hph : gr s.1 39 o = some (cxE X 8)) (how : gi s.1 52 o = nI 0) (hum : gi s.1 47 o = nI 0) : gMv X l (HoldP X (Abs X)) M_Revoke_further 4 2 5 [.ref o, .ref m, .ref p] s (sSetR s 39 o (some (cxE X 10))) := by
  refine gM_intro (by decide) (Nat.le_of_ble_eq_true rfl) (fun K hK => ?_)
  show K 0 [(0, .ref o), (1, .ref m), (2, .ref p)] [] s 2 5
  refine r_aload_n hK d_Revoke_further_0 rfl 0 rfl ?_
  refine p_getR (f := 39) (v := some (cxE X 8)) hK d_Revoke_further_1 k_Revoke fd_Revoke_52_Revoke (by decide) rfl rfl (fun g h => h.getR ho (by decide) rfl hph) ?_
  refine r_callUi (As := []) (b := cxE X 8) (st := []) hK (c_Enum_ordinal X l (HoldP X (Abs X)) s 8 (nI 8) (by decide) (by decide)) d_Revoke_further_4 ml_Revoke_55 cu_Phase_Phase_Enum_ordinal rfl (by decide) (p_recvE (by decide)) (Nat.le_of_ble_eq_true rfl) ?_ rfl
  refine r_lookup (off := 74) (tgt := 81) hK d_Revoke_further_7 (by decide) (by decide) (by decide) ?_
  refine r_aload_n hK d_Revoke_further_81 rfl 0 rfl ?_
  refine r_aload_n hK d_Revoke_further_82 rfl 0 rfl ?_
  refine p_getI (f := 52) (v := nI 0) hK d_Revoke_further_83 k_Revoke fd_Revoke_77_Revoke (by decide) rfl rfl (fun g h => h.getI ho (by decide) rfl how) ?_
  refine r_nif_le (a := 0) (tgt := 95) hK d_Revoke_further_86 (by decide) (by decide) (fun _ => ?_) (fun z => absurd z (by decide))
  refine r_aload_n hK d_Revoke_further_95 rfl 0 rfl ?_
  refine p_getI (f := 47) (v := nI 0) hK d_Revoke_further_96 k_Revoke fd_Revoke_15_Revoke (by decide) rfl rfl (fun g h => h.getI ho (by decide) rfl hum) ?_
  refine r_nif_eq (a := 0) (tgt := 108) hK d_Revoke_further_99 (by decide) (by decide) (fun _ => ?_) (fun z => absurd z (by decide))
  refine p_phase (e0 := 10) hK d_Revoke_further_108 rfl fs_Revoke_32 ?_
  refine r_callUi (As := [.ref (cxE X 10)]) (b := o) (st := []) hK (c_Order_go_Revoke X l s o (cxE X 10) ho) d_Revoke_further_111 ml_Revoke_73 cu_Revoke_Revoke_Order_go rfl (by decide) (p_recv k_Revoke (fun g h => h.kd ho (by decide))) (Nat.le_of_ble_eq_true rfl) ?_ rfl
  refine r_pop hK d_Revoke_further_114 rfl ?_
  refine r_goto (tgt := 124) hK d_Revoke_further_115 (by decide) ?_
  refine r_vret hK d_Revoke_further_124 rfl ?_
  exact ⟨rfl, rfl⟩
set_option maxHeartbeats 1000000 in
theorem c_Revoke_further_release (X : gCx) (l : Launch) (s : sS) (s1 : sS) (o m p : Nat) (ho : gk s.1 o = 12) (hph : gr s.1 39 o = some (cxE X 9)) (hre : gMv X l (HoldP X (Abs X)) M_Revoke_release 3 1 2 [.ref o, .ref m, .ref p] s s1) : gMv X l (HoldP X (Abs X)) M_Revoke_further 4 2 5 [.ref o, .ref m, .ref p] s s1 := by
  refine gM_intro (by decide) (Nat.le_of_ble_eq_true rfl) (fun K hK => ?_)
  show K 0 [(0, .ref o), (1, .ref m), (2, .ref p)] [] s 2 5
  refine r_aload_n hK d_Revoke_further_0 rfl 0 rfl ?_
  refine p_getR (f := 39) (v := some (cxE X 9)) hK d_Revoke_further_1 k_Revoke fd_Revoke_52_Revoke (by decide) rfl rfl (fun g h => h.getR ho (by decide) rfl hph) ?_
  refine r_callUi (As := []) (b := cxE X 9) (st := []) hK (c_Enum_ordinal X l (HoldP X (Abs X)) s 9 (nI 9) (by decide) (by decide)) d_Revoke_further_4 ml_Revoke_55 cu_Phase_Phase_Enum_ordinal rfl (by decide) (p_recvE (by decide)) (Nat.le_of_ble_eq_true rfl) ?_ rfl
  refine r_lookup (off := 111) (tgt := 118) hK d_Revoke_further_7 (by decide) (by decide) (by decide) ?_
  refine r_aload_n hK d_Revoke_further_118 rfl 0 rfl ?_
  refine r_aload_n hK d_Revoke_further_119 rfl 1 rfl ?_
  refine r_aload_n hK d_Revoke_further_120 rfl 2 rfl ?_
  refine r_callVv (As := [.ref m, .ref p]) (b := o) (st := []) hK (hre) d_Revoke_further_121 ml_Revoke_83 cv_Revoke_release rfl (by decide) (p_recv k_Revoke (fun g h => h.kd ho (by decide))) (Nat.le_of_ble_eq_true rfl) ?_ rfl
  refine r_vret hK d_Revoke_further_124 rfl ?_
  exact ⟨rfl, rfl⟩
set_option maxHeartbeats 1000000 in
theorem c_Revoke_release_room0 (X : gCx) (l : Launch) (s : sS) (o m p ka k f ks : Nat) (ho : gk s.1 o = 12) (hok : gr s.1 48 o = some ka) (hka : gk s.1 ka = 100) (hkal : gl s.1 ka = 4) (hk : gi s.1 50 o = nI k) (hk4 : k < 4) (hf : ga s.1 ka k = nI f) (hf10 : f < 10) (hks : gi s.1 49 o = nI ks) (hksb : ks < 100) (ra r : Nat) (hp : gk s.1 p = 3) (hr : gi s.1 15 p = nI r) (hr2 : r < 2) (hpr : gr s.1 14 p = some ra) (hra : gk s.1 ra = 100) (hral : gl s.1 ra = 2) (hl : k + 1 ≠ ks)  : gMv X l (HoldP X (Abs X)) M_Revoke_release 3 1 2 [.ref o, .ref m, .ref p] s (sSetR (sSetI (sSetA (sSetI s 50 o (nI (k + 1))) ra r (nI f)) 15 p (nI (r + 1))) 39 o (some (cxE X 9))) := by
  refine gM_intro (by decide) (Nat.le_of_ble_eq_true rfl) (fun K hK => ?_)
  show K 0 [(0, .ref o), (1, .ref m), (2, .ref p)] [] s 1 2
  refine r_aload_n hK d_Revoke_release_0 rfl 0 rfl ?_
  refine p_getR (f := 48) (v := some ka) hK d_Revoke_release_1 k_Revoke fd_Revoke_9_Revoke (by decide) rfl rfl (fun g h => h.getR ho (by decide) rfl hok) ?_
  refine r_aload_n hK d_Revoke_release_4 rfl 0 rfl ?_
  refine p_getI (f := 50) (v := nI k) hK d_Revoke_release_5 k_Revoke fd_Revoke_113_Revoke (by decide) rfl rfl (fun g h => h.getI ho (by decide) rfl hk) ?_
  refine p_iald (v := nI f) hK k 4 d_Revoke_release_8 rfl (by omega) (fun g h => have e := h.arr (a := ka) (t := 0) (L := 4) (j := k) hka hkal; ⟨e.1, e.2.1, e.2.2.1.trans hf⟩) ?_
  refine r_istore_n (lv' := [(3, .int (nI f)), (0, .ref o), (1, .ref m), (2, .ref p)]) hK d_Revoke_release_9 rfl (by decide) rfl ?_
  refine r_aload_n hK d_Revoke_release_10 rfl 1 rfl ?_
  refine r_dup hK d_Revoke_release_11 rfl ?_
  refine p_getI (f := 50) (v := nI k) hK d_Revoke_release_12 k_Revoke fd_Revoke_113_Revoke (by decide) rfl rfl (fun g h => h.getI ho (by decide) rfl hk) ?_
  refine r_iconst (v := nI 1) hK d_Revoke_release_15 (by decide) ?_
  refine r_iadd hK d_Revoke_release_16 ?_
  refine r_tp (b := nI (k + 1)) (nI_add _ _) ?_
  refine p_putI (k := 3) (f := 50) hK d_Revoke_release_17 k_Revoke fd_Revoke_113_Revoke (by decide) rfl rfl rfl rfl rfl (fun g h => ⟨h.kd ho (by decide), h.setI (nz_of (k := 11) ho) rfl⟩) ?_
  refine r_aload_n hK d_Revoke_release_20 rfl 3 rfl ?_
  refine p_getI (f := 15) (v := nI r) hK d_Revoke_release_21 k_Processor fd_Revoke_116_Processor (by decide) rfl rfl (fun g h => h.getI hp (by decide) rfl (by simp [sSetI, sSetR, sSetA, sSetB, sSetQ, sSetL, sSetT, sNew, sNewA, sNewL, sPush, sBump, sBegL, sPutT, sq, sl, sr, gSetI, gSetR, gSetA, gSetB, gNew, gNewA, up2, up1, gx, gk, gl, gi, gr, ga, gb, hr])) ?_
  refine r_iconst (v := nI 2) hK d_Revoke_release_24 (by decide) ?_
  refine r_ncmp_ge (a := r) (b := 2) (tgt := 51) hK d_Revoke_release_25 (by decide) (by omega) (by omega) (fun z => False.elim (by omega)) (fun c25 => ?_)
  refine r_aload_n hK d_Revoke_release_28 rfl 3 rfl ?_
  refine p_getR (f := 14) (v := some ra) hK d_Revoke_release_29 k_Processor fd_Revoke_119_Processor (by decide) rfl rfl (fun g h => h.getR hp (by decide) rfl (by simp [sSetI, sSetR, sSetA, sSetB, sSetQ, sSetL, sSetT, sNew, sNewA, sNewL, sPush, sBump, sBegL, sPutT, sq, sl, sr, gSetI, gSetR, gSetA, gSetB, gNew, gNewA, up2, up1, gx, gk, gl, gi, gr, ga, gb, hpr])) ?_
  refine r_aload_n hK d_Revoke_release_32 rfl 3 rfl ?_
  refine p_getI (f := 15) (v := nI r) hK d_Revoke_release_33 k_Processor fd_Revoke_116_Processor (by decide) rfl rfl (fun g h => h.getI hp (by decide) rfl (by simp [sSetI, sSetR, sSetA, sSetB, sSetQ, sSetL, sSetT, sNew, sNewA, sNewL, sPush, sBump, sBegL, sPutT, sq, sl, sr, gSetI, gSetR, gSetA, gSetB, gNew, gNewA, up2, up1, gx, gk, gl, gi, gr, ga, gb, hr])) ?_
  refine r_iload_n hK d_Revoke_release_36 rfl 0 rfl ?_
  refine p_iast hK r 2 d_Revoke_release_37 rfl (by omega) (fun g h => have e := h.arr (a := ra) (t := 0) (L := 2) (j := 0) hra hral; ⟨e.1, e.2.1, h.setA⟩) ?_
  refine r_aload_n hK d_Revoke_release_38 rfl 3 rfl ?_
  refine r_dup hK d_Revoke_release_39 rfl ?_
  refine p_getI (f := 15) (v := nI r) hK d_Revoke_release_40 k_Processor fd_Revoke_116_Processor (by decide) rfl rfl (fun g h => h.getI hp (by decide) rfl (by simp [sSetI, sSetR, sSetA, sSetB, sSetQ, sSetL, sSetT, sNew, sNewA, sNewL, sPush, sBump, sBegL, sPutT, sq, sl, sr, gSetI, gSetR, gSetA, gSetB, gNew, gNewA, up2, up1, gx, gk, gl, gi, gr, ga, gb, hr])) ?_
  refine r_iconst (v := nI 1) hK d_Revoke_release_43 (by decide) ?_
  refine r_iadd hK d_Revoke_release_44 ?_
  refine r_tp (b := nI (r + 1)) (nI_add _ _) ?_
  refine p_putI (k := 4) (f := 15) hK d_Revoke_release_45 k_Processor fd_Revoke_116_Processor (by decide) rfl rfl rfl rfl rfl (fun g h => ⟨h.kd hp (by decide), h.setI (nz_of (k := 2) hp) rfl⟩) ?_
  refine r_goto (tgt := 62) hK d_Revoke_release_48 (by decide) ?_
  refine r_aload_n hK d_Revoke_release_62 rfl 1 rfl ?_
  refine r_aload_n hK d_Revoke_release_63 rfl 1 rfl ?_
  refine p_getI (f := 50) (v := nI (k + 1)) hK d_Revoke_release_64 k_Revoke fd_Revoke_113_Revoke (by decide) rfl rfl (fun g h => h.getI ho (by decide) rfl (by simp [sSetI, sSetR, sSetA, sSetB, sSetQ, sSetL, sSetT, sNew, sNewA, sNewL, sPush, sBump, sBegL, sPutT, sq, sl, sr, gSetI, gSetR, gSetA, gSetB, gNew, gNewA, up2, up1, gx, gk, gl, gi, gr, ga, gb])) ?_
  refine r_aload_n hK d_Revoke_release_67 rfl 1 rfl ?_
  refine p_getI (f := 49) (v := nI ks) hK d_Revoke_release_68 k_Revoke fd_Revoke_45_Revoke (by decide) rfl rfl (fun g h => h.getI ho (by decide) rfl (by simp [sSetI, sSetR, sSetA, sSetB, sSetQ, sSetL, sSetT, sNew, sNewA, sNewL, sPush, sBump, sBegL, sPutT, sq, sl, sr, gSetI, gSetR, gSetA, gSetB, gNew, gNewA, up2, up1, gx, gk, gl, gi, gr, ga, gb, hks])) ?_
  refine r_ncmp_ne (a := k + 1) (b := ks) (tgt := 80) hK d_Revoke_release_71 (by decide) (by omega) (by omega) (fun c71 => ?_) (fun z => False.elim (hl z))
  refine p_phase (e0 := 9) hK d_Revoke_release_80 rfl fs_Revoke_80 ?_
  refine r_callUi (As := [.ref (cxE X 9)]) (b := o) (st := []) hK (c_Order_go_Revoke X l (sSetI (sSetA (sSetI s 50 o (nI (k + 1))) ra r (nI f)) 15 p (nI (r + 1))) o (cxE X 9) ho) d_Revoke_release_83 ml_Revoke_73 cu_Revoke_Revoke_Order_go rfl (by decide) (p_recv k_Revoke (fun g h => h.kd ho (by decide))) (Nat.le_of_ble_eq_true rfl) ?_ rfl
  refine r_pop hK d_Revoke_release_86 rfl ?_
  refine r_vret hK d_Revoke_release_87 rfl ?_
  exact ⟨rfl, rfl⟩
set_option maxHeartbeats 1000000 in
theorem c_Revoke_release_pool0 (X : gCx) (l : Launch) (s : sS) (o m p ka k f ks : Nat) (ho : gk s.1 o = 12) (hok : gr s.1 48 o = some ka) (hka : gk s.1 ka = 100) (hkal : gl s.1 ka = 4) (hk : gi s.1 50 o = nI k) (hk4 : k < 4) (hf : ga s.1 ka k = nI f) (hf10 : f < 10) (hks : gi s.1 49 o = nI ks) (hksb : ks < 100) (pl : Nat) (hm : gk s.1 m = 2) (hp : gk s.1 p = 3) (hr : gi s.1 15 p = nI 2) (hmp : gr s.1 7 m = some pl) (hpl : gk s.1 pl = 4) (hl : k + 1 ≠ ks)  : gMv X l (HoldP X (Abs X)) M_Revoke_release 3 1 2 [.ref o, .ref m, .ref p] s (sSetR (sPush (sSetI s 50 o (nI (k + 1))) pl (cxI X (f + 128))) 39 o (some (cxE X 9))) := by
  refine gM_intro (by decide) (Nat.le_of_ble_eq_true rfl) (fun K hK => ?_)
  show K 0 [(0, .ref o), (1, .ref m), (2, .ref p)] [] s 1 2
  refine r_aload_n hK d_Revoke_release_0 rfl 0 rfl ?_
  refine p_getR (f := 48) (v := some ka) hK d_Revoke_release_1 k_Revoke fd_Revoke_9_Revoke (by decide) rfl rfl (fun g h => h.getR ho (by decide) rfl hok) ?_
  refine r_aload_n hK d_Revoke_release_4 rfl 0 rfl ?_
  refine p_getI (f := 50) (v := nI k) hK d_Revoke_release_5 k_Revoke fd_Revoke_113_Revoke (by decide) rfl rfl (fun g h => h.getI ho (by decide) rfl hk) ?_
  refine p_iald (v := nI f) hK k 4 d_Revoke_release_8 rfl (by omega) (fun g h => have e := h.arr (a := ka) (t := 0) (L := 4) (j := k) hka hkal; ⟨e.1, e.2.1, e.2.2.1.trans hf⟩) ?_
  refine r_istore_n (lv' := [(3, .int (nI f)), (0, .ref o), (1, .ref m), (2, .ref p)]) hK d_Revoke_release_9 rfl (by decide) rfl ?_
  refine r_aload_n hK d_Revoke_release_10 rfl 1 rfl ?_
  refine r_dup hK d_Revoke_release_11 rfl ?_
  refine p_getI (f := 50) (v := nI k) hK d_Revoke_release_12 k_Revoke fd_Revoke_113_Revoke (by decide) rfl rfl (fun g h => h.getI ho (by decide) rfl hk) ?_
  refine r_iconst (v := nI 1) hK d_Revoke_release_15 (by decide) ?_
  refine r_iadd hK d_Revoke_release_16 ?_
  refine r_tp (b := nI (k + 1)) (nI_add _ _) ?_
  refine p_putI (k := 3) (f := 50) hK d_Revoke_release_17 k_Revoke fd_Revoke_113_Revoke (by decide) rfl rfl rfl rfl rfl (fun g h => ⟨h.kd ho (by decide), h.setI (nz_of (k := 11) ho) rfl⟩) ?_
  refine r_aload_n hK d_Revoke_release_20 rfl 3 rfl ?_
  refine p_getI (f := 15) (v := nI 2) hK d_Revoke_release_21 k_Processor fd_Revoke_116_Processor (by decide) rfl rfl (fun g h => h.getI hp (by decide) rfl (by simp [sSetI, sSetR, sSetA, sSetB, sSetQ, sSetL, sSetT, sNew, sNewA, sNewL, sPush, sBump, sBegL, sPutT, sq, sl, sr, gSetI, gSetR, gSetA, gSetB, gNew, gNewA, up2, up1, gx, gk, gl, gi, gr, ga, gb, hr])) ?_
  refine r_iconst (v := nI 2) hK d_Revoke_release_24 (by decide) ?_
  refine r_ncmp_ge (a := 2) (b := 2) (tgt := 51) hK d_Revoke_release_25 (by decide) (by decide) (by decide) (fun _ => ?_) (fun z => absurd z (by decide))
  refine r_aload_n hK d_Revoke_release_51 rfl 2 rfl ?_
  refine p_getR (f := 7) (v := some pl) hK d_Revoke_release_52 k_Machine fd_Revoke_122_Machine (by decide) rfl rfl (fun g h => h.getR hm (by decide) rfl (by simp [sSetI, sSetR, sSetA, sSetB, sSetQ, sSetL, sSetT, sNew, sNewA, sNewL, sPush, sBump, sBegL, sPutT, sq, sl, sr, gSetI, gSetR, gSetA, gSetB, gNew, gNewA, up2, up1, gx, gk, gl, gi, gr, ga, gb, hmp])) ?_
  refine r_iload_n hK d_Revoke_release_55 rfl 0 rfl ?_
  refine r_callSr (As := [.int (nI f)]) (st := [.ref pl]) hK (c_Int_valueOf X l (HoldP X (Abs X)) (sSetI s 50 o (nI (k + 1))) f (by omega)) d_Revoke_release_56 ml_Revoke_125 cs_Int_valueOf rfl (by decide) (Nat.le_of_ble_eq_true rfl) ?_ rfl
  refine r_callVv (As := [.ref (cxI X (f + 128))]) (b := pl) (st := []) hK (cS_add (s := sSetI s 50 o (nI (k + 1))) pl (cxI X (f + 128)) (hpl)) d_Revoke_release_59 ml_Revoke_107 cv_Line_add rfl (by decide) (p_recv k_Line (fun g h => h.kd hpl (by decide))) (Nat.le_of_ble_eq_true rfl) ?_ rfl
  refine r_aload_n hK d_Revoke_release_62 rfl 1 rfl ?_
  refine r_aload_n hK d_Revoke_release_63 rfl 1 rfl ?_
  refine p_getI (f := 50) (v := nI (k + 1)) hK d_Revoke_release_64 k_Revoke fd_Revoke_113_Revoke (by decide) rfl rfl (fun g h => h.getI ho (by decide) rfl (by simp [sSetI, sSetR, sSetA, sSetB, sSetQ, sSetL, sSetT, sNew, sNewA, sNewL, sPush, sBump, sBegL, sPutT, sq, sl, sr, gSetI, gSetR, gSetA, gSetB, gNew, gNewA, up2, up1, gx, gk, gl, gi, gr, ga, gb])) ?_
  refine r_aload_n hK d_Revoke_release_67 rfl 1 rfl ?_
  refine p_getI (f := 49) (v := nI ks) hK d_Revoke_release_68 k_Revoke fd_Revoke_45_Revoke (by decide) rfl rfl (fun g h => h.getI ho (by decide) rfl (by simp [sSetI, sSetR, sSetA, sSetB, sSetQ, sSetL, sSetT, sNew, sNewA, sNewL, sPush, sBump, sBegL, sPutT, sq, sl, sr, gSetI, gSetR, gSetA, gSetB, gNew, gNewA, up2, up1, gx, gk, gl, gi, gr, ga, gb, hks])) ?_
  refine r_ncmp_ne (a := k + 1) (b := ks) (tgt := 80) hK d_Revoke_release_71 (by decide) (by omega) (by omega) (fun c71 => ?_) (fun z => False.elim (hl z))
  refine p_phase (e0 := 9) hK d_Revoke_release_80 rfl fs_Revoke_80 ?_
  refine r_callUi (As := [.ref (cxE X 9)]) (b := o) (st := []) hK (c_Order_go_Revoke X l (sPush (sSetI s 50 o (nI (k + 1))) pl (cxI X (f + 128))) o (cxE X 9) ho) d_Revoke_release_83 ml_Revoke_73 cu_Revoke_Revoke_Order_go rfl (by decide) (p_recv k_Revoke (fun g h => h.kd ho (by decide))) (Nat.le_of_ble_eq_true rfl) ?_ rfl
  refine r_pop hK d_Revoke_release_86 rfl ?_
  refine r_vret hK d_Revoke_release_87 rfl ?_
  exact ⟨rfl, rfl⟩
set_option maxHeartbeats 1000000 in
theorem c_Revoke_release_room1 (X : gCx) (l : Launch) (s : sS) (o m p ka k f ks : Nat) (ho : gk s.1 o = 12) (hok : gr s.1 48 o = some ka) (hka : gk s.1 ka = 100) (hkal : gl s.1 ka = 4) (hk : gi s.1 50 o = nI k) (hk4 : k < 4) (hf : ga s.1 ka k = nI f) (hf10 : f < 10) (hks : gi s.1 49 o = nI ks) (hksb : ks < 100) (ra r : Nat) (hp : gk s.1 p = 3) (hr : gi s.1 15 p = nI r) (hr2 : r < 2) (hpr : gr s.1 14 p = some ra) (hra : gk s.1 ra = 100) (hral : gl s.1 ra = 2) (hl : k + 1 = ks)  : gMv X l (HoldP X (Abs X)) M_Revoke_release 3 1 2 [.ref o, .ref m, .ref p] s (sSetR (sSetI (sSetA (sSetI s 50 o (nI (k + 1))) ra r (nI f)) 15 p (nI (r + 1))) 39 o (some (cxE X 10))) := by
  refine gM_intro (by decide) (Nat.le_of_ble_eq_true rfl) (fun K hK => ?_)
  show K 0 [(0, .ref o), (1, .ref m), (2, .ref p)] [] s 1 2
  refine r_aload_n hK d_Revoke_release_0 rfl 0 rfl ?_
  refine p_getR (f := 48) (v := some ka) hK d_Revoke_release_1 k_Revoke fd_Revoke_9_Revoke (by decide) rfl rfl (fun g h => h.getR ho (by decide) rfl hok) ?_
  refine r_aload_n hK d_Revoke_release_4 rfl 0 rfl ?_
  refine p_getI (f := 50) (v := nI k) hK d_Revoke_release_5 k_Revoke fd_Revoke_113_Revoke (by decide) rfl rfl (fun g h => h.getI ho (by decide) rfl hk) ?_
  refine p_iald (v := nI f) hK k 4 d_Revoke_release_8 rfl (by omega) (fun g h => have e := h.arr (a := ka) (t := 0) (L := 4) (j := k) hka hkal; ⟨e.1, e.2.1, e.2.2.1.trans hf⟩) ?_
  refine r_istore_n (lv' := [(3, .int (nI f)), (0, .ref o), (1, .ref m), (2, .ref p)]) hK d_Revoke_release_9 rfl (by decide) rfl ?_
  refine r_aload_n hK d_Revoke_release_10 rfl 1 rfl ?_
  refine r_dup hK d_Revoke_release_11 rfl ?_
  refine p_getI (f := 50) (v := nI k) hK d_Revoke_release_12 k_Revoke fd_Revoke_113_Revoke (by decide) rfl rfl (fun g h => h.getI ho (by decide) rfl hk) ?_
  refine r_iconst (v := nI 1) hK d_Revoke_release_15 (by decide) ?_
  refine r_iadd hK d_Revoke_release_16 ?_
  refine r_tp (b := nI (k + 1)) (nI_add _ _) ?_
  refine p_putI (k := 3) (f := 50) hK d_Revoke_release_17 k_Revoke fd_Revoke_113_Revoke (by decide) rfl rfl rfl rfl rfl (fun g h => ⟨h.kd ho (by decide), h.setI (nz_of (k := 11) ho) rfl⟩) ?_
  refine r_aload_n hK d_Revoke_release_20 rfl 3 rfl ?_
  refine p_getI (f := 15) (v := nI r) hK d_Revoke_release_21 k_Processor fd_Revoke_116_Processor (by decide) rfl rfl (fun g h => h.getI hp (by decide) rfl (by simp [sSetI, sSetR, sSetA, sSetB, sSetQ, sSetL, sSetT, sNew, sNewA, sNewL, sPush, sBump, sBegL, sPutT, sq, sl, sr, gSetI, gSetR, gSetA, gSetB, gNew, gNewA, up2, up1, gx, gk, gl, gi, gr, ga, gb, hr])) ?_
  refine r_iconst (v := nI 2) hK d_Revoke_release_24 (by decide) ?_
  refine r_ncmp_ge (a := r) (b := 2) (tgt := 51) hK d_Revoke_release_25 (by decide) (by omega) (by omega) (fun z => False.elim (by omega)) (fun c25 => ?_)
  refine r_aload_n hK d_Revoke_release_28 rfl 3 rfl ?_
  refine p_getR (f := 14) (v := some ra) hK d_Revoke_release_29 k_Processor fd_Revoke_119_Processor (by decide) rfl rfl (fun g h => h.getR hp (by decide) rfl (by simp [sSetI, sSetR, sSetA, sSetB, sSetQ, sSetL, sSetT, sNew, sNewA, sNewL, sPush, sBump, sBegL, sPutT, sq, sl, sr, gSetI, gSetR, gSetA, gSetB, gNew, gNewA, up2, up1, gx, gk, gl, gi, gr, ga, gb, hpr])) ?_
  refine r_aload_n hK d_Revoke_release_32 rfl 3 rfl ?_
  refine p_getI (f := 15) (v := nI r) hK d_Revoke_release_33 k_Processor fd_Revoke_116_Processor (by decide) rfl rfl (fun g h => h.getI hp (by decide) rfl (by simp [sSetI, sSetR, sSetA, sSetB, sSetQ, sSetL, sSetT, sNew, sNewA, sNewL, sPush, sBump, sBegL, sPutT, sq, sl, sr, gSetI, gSetR, gSetA, gSetB, gNew, gNewA, up2, up1, gx, gk, gl, gi, gr, ga, gb, hr])) ?_
  refine r_iload_n hK d_Revoke_release_36 rfl 0 rfl ?_
  refine p_iast hK r 2 d_Revoke_release_37 rfl (by omega) (fun g h => have e := h.arr (a := ra) (t := 0) (L := 2) (j := 0) hra hral; ⟨e.1, e.2.1, h.setA⟩) ?_
  refine r_aload_n hK d_Revoke_release_38 rfl 3 rfl ?_
  refine r_dup hK d_Revoke_release_39 rfl ?_
  refine p_getI (f := 15) (v := nI r) hK d_Revoke_release_40 k_Processor fd_Revoke_116_Processor (by decide) rfl rfl (fun g h => h.getI hp (by decide) rfl (by simp [sSetI, sSetR, sSetA, sSetB, sSetQ, sSetL, sSetT, sNew, sNewA, sNewL, sPush, sBump, sBegL, sPutT, sq, sl, sr, gSetI, gSetR, gSetA, gSetB, gNew, gNewA, up2, up1, gx, gk, gl, gi, gr, ga, gb, hr])) ?_
  refine r_iconst (v := nI 1) hK d_Revoke_release_43 (by decide) ?_
  refine r_iadd hK d_Revoke_release_44 ?_
  refine r_tp (b := nI (r + 1)) (nI_add _ _) ?_
  refine p_putI (k := 4) (f := 15) hK d_Revoke_release_45 k_Processor fd_Revoke_116_Processor (by decide) rfl rfl rfl rfl rfl (fun g h => ⟨h.kd hp (by decide), h.setI (nz_of (k := 2) hp) rfl⟩) ?_
  refine r_goto (tgt := 62) hK d_Revoke_release_48 (by decide) ?_
  refine r_aload_n hK d_Revoke_release_62 rfl 1 rfl ?_
  refine r_aload_n hK d_Revoke_release_63 rfl 1 rfl ?_
  refine p_getI (f := 50) (v := nI (k + 1)) hK d_Revoke_release_64 k_Revoke fd_Revoke_113_Revoke (by decide) rfl rfl (fun g h => h.getI ho (by decide) rfl (by simp [sSetI, sSetR, sSetA, sSetB, sSetQ, sSetL, sSetT, sNew, sNewA, sNewL, sPush, sBump, sBegL, sPutT, sq, sl, sr, gSetI, gSetR, gSetA, gSetB, gNew, gNewA, up2, up1, gx, gk, gl, gi, gr, ga, gb])) ?_
  refine r_aload_n hK d_Revoke_release_67 rfl 1 rfl ?_
  refine p_getI (f := 49) (v := nI ks) hK d_Revoke_release_68 k_Revoke fd_Revoke_45_Revoke (by decide) rfl rfl (fun g h => h.getI ho (by decide) rfl (by simp [sSetI, sSetR, sSetA, sSetB, sSetQ, sSetL, sSetT, sNew, sNewA, sNewL, sPush, sBump, sBegL, sPutT, sq, sl, sr, gSetI, gSetR, gSetA, gSetB, gNew, gNewA, up2, up1, gx, gk, gl, gi, gr, ga, gb, hks])) ?_
  refine r_ncmp_ne (a := k + 1) (b := ks) (tgt := 80) hK d_Revoke_release_71 (by decide) (by omega) (by omega) (fun z => False.elim (z hl)) (fun c71 => ?_)
  refine p_phase (e0 := 10) hK d_Revoke_release_74 rfl fs_Revoke_32 ?_
  refine r_goto (tgt := 83) hK d_Revoke_release_77 (by decide) ?_
  refine r_callUi (As := [.ref (cxE X 10)]) (b := o) (st := []) hK (c_Order_go_Revoke X l (sSetI (sSetA (sSetI s 50 o (nI (k + 1))) ra r (nI f)) 15 p (nI (r + 1))) o (cxE X 10) ho) d_Revoke_release_83 ml_Revoke_73 cu_Revoke_Revoke_Order_go rfl (by decide) (p_recv k_Revoke (fun g h => h.kd ho (by decide))) (Nat.le_of_ble_eq_true rfl) ?_ rfl
  refine r_pop hK d_Revoke_release_86 rfl ?_
  refine r_vret hK d_Revoke_release_87 rfl ?_
  exact ⟨rfl, rfl⟩
set_option maxHeartbeats 1000000 in
theorem c_Revoke_release_pool1 (X : gCx) (l : Launch) (s : sS) (o m p ka k f ks : Nat) (ho : gk s.1 o = 12) (hok : gr s.1 48 o = some ka) (hka : gk s.1 ka = 100) (hkal : gl s.1 ka = 4) (hk : gi s.1 50 o = nI k) (hk4 : k < 4) (hf : ga s.1 ka k = nI f) (hf10 : f < 10) (hks : gi s.1 49 o = nI ks) (hksb : ks < 100) (pl : Nat) (hm : gk s.1 m = 2) (hp : gk s.1 p = 3) (hr : gi s.1 15 p = nI 2) (hmp : gr s.1 7 m = some pl) (hpl : gk s.1 pl = 4) (hl : k + 1 = ks)  : gMv X l (HoldP X (Abs X)) M_Revoke_release 3 1 2 [.ref o, .ref m, .ref p] s (sSetR (sPush (sSetI s 50 o (nI (k + 1))) pl (cxI X (f + 128))) 39 o (some (cxE X 10))) := by
  refine gM_intro (by decide) (Nat.le_of_ble_eq_true rfl) (fun K hK => ?_)
  show K 0 [(0, .ref o), (1, .ref m), (2, .ref p)] [] s 1 2
  refine r_aload_n hK d_Revoke_release_0 rfl 0 rfl ?_
  refine p_getR (f := 48) (v := some ka) hK d_Revoke_release_1 k_Revoke fd_Revoke_9_Revoke (by decide) rfl rfl (fun g h => h.getR ho (by decide) rfl hok) ?_
  refine r_aload_n hK d_Revoke_release_4 rfl 0 rfl ?_
  refine p_getI (f := 50) (v := nI k) hK d_Revoke_release_5 k_Revoke fd_Revoke_113_Revoke (by decide) rfl rfl (fun g h => h.getI ho (by decide) rfl hk) ?_
  refine p_iald (v := nI f) hK k 4 d_Revoke_release_8 rfl (by omega) (fun g h => have e := h.arr (a := ka) (t := 0) (L := 4) (j := k) hka hkal; ⟨e.1, e.2.1, e.2.2.1.trans hf⟩) ?_
  refine r_istore_n (lv' := [(3, .int (nI f)), (0, .ref o), (1, .ref m), (2, .ref p)]) hK d_Revoke_release_9 rfl (by decide) rfl ?_
  refine r_aload_n hK d_Revoke_release_10 rfl 1 rfl ?_
  refine r_dup hK d_Revoke_release_11 rfl ?_
  refine p_getI (f := 50) (v := nI k) hK d_Revoke_release_12 k_Revoke fd_Revoke_113_Revoke (by decide) rfl rfl (fun g h => h.getI ho (by decide) rfl hk) ?_
  refine r_iconst (v := nI 1) hK d_Revoke_release_15 (by decide) ?_
  refine r_iadd hK d_Revoke_release_16 ?_
  refine r_tp (b := nI (k + 1)) (nI_add _ _) ?_
  refine p_putI (k := 3) (f := 50) hK d_Revoke_release_17 k_Revoke fd_Revoke_113_Revoke (by decide) rfl rfl rfl rfl rfl (fun g h => ⟨h.kd ho (by decide), h.setI (nz_of (k := 11) ho) rfl⟩) ?_
  refine r_aload_n hK d_Revoke_release_20 rfl 3 rfl ?_
  refine p_getI (f := 15) (v := nI 2) hK d_Revoke_release_21 k_Processor fd_Revoke_116_Processor (by decide) rfl rfl (fun g h => h.getI hp (by decide) rfl (by simp [sSetI, sSetR, sSetA, sSetB, sSetQ, sSetL, sSetT, sNew, sNewA, sNewL, sPush, sBump, sBegL, sPutT, sq, sl, sr, gSetI, gSetR, gSetA, gSetB, gNew, gNewA, up2, up1, gx, gk, gl, gi, gr, ga, gb, hr])) ?_
  refine r_iconst (v := nI 2) hK d_Revoke_release_24 (by decide) ?_
  refine r_ncmp_ge (a := 2) (b := 2) (tgt := 51) hK d_Revoke_release_25 (by decide) (by decide) (by decide) (fun _ => ?_) (fun z => absurd z (by decide))
  refine r_aload_n hK d_Revoke_release_51 rfl 2 rfl ?_
  refine p_getR (f := 7) (v := some pl) hK d_Revoke_release_52 k_Machine fd_Revoke_122_Machine (by decide) rfl rfl (fun g h => h.getR hm (by decide) rfl (by simp [sSetI, sSetR, sSetA, sSetB, sSetQ, sSetL, sSetT, sNew, sNewA, sNewL, sPush, sBump, sBegL, sPutT, sq, sl, sr, gSetI, gSetR, gSetA, gSetB, gNew, gNewA, up2, up1, gx, gk, gl, gi, gr, ga, gb, hmp])) ?_
  refine r_iload_n hK d_Revoke_release_55 rfl 0 rfl ?_
  refine r_callSr (As := [.int (nI f)]) (st := [.ref pl]) hK (c_Int_valueOf X l (HoldP X (Abs X)) (sSetI s 50 o (nI (k + 1))) f (by omega)) d_Revoke_release_56 ml_Revoke_125 cs_Int_valueOf rfl (by decide) (Nat.le_of_ble_eq_true rfl) ?_ rfl
  refine r_callVv (As := [.ref (cxI X (f + 128))]) (b := pl) (st := []) hK (cS_add (s := sSetI s 50 o (nI (k + 1))) pl (cxI X (f + 128)) (hpl)) d_Revoke_release_59 ml_Revoke_107 cv_Line_add rfl (by decide) (p_recv k_Line (fun g h => h.kd hpl (by decide))) (Nat.le_of_ble_eq_true rfl) ?_ rfl
  refine r_aload_n hK d_Revoke_release_62 rfl 1 rfl ?_
  refine r_aload_n hK d_Revoke_release_63 rfl 1 rfl ?_
  refine p_getI (f := 50) (v := nI (k + 1)) hK d_Revoke_release_64 k_Revoke fd_Revoke_113_Revoke (by decide) rfl rfl (fun g h => h.getI ho (by decide) rfl (by simp [sSetI, sSetR, sSetA, sSetB, sSetQ, sSetL, sSetT, sNew, sNewA, sNewL, sPush, sBump, sBegL, sPutT, sq, sl, sr, gSetI, gSetR, gSetA, gSetB, gNew, gNewA, up2, up1, gx, gk, gl, gi, gr, ga, gb])) ?_
  refine r_aload_n hK d_Revoke_release_67 rfl 1 rfl ?_
  refine p_getI (f := 49) (v := nI ks) hK d_Revoke_release_68 k_Revoke fd_Revoke_45_Revoke (by decide) rfl rfl (fun g h => h.getI ho (by decide) rfl (by simp [sSetI, sSetR, sSetA, sSetB, sSetQ, sSetL, sSetT, sNew, sNewA, sNewL, sPush, sBump, sBegL, sPutT, sq, sl, sr, gSetI, gSetR, gSetA, gSetB, gNew, gNewA, up2, up1, gx, gk, gl, gi, gr, ga, gb, hks])) ?_
  refine r_ncmp_ne (a := k + 1) (b := ks) (tgt := 80) hK d_Revoke_release_71 (by decide) (by omega) (by omega) (fun z => False.elim (z hl)) (fun c71 => ?_)
  refine p_phase (e0 := 10) hK d_Revoke_release_74 rfl fs_Revoke_32 ?_
  refine r_goto (tgt := 83) hK d_Revoke_release_77 (by decide) ?_
  refine r_callUi (As := [.ref (cxE X 10)]) (b := o) (st := []) hK (c_Order_go_Revoke X l (sPush (sSetI s 50 o (nI (k + 1))) pl (cxI X (f + 128))) o (cxE X 10) ho) d_Revoke_release_83 ml_Revoke_73 cu_Revoke_Revoke_Order_go rfl (by decide) (p_recv k_Revoke (fun g h => h.kd ho (by decide))) (Nat.le_of_ble_eq_true rfl) ?_ rfl
  refine r_pop hK d_Revoke_release_86 rfl ?_
  refine r_vret hK d_Revoke_release_87 rfl ?_
  exact ⟨rfl, rfl⟩
