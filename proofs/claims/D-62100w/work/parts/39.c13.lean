set_option maxHeartbeats 1000000 in
theorem c_Ker_step_bad (X : gCx) (l : Launch) (s : sS) (x : Nat) (pv : Int32) (hx : gk s.1 x = 1) (hpr : gMr X l (HoldP X (Abs X)) M_Ker_processor 0 0 0 [.ref x, .int pv] s none s)  : gMi X l (HoldP X (Abs X)) M_Ker_step 6 4 12 [.ref x, .int pv] s (-1) s := by
  refine gM_intro (by decide) (Nat.le_of_ble_eq_true rfl) (fun K hK => ?_)
  show K 0 [(0, .ref x), (1, .int pv)] [] s 4 12
  refine r_aload_n hK d_Ker_step_0 rfl 0 rfl ?_
  refine r_iload_n hK d_Ker_step_1 rfl 1 rfl ?_
  refine r_callVr (As := [.int pv]) (b := x) (st := []) hK (hpr) d_Ker_step_2 ml_Ker_27 cv_Ker_processor rfl (by decide) (p_recv k_Ker (fun g h => h.kd hx (by decide))) (Nat.le_of_ble_eq_true rfl) ?_ rfl
  refine r_astore_nN (lv' := [(2, .null), (0, .ref x), (1, .int pv)]) hK d_Ker_step_5 rfl (by decide) rfl ?_
  refine r_aload_nN hK d_Ker_step_6 rfl 0 rfl ?_
  refine r_ifnonnull (v := none) (tgt := 12) hK d_Ker_step_7 (by decide) (fun _ z => absurd z (by simp)) (fun _ => ?_)
  refine r_iconst (v := -1) hK d_Ker_step_10 (by decide) ?_
  refine r_iret hK d_Ker_step_11 rfl (rfl) ?_
  exact ⟨rfl, rfl⟩
set_option maxHeartbeats 1000000 in
theorem c_Ker_step_mail (X : gCx) (l : Launch) (s : sS) (s3 : sS) (x pp ml : Nat) (pv sp : Int32) (hx : gk s.1 x = 1) (hpr : gMr X l (HoldP X (Abs X)) M_Ker_processor 0 0 0 [.ref x, .int pv] s (some pp) s) (hsp : gi s.1 3 x = sp) (hpp : gk s.1 pp = 3) (hpm : gr s.1 16 pp = some ml) (hml : gk s.1 ml = 4) (rq fr n o k : Nat) (vs : List Nat) (hv : sq s ml = rq :: vs) (hrq : gk s.1 rq = 7) (hfr : gi s.1 28 rq = nI fr) (hn : gi s.1 29 rq = nI n) (hdr : gMv X l (HoldP X (Abs X)) M_Processor_drop 0 0 0 [.ref pp, .int (nI fr), .int (nI n)] (sSetQ (sSetI s 3 x (sp + nI 1)) ml vs) s3) (hrq3 : gk s3.1 rq = 7) (hso3 : gr s3.1 30 rq = some o) (ho3 : gk s3.1 o = 12) (how3 : gi s3.1 52 o = nI (k + 1)) : gMi X l (HoldP X (Abs X)) M_Ker_step 6 4 12 [.ref x, .int pv] s (nI 1) (sSetI s3 52 o (nI k)) := by
  refine gM_intro (by decide) (Nat.le_of_ble_eq_true rfl) (fun K hK => ?_)
  show K 0 [(0, .ref x), (1, .int pv)] [] s 4 12
  refine r_aload_n hK d_Ker_step_0 rfl 0 rfl ?_
  refine r_iload_n hK d_Ker_step_1 rfl 1 rfl ?_
  refine r_callVr (As := [.int pv]) (b := x) (st := []) hK (hpr) d_Ker_step_2 ml_Ker_27 cv_Ker_processor rfl (by decide) (p_recv k_Ker (fun g h => h.kd hx (by decide))) (Nat.le_of_ble_eq_true rfl) ?_ rfl
  refine r_astore_n (lv' := [(2, .ref pp), (0, .ref x), (1, .int pv)]) hK d_Ker_step_5 rfl (by decide) rfl ?_
  refine r_aload_n hK d_Ker_step_6 rfl 0 rfl ?_
  refine r_ifnonnull (v := some pp) (tgt := 12) hK d_Ker_step_7 (by decide) (fun _ _ => ?_) (fun z => absurd z (by simp))
  refine r_aload_n hK d_Ker_step_12 rfl 1 rfl ?_
  refine r_dup hK d_Ker_step_13 rfl ?_
  refine p_getI (f := 3) (v := sp) hK d_Ker_step_14 k_Ker fd_Ker_96_Ker (by decide) rfl rfl (fun g h => h.getI hx (by decide) rfl hsp) ?_
  refine r_iconst (v := nI 1) hK d_Ker_step_17 (by decide) ?_
  refine r_iadd hK d_Ker_step_18 ?_
  refine p_putI (k := 2) (f := 3) hK d_Ker_step_19 k_Ker fd_Ker_96_Ker (by decide) rfl rfl rfl rfl rfl (fun g h => ⟨h.kd hx (by decide), h.setI (nz_of (k := 0) hx) rfl⟩) ?_
  refine r_aload_n hK d_Ker_step_22 rfl 0 rfl ?_
  refine p_getR (f := 16) (v := some ml) hK d_Ker_step_23 k_Processor fd_Ker_100_Processor (by decide) rfl rfl (fun g h => h.getR hpp (by decide) rfl (by simp [sSetI, sSetR, sSetA, sSetB, sSetQ, sSetL, sSetT, sNew, sNewA, sNewL, sPush, sBump, sBegL, sPutT, sAddL_g, sAddL_q, sAddL_r, sAddL_l, sq, sl, sr, gSetI, gSetR, gSetA, gSetB, gNew, gNewA, up2, up1, gx, gk, gl, gi, gr, ga, gb, hpm])) ?_
  have hsq : sq (sSetI s 3 x (sp + nI 1)) ml = rq :: vs := hv
  refine r_callVr (As := []) (b := ml) (st := []) hK (cS_take (s := sSetI s 3 x (sp + nI 1)) ml rq vs hml hsq) d_Ker_step_26 ml_Ker_103 cv_Line_take rfl (by decide) (p_recv k_Line (fun g h => h.kd hml (by decide))) (Nat.le_of_ble_eq_true rfl) ?_ rfl
  refine p_cast hK d_Ker_step_29 cl_Ker_107 ca_Request_Request (p_recv k_Request (fun g h => h.kd hrq (by decide))) ?_
  refine r_astore_n (lv' := [(3, .ref rq), (2, .ref pp), (0, .ref x), (1, .int pv)]) hK d_Ker_step_32 rfl (by decide) rfl ?_
  refine r_aload_n hK d_Ker_step_33 rfl 0 rfl ?_
  refine r_ifnull (v := some rq) (tgt := 64) hK d_Ker_step_34 (by decide) (fun z => absurd z (by simp)) (fun _ _ => ?_)
  refine r_aload_n hK d_Ker_step_37 rfl 1 rfl ?_
  refine r_aload_n hK d_Ker_step_38 rfl 0 rfl ?_
  refine r_callVi (As := []) (b := rq) (st := [.ref pp]) hK (c_Request_from X l (sSetQ (sSetI s 3 x (sp + nI 1)) ml vs) rq (nI fr) hrq hfr) d_Ker_step_39 ml_Ker_109 cv_Request_from rfl (by decide) (p_recv k_Request (fun g h => h.kd hrq (by decide))) (Nat.le_of_ble_eq_true rfl) ?_ rfl
  refine r_aload_n hK d_Ker_step_42 rfl 0 rfl ?_
  refine r_callVi (As := []) (b := rq) (st := [.int (nI fr), .ref pp]) hK (c_Request_n X l (sSetQ (sSetI s 3 x (sp + nI 1)) ml vs) rq (nI n) hrq hn) d_Ker_step_43 ml_Ker_112 cv_Request_n rfl (by decide) (p_recv k_Request (fun g h => h.kd hrq (by decide))) (Nat.le_of_ble_eq_true rfl) ?_ rfl
  refine r_callVv (As := [.int (nI fr), .int (nI n)]) (b := pp) (st := []) hK (hdr) d_Ker_step_46 ml_Ker_115 cv_Processor_drop rfl (by decide) (p_recv k_Processor (fun g h => h.kd hpp (by decide))) (Nat.le_of_ble_eq_true rfl) ?_ rfl
  refine r_aload_n hK d_Ker_step_49 rfl 0 rfl ?_
  refine r_callVr (As := []) (b := rq) (st := []) hK (c_Request_sender X l s3 rq o hrq3 hso3) d_Ker_step_50 ml_Ker_118 cv_Request_sender rfl (by decide) (p_recv k_Request (fun g h => h.kd hrq3 (by decide))) (Nat.le_of_ble_eq_true rfl) ?_ rfl
  refine r_dup hK d_Ker_step_53 rfl ?_
  refine p_getI (f := 52) (v := nI (k + 1)) hK d_Ker_step_54 k_Revoke fd_Ker_122_Revoke (by decide) rfl rfl (fun g h => h.getI ho3 (by decide) rfl how3) ?_
  refine r_iconst (v := nI 1) hK d_Ker_step_57 (by decide) ?_
  refine r_isub hK d_Ker_step_58 ?_
  refine r_tp (b := nI k) (nI_pred k) ?_
  refine p_putI (k := 5) (f := 52) hK d_Ker_step_59 k_Revoke fd_Ker_122_Revoke (by decide) rfl rfl rfl rfl rfl (fun g h => ⟨h.kd ho3 (by decide), h.setI (nz_of (k := 11) ho3) rfl⟩) ?_
  refine r_iconst (v := nI 1) hK d_Ker_step_62 (by decide) ?_
  refine r_iret hK d_Ker_step_63 rfl (rfl) ?_
  exact ⟨rfl, rfl⟩
set_option maxHeartbeats 1000000 in
theorem c_Ker_step_pick (X : gCx) (l : Launch) (s : sS) (s2 : sS) (x pp ml : Nat) (pv sp : Int32) (hx : gk s.1 x = 1) (hpr : gMr X l (HoldP X (Abs X)) M_Ker_processor 0 0 0 [.ref x, .int pv] s (some pp) s) (hsp : gi s.1 3 x = sp) (hpp : gk s.1 pp = 3) (hpm : gr s.1 16 pp = some ml) (hml : gk s.1 ml = 4) (r : Int32) (hv : sq s ml = []) (hcu : gr s.1 18 pp = none) (hpk : gMi X l (HoldP X (Abs X)) M_Ker_pick 2 0 0 [.ref x, .ref pp] (sSetI s 3 x (sp + nI 1)) r s2) : gMi X l (HoldP X (Abs X)) M_Ker_step 6 4 12 [.ref x, .int pv] s r s2 := by
  refine gM_intro (by decide) (Nat.le_of_ble_eq_true rfl) (fun K hK => ?_)
  show K 0 [(0, .ref x), (1, .int pv)] [] s 4 12
  refine r_aload_n hK d_Ker_step_0 rfl 0 rfl ?_
  refine r_iload_n hK d_Ker_step_1 rfl 1 rfl ?_
  refine r_callVr (As := [.int pv]) (b := x) (st := []) hK (hpr) d_Ker_step_2 ml_Ker_27 cv_Ker_processor rfl (by decide) (p_recv k_Ker (fun g h => h.kd hx (by decide))) (Nat.le_of_ble_eq_true rfl) ?_ rfl
  refine r_astore_n (lv' := [(2, .ref pp), (0, .ref x), (1, .int pv)]) hK d_Ker_step_5 rfl (by decide) rfl ?_
  refine r_aload_n hK d_Ker_step_6 rfl 0 rfl ?_
  refine r_ifnonnull (v := some pp) (tgt := 12) hK d_Ker_step_7 (by decide) (fun _ _ => ?_) (fun z => absurd z (by simp))
  refine r_aload_n hK d_Ker_step_12 rfl 1 rfl ?_
  refine r_dup hK d_Ker_step_13 rfl ?_
  refine p_getI (f := 3) (v := sp) hK d_Ker_step_14 k_Ker fd_Ker_96_Ker (by decide) rfl rfl (fun g h => h.getI hx (by decide) rfl hsp) ?_
  refine r_iconst (v := nI 1) hK d_Ker_step_17 (by decide) ?_
  refine r_iadd hK d_Ker_step_18 ?_
  refine p_putI (k := 2) (f := 3) hK d_Ker_step_19 k_Ker fd_Ker_96_Ker (by decide) rfl rfl rfl rfl rfl (fun g h => ⟨h.kd hx (by decide), h.setI (nz_of (k := 0) hx) rfl⟩) ?_
  refine r_aload_n hK d_Ker_step_22 rfl 0 rfl ?_
  refine p_getR (f := 16) (v := some ml) hK d_Ker_step_23 k_Processor fd_Ker_100_Processor (by decide) rfl rfl (fun g h => h.getR hpp (by decide) rfl (by simp [sSetI, sSetR, sSetA, sSetB, sSetQ, sSetL, sSetT, sNew, sNewA, sNewL, sPush, sBump, sBegL, sPutT, sAddL_g, sAddL_q, sAddL_r, sAddL_l, sq, sl, sr, gSetI, gSetR, gSetA, gSetB, gNew, gNewA, up2, up1, gx, gk, gl, gi, gr, ga, gb, hpm])) ?_
  have hsq : sq (sSetI s 3 x (sp + nI 1)) ml = [] := hv
  refine r_callVr (As := []) (b := ml) (st := []) hK (cS_take_nil (s := sSetI s 3 x (sp + nI 1)) ml hml hsq) d_Ker_step_26 ml_Ker_103 cv_Line_take rfl (by decide) (p_recv k_Line (fun g h => h.kd hml (by decide))) (Nat.le_of_ble_eq_true rfl) ?_ rfl
  refine p_castN hK d_Ker_step_29 ?_
  refine r_astore_nN (lv' := [(3, .null), (2, .ref pp), (0, .ref x), (1, .int pv)]) hK d_Ker_step_32 rfl (by decide) rfl ?_
  refine r_aload_nN hK d_Ker_step_33 rfl 0 rfl ?_
  refine r_ifnull (v := none) (tgt := 64) hK d_Ker_step_34 (by decide) (fun _ => ?_) (fun _ z => absurd z (by simp))
  refine r_aload_n hK d_Ker_step_64 rfl 1 rfl ?_
  refine p_getR (f := 18) (v := none) hK d_Ker_step_65 k_Processor fd_Ker_125_Processor (by decide) rfl rfl (fun g h => h.getR hpp (by decide) rfl (by simp [sSetI, sSetR, sSetA, sSetB, sSetQ, sSetL, sSetT, sNew, sNewA, sNewL, sPush, sBump, sBegL, sPutT, sAddL_g, sAddL_q, sAddL_r, sAddL_l, sq, sl, sr, gSetI, gSetR, gSetA, gSetB, gNew, gNewA, up2, up1, gx, gk, gl, gi, gr, ga, gb, hcu])) ?_
  refine r_ifnonnull (v := none) (tgt := 77) hK d_Ker_step_68 (by decide) (fun _ z => absurd z (by simp)) (fun _ => ?_)
  refine r_aload_n hK d_Ker_step_71 rfl 2 rfl ?_
  refine r_aload_n hK d_Ker_step_72 rfl 1 rfl ?_
  refine r_callVi (As := [.ref pp]) (b := x) (st := []) hK (hpk) d_Ker_step_73 ml_Ker_129 cv_Ker_pick rfl (by decide) (p_recv k_Ker (fun g h => h.kd hx (by decide))) (Nat.le_of_ble_eq_true rfl) ?_ rfl
  refine r_iret hK d_Ker_step_76 rfl (rfl) ?_
  exact ⟨rfl, rfl⟩
set_option maxHeartbeats 1000000 in
theorem c_Ker_step_act0_Access (X : gCx) (l : Launch) (s : sS) (s2 : sS) (x pp ml : Nat) (pv sp : Int32) (hx : gk s.1 x = 1) (hpr : gMr X l (HoldP X (Abs X)) M_Ker_processor 0 0 0 [.ref x, .int pv] s (some pp) s) (hsp : gi s.1 3 x = sp) (hpp : gk s.1 pp = 3) (hpm : gr s.1 16 pp = some ml) (hml : gk s.1 ml = 4) (m ta ol dd o e cd da : Nat) (hv : sq s ml = []) (hxm : gr s.1 1 x = some m) (hm : gk s.1 m = 2) (hcu : gr s.1 18 pp = some ta) (hta : gk s.1 ta = 9) (hto : gr s.1 34 ta = some ol) (hol : gk s.1 ol = 14) (hdd : gi s.1 35 ta = nI dd) (hod : (sl s ol)[dd]? = some o) (ho : gk s.1 o = 10) (hph : gr s.1 39 o = some (cxE X e)) (he : e < 12) (hcd : ([4, 5, 6, 7, 8, 9, 10, 11, 12, 13, 14, 15] : List Int32).getD e 0 = nI cd) (hda : da ≤ 5) (hact : gMi X l (HoldP X (Abs X)) M_Access_act da 3 10 [.ref o, .ref m, .ref pp] (sSetI s 3 x (sp + nI 1)) (nI 0) s2) : gMi X l (HoldP X (Abs X)) M_Ker_step 6 4 12 [.ref x, .int pv] s (nI cd) s2 := by
  refine gM_intro (by decide) (Nat.le_of_ble_eq_true rfl) (fun K hK => ?_)
  show K 0 [(0, .ref x), (1, .int pv)] [] s 4 12
  refine r_aload_n hK d_Ker_step_0 rfl 0 rfl ?_
  refine r_iload_n hK d_Ker_step_1 rfl 1 rfl ?_
  refine r_callVr (As := [.int pv]) (b := x) (st := []) hK (hpr) d_Ker_step_2 ml_Ker_27 cv_Ker_processor rfl (by decide) (p_recv k_Ker (fun g h => h.kd hx (by decide))) (Nat.le_of_ble_eq_true rfl) ?_ rfl
  refine r_astore_n (lv' := [(2, .ref pp), (0, .ref x), (1, .int pv)]) hK d_Ker_step_5 rfl (by decide) rfl ?_
  refine r_aload_n hK d_Ker_step_6 rfl 0 rfl ?_
  refine r_ifnonnull (v := some pp) (tgt := 12) hK d_Ker_step_7 (by decide) (fun _ _ => ?_) (fun z => absurd z (by simp))
  refine r_aload_n hK d_Ker_step_12 rfl 1 rfl ?_
  refine r_dup hK d_Ker_step_13 rfl ?_
  refine p_getI (f := 3) (v := sp) hK d_Ker_step_14 k_Ker fd_Ker_96_Ker (by decide) rfl rfl (fun g h => h.getI hx (by decide) rfl hsp) ?_
  refine r_iconst (v := nI 1) hK d_Ker_step_17 (by decide) ?_
  refine r_iadd hK d_Ker_step_18 ?_
  refine p_putI (k := 2) (f := 3) hK d_Ker_step_19 k_Ker fd_Ker_96_Ker (by decide) rfl rfl rfl rfl rfl (fun g h => ⟨h.kd hx (by decide), h.setI (nz_of (k := 0) hx) rfl⟩) ?_
  refine r_aload_n hK d_Ker_step_22 rfl 0 rfl ?_
  refine p_getR (f := 16) (v := some ml) hK d_Ker_step_23 k_Processor fd_Ker_100_Processor (by decide) rfl rfl (fun g h => h.getR hpp (by decide) rfl (by simp [sSetI, sSetR, sSetA, sSetB, sSetQ, sSetL, sSetT, sNew, sNewA, sNewL, sPush, sBump, sBegL, sPutT, sAddL_g, sAddL_q, sAddL_r, sAddL_l, sq, sl, sr, gSetI, gSetR, gSetA, gSetB, gNew, gNewA, up2, up1, gx, gk, gl, gi, gr, ga, gb, hpm])) ?_
  have hsq : sq (sSetI s 3 x (sp + nI 1)) ml = [] := hv
  refine r_callVr (As := []) (b := ml) (st := []) hK (cS_take_nil (s := sSetI s 3 x (sp + nI 1)) ml hml hsq) d_Ker_step_26 ml_Ker_103 cv_Line_take rfl (by decide) (p_recv k_Line (fun g h => h.kd hml (by decide))) (Nat.le_of_ble_eq_true rfl) ?_ rfl
  refine p_castN hK d_Ker_step_29 ?_
  refine r_astore_nN (lv' := [(3, .null), (2, .ref pp), (0, .ref x), (1, .int pv)]) hK d_Ker_step_32 rfl (by decide) rfl ?_
  refine r_aload_nN hK d_Ker_step_33 rfl 0 rfl ?_
  refine r_ifnull (v := none) (tgt := 64) hK d_Ker_step_34 (by decide) (fun _ => ?_) (fun _ z => absurd z (by simp))
  refine r_aload_n hK d_Ker_step_64 rfl 1 rfl ?_
  refine p_getR (f := 18) (v := some ta) hK d_Ker_step_65 k_Processor fd_Ker_125_Processor (by decide) rfl rfl (fun g h => h.getR hpp (by decide) rfl (by simp [sSetI, sSetR, sSetA, sSetB, sSetQ, sSetL, sSetT, sNew, sNewA, sNewL, sPush, sBump, sBegL, sPutT, sAddL_g, sAddL_q, sAddL_r, sAddL_l, sq, sl, sr, gSetI, gSetR, gSetA, gSetB, gNew, gNewA, up2, up1, gx, gk, gl, gi, gr, ga, gb, hcu])) ?_
  refine r_ifnonnull (v := some ta) (tgt := 77) hK d_Ker_step_68 (by decide) (fun _ _ => ?_) (fun z => absurd z (by simp))
  refine r_aload_n hK d_Ker_step_77 rfl 1 rfl ?_
  refine p_getR (f := 18) (v := some ta) hK d_Ker_step_78 k_Processor fd_Ker_125_Processor (by decide) rfl rfl (fun g h => h.getR hpp (by decide) rfl (by simp [sSetI, sSetR, sSetA, sSetB, sSetQ, sSetL, sSetT, sNew, sNewA, sNewL, sPush, sBump, sBegL, sPutT, sAddL_g, sAddL_q, sAddL_r, sAddL_l, sq, sl, sr, gSetI, gSetR, gSetA, gSetB, gNew, gNewA, up2, up1, gx, gk, gl, gi, gr, ga, gb, hcu])) ?_
  refine r_astore (lv' := [(4, .ref ta), (3, .null), (2, .ref pp), (0, .ref x), (1, .int pv)]) hK d_Ker_step_81 (by decide) rfl ?_
  refine r_aload hK d_Ker_step_83 0 rfl ?_
  refine p_getR (f := 34) (v := some ol) hK d_Ker_step_85 k_Task fd_Ker_48_Task (by decide) rfl rfl (fun g h => h.getR hta (by decide) rfl (by simp [sSetI, sSetR, sSetA, sSetB, sSetQ, sSetL, sSetT, sNew, sNewA, sNewL, sPush, sBump, sBegL, sPutT, sAddL_g, sAddL_q, sAddL_r, sAddL_l, sq, sl, sr, gSetI, gSetR, gSetA, gSetB, gNew, gNewA, up2, up1, gx, gk, gl, gi, gr, ga, gb, hto])) ?_
  refine r_aload hK d_Ker_step_88 0 rfl ?_
  refine p_getI (f := 35) (v := nI dd) hK d_Ker_step_90 k_Task fd_Ker_133_Task (by decide) rfl rfl (fun g h => h.getI hta (by decide) rfl (by simp [sSetI, sSetR, sSetA, sSetB, sSetQ, sSetL, sSetT, sNew, sNewA, sNewL, sPush, sBump, sBegL, sPutT, sAddL_g, sAddL_q, sAddL_r, sAddL_l, sq, sl, sr, gSetI, gSetR, gSetA, gSetB, gNew, gNewA, up2, up1, gx, gk, gl, gi, gr, ga, gb, hdd])) ?_
  refine r_callVr (As := [.int (nI dd)]) (b := ol) (st := []) hK (cS_at (s := sSetI s 3 x (sp + (nI 1))) ol dd o (hol) (by simp [sSetI, sSetR, sSetA, sSetB, sSetQ, sSetL, sSetT, sNew, sNewA, sNewL, sPush, sBump, sBegL, sPutT, sAddL_g, sAddL_q, sAddL_r, sAddL_l, sq, sl, sr, gSetI, gSetR, gSetA, gSetB, gNew, gNewA, up2, up1, gx, gk, gl, gi, gr, ga, gb, hod])) d_Ker_step_93 ml_Ker_44 cv_AL_get rfl (by decide) (p_recv k_AL (fun g h => h.kd hol (by decide))) (Nat.le_of_ble_eq_true rfl) ?_ rfl
  refine p_cast hK d_Ker_step_96 cl_Ker_136 ca_Access_Order (p_recv k_Access (fun g h => h.kd ho (by decide))) ?_
  refine r_astore (lv' := [(5, .ref o), (4, .ref ta), (3, .null), (2, .ref pp), (0, .ref x), (1, .int pv)]) hK d_Ker_step_99 (by decide) rfl ?_
  refine r_aload hK d_Ker_step_101 0 rfl ?_
  refine p_getR (f := 39) (v := some (cxE X e)) hK d_Ker_step_103 k_Access fd_Ker_138_Access (by decide) rfl rfl (fun g h => h.getR ho (by decide) rfl (by simp [sSetI, sSetR, sSetA, sSetB, sSetQ, sSetL, sSetT, sNew, sNewA, sNewL, sPush, sBump, sBegL, sPutT, sAddL_g, sAddL_q, sAddL_r, sAddL_l, sq, sl, sr, gSetI, gSetR, gSetA, gSetB, gNew, gNewA, up2, up1, gx, gk, gl, gi, gr, ga, gb, hph])) ?_
  refine r_callVi (As := []) (b := cxE X e) (st := []) hK (c_Phase_code X l (HoldP X (Abs X)) (sSetI s 3 x (sp + (nI 1))) e (nI cd) he hcd) d_Ker_step_106 ml_Ker_142 cv_Phase_code rfl (by decide) (p_recvE he) (Nat.le_of_ble_eq_true rfl) ?_ rfl
  refine r_istore (lv' := [(6, .int (nI cd)), (5, .ref o), (4, .ref ta), (3, .null), (2, .ref pp), (0, .ref x), (1, .int pv)]) hK d_Ker_step_109 (by decide) rfl ?_
  refine r_aload hK d_Ker_step_111 1 rfl ?_
  refine r_aload_n hK d_Ker_step_113 rfl 5 rfl ?_
  refine p_getR (f := 1) (v := some m) hK d_Ker_step_114 k_Ker fd_Ker_10_Ker (by decide) rfl rfl (fun g h => h.getR hx (by decide) rfl (by simp [sSetI, sSetR, sSetA, sSetB, sSetQ, sSetL, sSetT, sNew, sNewA, sNewL, sPush, sBump, sBegL, sPutT, sAddL_g, sAddL_q, sAddL_r, sAddL_l, sq, sl, sr, gSetI, gSetR, gSetA, gSetB, gNew, gNewA, up2, up1, gx, gk, gl, gi, gr, ga, gb, hxm])) ?_
  refine r_aload_n hK d_Ker_step_117 rfl 4 rfl ?_
  refine r_callUi (As := [.ref m, .ref pp]) (b := o) (st := []) hK (hact) d_Ker_step_118 ml_Ker_147 cu_Access_Order_Access_act rfl (Nat.succ_le_succ hda) (p_recv k_Access (fun g h => h.kd ho (by decide))) (Nat.le_of_ble_eq_true rfl) ?_ rfl
  refine r_nif_ne (a := 0) (tgt := 127) hK d_Ker_step_121 (by decide) (by decide) (fun z => absurd z (by decide)) (fun _ => ?_)
  refine r_iload hK d_Ker_step_124 0 rfl ?_
  refine r_iret hK d_Ker_step_126 rfl (rfl) ?_
  exact ⟨rfl, rfl⟩
set_option maxHeartbeats 1000000 in
theorem c_Ker_step_act1_Access (X : gCx) (l : Launch) (s : sS) (s2 s4 : sS) (x pp ml : Nat) (pv sp : Int32) (hx : gk s.1 x = 1) (hpr : gMr X l (HoldP X (Abs X)) M_Ker_processor 0 0 0 [.ref x, .int pv] s (some pp) s) (hsp : gi s.1 3 x = sp) (hpp : gk s.1 pp = 3) (hpm : gr s.1 16 pp = some ml) (hml : gk s.1 ml = 4) (m ta ol dd o e cd da : Nat) (hv : sq s ml = []) (hxm : gr s.1 1 x = some m) (hm : gk s.1 m = 2) (hcu : gr s.1 18 pp = some ta) (hta : gk s.1 ta = 9) (hto : gr s.1 34 ta = some ol) (hol : gk s.1 ol = 14) (hdd : gi s.1 35 ta = nI dd) (hod : (sl s ol)[dd]? = some o) (ho : gk s.1 o = 10) (hph : gr s.1 39 o = some (cxE X e)) (he : e < 12) (hcd : ([4, 5, 6, 7, 8, 9, 10, 11, 12, 13, 14, 15] : List Int32).getD e 0 = nI cd) (hda : da ≤ 5) (hact : gMi X l (HoldP X (Abs X)) M_Access_act da 3 10 [.ref o, .ref m, .ref pp] (sSetI s 3 x (sp + nI 1)) (nI 1) s2) (fi : Int32) (hx2 : gk s2.1 x = 1) (hfi2 : gi s2.1 4 x = fi) (hta2 : gk s2.1 ta = 9) (hdd2 : gi s2.1 35 ta = nI dd) (hst : gMv X l (HoldP X (Abs X)) M_Ker_settle 3 1 2 [.ref x, .ref pp, .ref ta, .ref o] (sSetI (sSetI s2 4 x (fi + nI 1)) 35 ta (nI (dd + 1))) s4) : gMi X l (HoldP X (Abs X)) M_Ker_step 6 4 12 [.ref x, .int pv] s (nI (cd + 16)) s4 := by
  refine gM_intro (by decide) (Nat.le_of_ble_eq_true rfl) (fun K hK => ?_)
  show K 0 [(0, .ref x), (1, .int pv)] [] s 4 12
  refine r_aload_n hK d_Ker_step_0 rfl 0 rfl ?_
  refine r_iload_n hK d_Ker_step_1 rfl 1 rfl ?_
  refine r_callVr (As := [.int pv]) (b := x) (st := []) hK (hpr) d_Ker_step_2 ml_Ker_27 cv_Ker_processor rfl (by decide) (p_recv k_Ker (fun g h => h.kd hx (by decide))) (Nat.le_of_ble_eq_true rfl) ?_ rfl
  refine r_astore_n (lv' := [(2, .ref pp), (0, .ref x), (1, .int pv)]) hK d_Ker_step_5 rfl (by decide) rfl ?_
  refine r_aload_n hK d_Ker_step_6 rfl 0 rfl ?_
  refine r_ifnonnull (v := some pp) (tgt := 12) hK d_Ker_step_7 (by decide) (fun _ _ => ?_) (fun z => absurd z (by simp))
  refine r_aload_n hK d_Ker_step_12 rfl 1 rfl ?_
  refine r_dup hK d_Ker_step_13 rfl ?_
  refine p_getI (f := 3) (v := sp) hK d_Ker_step_14 k_Ker fd_Ker_96_Ker (by decide) rfl rfl (fun g h => h.getI hx (by decide) rfl hsp) ?_
  refine r_iconst (v := nI 1) hK d_Ker_step_17 (by decide) ?_
  refine r_iadd hK d_Ker_step_18 ?_
  refine p_putI (k := 2) (f := 3) hK d_Ker_step_19 k_Ker fd_Ker_96_Ker (by decide) rfl rfl rfl rfl rfl (fun g h => ⟨h.kd hx (by decide), h.setI (nz_of (k := 0) hx) rfl⟩) ?_
  refine r_aload_n hK d_Ker_step_22 rfl 0 rfl ?_
  refine p_getR (f := 16) (v := some ml) hK d_Ker_step_23 k_Processor fd_Ker_100_Processor (by decide) rfl rfl (fun g h => h.getR hpp (by decide) rfl (by simp [sSetI, sSetR, sSetA, sSetB, sSetQ, sSetL, sSetT, sNew, sNewA, sNewL, sPush, sBump, sBegL, sPutT, sAddL_g, sAddL_q, sAddL_r, sAddL_l, sq, sl, sr, gSetI, gSetR, gSetA, gSetB, gNew, gNewA, up2, up1, gx, gk, gl, gi, gr, ga, gb, hpm])) ?_
  have hsq : sq (sSetI s 3 x (sp + nI 1)) ml = [] := hv
  refine r_callVr (As := []) (b := ml) (st := []) hK (cS_take_nil (s := sSetI s 3 x (sp + nI 1)) ml hml hsq) d_Ker_step_26 ml_Ker_103 cv_Line_take rfl (by decide) (p_recv k_Line (fun g h => h.kd hml (by decide))) (Nat.le_of_ble_eq_true rfl) ?_ rfl
  refine p_castN hK d_Ker_step_29 ?_
  refine r_astore_nN (lv' := [(3, .null), (2, .ref pp), (0, .ref x), (1, .int pv)]) hK d_Ker_step_32 rfl (by decide) rfl ?_
  refine r_aload_nN hK d_Ker_step_33 rfl 0 rfl ?_
  refine r_ifnull (v := none) (tgt := 64) hK d_Ker_step_34 (by decide) (fun _ => ?_) (fun _ z => absurd z (by simp))
  refine r_aload_n hK d_Ker_step_64 rfl 1 rfl ?_
  refine p_getR (f := 18) (v := some ta) hK d_Ker_step_65 k_Processor fd_Ker_125_Processor (by decide) rfl rfl (fun g h => h.getR hpp (by decide) rfl (by simp [sSetI, sSetR, sSetA, sSetB, sSetQ, sSetL, sSetT, sNew, sNewA, sNewL, sPush, sBump, sBegL, sPutT, sAddL_g, sAddL_q, sAddL_r, sAddL_l, sq, sl, sr, gSetI, gSetR, gSetA, gSetB, gNew, gNewA, up2, up1, gx, gk, gl, gi, gr, ga, gb, hcu])) ?_
  refine r_ifnonnull (v := some ta) (tgt := 77) hK d_Ker_step_68 (by decide) (fun _ _ => ?_) (fun z => absurd z (by simp))
  refine r_aload_n hK d_Ker_step_77 rfl 1 rfl ?_
  refine p_getR (f := 18) (v := some ta) hK d_Ker_step_78 k_Processor fd_Ker_125_Processor (by decide) rfl rfl (fun g h => h.getR hpp (by decide) rfl (by simp [sSetI, sSetR, sSetA, sSetB, sSetQ, sSetL, sSetT, sNew, sNewA, sNewL, sPush, sBump, sBegL, sPutT, sAddL_g, sAddL_q, sAddL_r, sAddL_l, sq, sl, sr, gSetI, gSetR, gSetA, gSetB, gNew, gNewA, up2, up1, gx, gk, gl, gi, gr, ga, gb, hcu])) ?_
  refine r_astore (lv' := [(4, .ref ta), (3, .null), (2, .ref pp), (0, .ref x), (1, .int pv)]) hK d_Ker_step_81 (by decide) rfl ?_
  refine r_aload hK d_Ker_step_83 0 rfl ?_
  refine p_getR (f := 34) (v := some ol) hK d_Ker_step_85 k_Task fd_Ker_48_Task (by decide) rfl rfl (fun g h => h.getR hta (by decide) rfl (by simp [sSetI, sSetR, sSetA, sSetB, sSetQ, sSetL, sSetT, sNew, sNewA, sNewL, sPush, sBump, sBegL, sPutT, sAddL_g, sAddL_q, sAddL_r, sAddL_l, sq, sl, sr, gSetI, gSetR, gSetA, gSetB, gNew, gNewA, up2, up1, gx, gk, gl, gi, gr, ga, gb, hto])) ?_
  refine r_aload hK d_Ker_step_88 0 rfl ?_
  refine p_getI (f := 35) (v := nI dd) hK d_Ker_step_90 k_Task fd_Ker_133_Task (by decide) rfl rfl (fun g h => h.getI hta (by decide) rfl (by simp [sSetI, sSetR, sSetA, sSetB, sSetQ, sSetL, sSetT, sNew, sNewA, sNewL, sPush, sBump, sBegL, sPutT, sAddL_g, sAddL_q, sAddL_r, sAddL_l, sq, sl, sr, gSetI, gSetR, gSetA, gSetB, gNew, gNewA, up2, up1, gx, gk, gl, gi, gr, ga, gb, hdd])) ?_
  refine r_callVr (As := [.int (nI dd)]) (b := ol) (st := []) hK (cS_at (s := sSetI s 3 x (sp + (nI 1))) ol dd o (hol) (by simp [sSetI, sSetR, sSetA, sSetB, sSetQ, sSetL, sSetT, sNew, sNewA, sNewL, sPush, sBump, sBegL, sPutT, sAddL_g, sAddL_q, sAddL_r, sAddL_l, sq, sl, sr, gSetI, gSetR, gSetA, gSetB, gNew, gNewA, up2, up1, gx, gk, gl, gi, gr, ga, gb, hod])) d_Ker_step_93 ml_Ker_44 cv_AL_get rfl (by decide) (p_recv k_AL (fun g h => h.kd hol (by decide))) (Nat.le_of_ble_eq_true rfl) ?_ rfl
  refine p_cast hK d_Ker_step_96 cl_Ker_136 ca_Access_Order (p_recv k_Access (fun g h => h.kd ho (by decide))) ?_
  refine r_astore (lv' := [(5, .ref o), (4, .ref ta), (3, .null), (2, .ref pp), (0, .ref x), (1, .int pv)]) hK d_Ker_step_99 (by decide) rfl ?_
  refine r_aload hK d_Ker_step_101 0 rfl ?_
  refine p_getR (f := 39) (v := some (cxE X e)) hK d_Ker_step_103 k_Access fd_Ker_138_Access (by decide) rfl rfl (fun g h => h.getR ho (by decide) rfl (by simp [sSetI, sSetR, sSetA, sSetB, sSetQ, sSetL, sSetT, sNew, sNewA, sNewL, sPush, sBump, sBegL, sPutT, sAddL_g, sAddL_q, sAddL_r, sAddL_l, sq, sl, sr, gSetI, gSetR, gSetA, gSetB, gNew, gNewA, up2, up1, gx, gk, gl, gi, gr, ga, gb, hph])) ?_
  refine r_callVi (As := []) (b := cxE X e) (st := []) hK (c_Phase_code X l (HoldP X (Abs X)) (sSetI s 3 x (sp + (nI 1))) e (nI cd) he hcd) d_Ker_step_106 ml_Ker_142 cv_Phase_code rfl (by decide) (p_recvE he) (Nat.le_of_ble_eq_true rfl) ?_ rfl
  refine r_istore (lv' := [(6, .int (nI cd)), (5, .ref o), (4, .ref ta), (3, .null), (2, .ref pp), (0, .ref x), (1, .int pv)]) hK d_Ker_step_109 (by decide) rfl ?_
  refine r_aload hK d_Ker_step_111 1 rfl ?_
  refine r_aload_n hK d_Ker_step_113 rfl 5 rfl ?_
  refine p_getR (f := 1) (v := some m) hK d_Ker_step_114 k_Ker fd_Ker_10_Ker (by decide) rfl rfl (fun g h => h.getR hx (by decide) rfl (by simp [sSetI, sSetR, sSetA, sSetB, sSetQ, sSetL, sSetT, sNew, sNewA, sNewL, sPush, sBump, sBegL, sPutT, sAddL_g, sAddL_q, sAddL_r, sAddL_l, sq, sl, sr, gSetI, gSetR, gSetA, gSetB, gNew, gNewA, up2, up1, gx, gk, gl, gi, gr, ga, gb, hxm])) ?_
  refine r_aload_n hK d_Ker_step_117 rfl 4 rfl ?_
  refine r_callUi (As := [.ref m, .ref pp]) (b := o) (st := []) hK (hact) d_Ker_step_118 ml_Ker_147 cu_Access_Order_Access_act rfl (Nat.succ_le_succ hda) (p_recv k_Access (fun g h => h.kd ho (by decide))) (Nat.le_of_ble_eq_true rfl) ?_ rfl
  refine r_nif_ne (a := 1) (tgt := 127) hK d_Ker_step_121 (by decide) (by decide) (fun _ => ?_) (fun z => absurd z (by decide))
  refine r_aload_n hK d_Ker_step_127 rfl 5 rfl ?_
  refine r_dup hK d_Ker_step_128 rfl ?_
  refine p_getI (f := 4) (v := fi) hK d_Ker_step_129 k_Ker fd_Ker_151_Ker (by decide) rfl rfl (fun g h => h.getI hx2 (by decide) rfl hfi2) ?_
  refine r_iconst (v := nI 1) hK d_Ker_step_132 (by decide) ?_
  refine r_iadd hK d_Ker_step_133 ?_
  refine p_putI (k := 3) (f := 4) hK d_Ker_step_134 k_Ker fd_Ker_151_Ker (by decide) rfl rfl rfl rfl rfl (fun g h => ⟨h.kd hx2 (by decide), h.setI (nz_of (k := 0) hx2) rfl⟩) ?_
  refine r_aload hK d_Ker_step_137 2 rfl ?_
  refine r_dup hK d_Ker_step_139 rfl ?_
  refine p_getI (f := 35) (v := nI dd) hK d_Ker_step_140 k_Task fd_Ker_133_Task (by decide) rfl rfl (fun g h => h.getI hta2 (by decide) rfl (by simp [sSetI, sSetR, sSetA, sSetB, sSetQ, sSetL, sSetT, sNew, sNewA, sNewL, sPush, sBump, sBegL, sPutT, sAddL_g, sAddL_q, sAddL_r, sAddL_l, sq, sl, sr, gSetI, gSetR, gSetA, gSetB, gNew, gNewA, up2, up1, gx, gk, gl, gi, gr, ga, gb, hdd2])) ?_
  refine r_iconst (v := nI 1) hK d_Ker_step_143 (by decide) ?_
  refine r_iadd hK d_Ker_step_144 ?_
  refine r_tp (b := nI (dd + 1)) (nI_add _ _) ?_
  refine p_putI (k := 2) (f := 35) hK d_Ker_step_145 k_Task fd_Ker_133_Task (by decide) rfl rfl rfl rfl rfl (fun g h => ⟨h.kd hta2 (by decide), h.setI (nz_of (k := 8) hta2) rfl⟩) ?_
  refine r_aload_n hK d_Ker_step_148 rfl 5 rfl ?_
  refine r_aload_n hK d_Ker_step_149 rfl 4 rfl ?_
  refine r_aload hK d_Ker_step_150 2 rfl ?_
  refine r_aload hK d_Ker_step_152 1 rfl ?_
  refine r_callVv (As := [.ref pp, .ref ta, .ref o]) (b := x) (st := []) hK (hst) d_Ker_step_154 ml_Ker_154 cv_Ker_settle rfl (by decide) (p_recv k_Ker (fun g h => h.kd hx2 (by decide))) (Nat.le_of_ble_eq_true rfl) ?_ rfl
  refine r_iload hK d_Ker_step_157 0 rfl ?_
  refine r_bipush (v := nI 16) hK d_Ker_step_159 (by decide) ?_
  refine r_iadd hK d_Ker_step_161 ?_
  refine r_tp (b := nI (cd + 16)) (nI_add _ _) ?_
  refine r_iret hK d_Ker_step_162 rfl (rfl) ?_
  exact ⟨rfl, rfl⟩
set_option maxHeartbeats 1000000 in
theorem c_Ker_step_act0_Grant (X : gCx) (l : Launch) (s : sS) (s2 : sS) (x pp ml : Nat) (pv sp : Int32) (hx : gk s.1 x = 1) (hpr : gMr X l (HoldP X (Abs X)) M_Ker_processor 0 0 0 [.ref x, .int pv] s (some pp) s) (hsp : gi s.1 3 x = sp) (hpp : gk s.1 pp = 3) (hpm : gr s.1 16 pp = some ml) (hml : gk s.1 ml = 4) (m ta ol dd o e cd da : Nat) (hv : sq s ml = []) (hxm : gr s.1 1 x = some m) (hm : gk s.1 m = 2) (hcu : gr s.1 18 pp = some ta) (hta : gk s.1 ta = 9) (hto : gr s.1 34 ta = some ol) (hol : gk s.1 ol = 14) (hdd : gi s.1 35 ta = nI dd) (hod : (sl s ol)[dd]? = some o) (ho : gk s.1 o = 11) (hph : gr s.1 39 o = some (cxE X e)) (he : e < 12) (hcd : ([4, 5, 6, 7, 8, 9, 10, 11, 12, 13, 14, 15] : List Int32).getD e 0 = nI cd) (hda : da ≤ 5) (hact : gMi X l (HoldP X (Abs X)) M_Locked_act da 3 10 [.ref o, .ref m, .ref pp] (sSetI s 3 x (sp + nI 1)) (nI 0) s2) : gMi X l (HoldP X (Abs X)) M_Ker_step 6 4 12 [.ref x, .int pv] s (nI cd) s2 := by
  refine gM_intro (by decide) (Nat.le_of_ble_eq_true rfl) (fun K hK => ?_)
  show K 0 [(0, .ref x), (1, .int pv)] [] s 4 12
  refine r_aload_n hK d_Ker_step_0 rfl 0 rfl ?_
  refine r_iload_n hK d_Ker_step_1 rfl 1 rfl ?_
  refine r_callVr (As := [.int pv]) (b := x) (st := []) hK (hpr) d_Ker_step_2 ml_Ker_27 cv_Ker_processor rfl (by decide) (p_recv k_Ker (fun g h => h.kd hx (by decide))) (Nat.le_of_ble_eq_true rfl) ?_ rfl
  refine r_astore_n (lv' := [(2, .ref pp), (0, .ref x), (1, .int pv)]) hK d_Ker_step_5 rfl (by decide) rfl ?_
  refine r_aload_n hK d_Ker_step_6 rfl 0 rfl ?_
  refine r_ifnonnull (v := some pp) (tgt := 12) hK d_Ker_step_7 (by decide) (fun _ _ => ?_) (fun z => absurd z (by simp))
  refine r_aload_n hK d_Ker_step_12 rfl 1 rfl ?_
  refine r_dup hK d_Ker_step_13 rfl ?_
  refine p_getI (f := 3) (v := sp) hK d_Ker_step_14 k_Ker fd_Ker_96_Ker (by decide) rfl rfl (fun g h => h.getI hx (by decide) rfl hsp) ?_
  refine r_iconst (v := nI 1) hK d_Ker_step_17 (by decide) ?_
  refine r_iadd hK d_Ker_step_18 ?_
  refine p_putI (k := 2) (f := 3) hK d_Ker_step_19 k_Ker fd_Ker_96_Ker (by decide) rfl rfl rfl rfl rfl (fun g h => ⟨h.kd hx (by decide), h.setI (nz_of (k := 0) hx) rfl⟩) ?_
  refine r_aload_n hK d_Ker_step_22 rfl 0 rfl ?_
  refine p_getR (f := 16) (v := some ml) hK d_Ker_step_23 k_Processor fd_Ker_100_Processor (by decide) rfl rfl (fun g h => h.getR hpp (by decide) rfl (by simp [sSetI, sSetR, sSetA, sSetB, sSetQ, sSetL, sSetT, sNew, sNewA, sNewL, sPush, sBump, sBegL, sPutT, sAddL_g, sAddL_q, sAddL_r, sAddL_l, sq, sl, sr, gSetI, gSetR, gSetA, gSetB, gNew, gNewA, up2, up1, gx, gk, gl, gi, gr, ga, gb, hpm])) ?_
  have hsq : sq (sSetI s 3 x (sp + nI 1)) ml = [] := hv
  refine r_callVr (As := []) (b := ml) (st := []) hK (cS_take_nil (s := sSetI s 3 x (sp + nI 1)) ml hml hsq) d_Ker_step_26 ml_Ker_103 cv_Line_take rfl (by decide) (p_recv k_Line (fun g h => h.kd hml (by decide))) (Nat.le_of_ble_eq_true rfl) ?_ rfl
  refine p_castN hK d_Ker_step_29 ?_
  refine r_astore_nN (lv' := [(3, .null), (2, .ref pp), (0, .ref x), (1, .int pv)]) hK d_Ker_step_32 rfl (by decide) rfl ?_
  refine r_aload_nN hK d_Ker_step_33 rfl 0 rfl ?_
  refine r_ifnull (v := none) (tgt := 64) hK d_Ker_step_34 (by decide) (fun _ => ?_) (fun _ z => absurd z (by simp))
  refine r_aload_n hK d_Ker_step_64 rfl 1 rfl ?_
  refine p_getR (f := 18) (v := some ta) hK d_Ker_step_65 k_Processor fd_Ker_125_Processor (by decide) rfl rfl (fun g h => h.getR hpp (by decide) rfl (by simp [sSetI, sSetR, sSetA, sSetB, sSetQ, sSetL, sSetT, sNew, sNewA, sNewL, sPush, sBump, sBegL, sPutT, sAddL_g, sAddL_q, sAddL_r, sAddL_l, sq, sl, sr, gSetI, gSetR, gSetA, gSetB, gNew, gNewA, up2, up1, gx, gk, gl, gi, gr, ga, gb, hcu])) ?_
  refine r_ifnonnull (v := some ta) (tgt := 77) hK d_Ker_step_68 (by decide) (fun _ _ => ?_) (fun z => absurd z (by simp))
  refine r_aload_n hK d_Ker_step_77 rfl 1 rfl ?_
  refine p_getR (f := 18) (v := some ta) hK d_Ker_step_78 k_Processor fd_Ker_125_Processor (by decide) rfl rfl (fun g h => h.getR hpp (by decide) rfl (by simp [sSetI, sSetR, sSetA, sSetB, sSetQ, sSetL, sSetT, sNew, sNewA, sNewL, sPush, sBump, sBegL, sPutT, sAddL_g, sAddL_q, sAddL_r, sAddL_l, sq, sl, sr, gSetI, gSetR, gSetA, gSetB, gNew, gNewA, up2, up1, gx, gk, gl, gi, gr, ga, gb, hcu])) ?_
  refine r_astore (lv' := [(4, .ref ta), (3, .null), (2, .ref pp), (0, .ref x), (1, .int pv)]) hK d_Ker_step_81 (by decide) rfl ?_
  refine r_aload hK d_Ker_step_83 0 rfl ?_
  refine p_getR (f := 34) (v := some ol) hK d_Ker_step_85 k_Task fd_Ker_48_Task (by decide) rfl rfl (fun g h => h.getR hta (by decide) rfl (by simp [sSetI, sSetR, sSetA, sSetB, sSetQ, sSetL, sSetT, sNew, sNewA, sNewL, sPush, sBump, sBegL, sPutT, sAddL_g, sAddL_q, sAddL_r, sAddL_l, sq, sl, sr, gSetI, gSetR, gSetA, gSetB, gNew, gNewA, up2, up1, gx, gk, gl, gi, gr, ga, gb, hto])) ?_
  refine r_aload hK d_Ker_step_88 0 rfl ?_
  refine p_getI (f := 35) (v := nI dd) hK d_Ker_step_90 k_Task fd_Ker_133_Task (by decide) rfl rfl (fun g h => h.getI hta (by decide) rfl (by simp [sSetI, sSetR, sSetA, sSetB, sSetQ, sSetL, sSetT, sNew, sNewA, sNewL, sPush, sBump, sBegL, sPutT, sAddL_g, sAddL_q, sAddL_r, sAddL_l, sq, sl, sr, gSetI, gSetR, gSetA, gSetB, gNew, gNewA, up2, up1, gx, gk, gl, gi, gr, ga, gb, hdd])) ?_
  refine r_callVr (As := [.int (nI dd)]) (b := ol) (st := []) hK (cS_at (s := sSetI s 3 x (sp + (nI 1))) ol dd o (hol) (by simp [sSetI, sSetR, sSetA, sSetB, sSetQ, sSetL, sSetT, sNew, sNewA, sNewL, sPush, sBump, sBegL, sPutT, sAddL_g, sAddL_q, sAddL_r, sAddL_l, sq, sl, sr, gSetI, gSetR, gSetA, gSetB, gNew, gNewA, up2, up1, gx, gk, gl, gi, gr, ga, gb, hod])) d_Ker_step_93 ml_Ker_44 cv_AL_get rfl (by decide) (p_recv k_AL (fun g h => h.kd hol (by decide))) (Nat.le_of_ble_eq_true rfl) ?_ rfl
  refine p_cast hK d_Ker_step_96 cl_Ker_136 ca_Grant_Order (p_recv k_Grant (fun g h => h.kd ho (by decide))) ?_
  refine r_astore (lv' := [(5, .ref o), (4, .ref ta), (3, .null), (2, .ref pp), (0, .ref x), (1, .int pv)]) hK d_Ker_step_99 (by decide) rfl ?_
  refine r_aload hK d_Ker_step_101 0 rfl ?_
  refine p_getR (f := 39) (v := some (cxE X e)) hK d_Ker_step_103 k_Grant fd_Ker_138_Grant (by decide) rfl rfl (fun g h => h.getR ho (by decide) rfl (by simp [sSetI, sSetR, sSetA, sSetB, sSetQ, sSetL, sSetT, sNew, sNewA, sNewL, sPush, sBump, sBegL, sPutT, sAddL_g, sAddL_q, sAddL_r, sAddL_l, sq, sl, sr, gSetI, gSetR, gSetA, gSetB, gNew, gNewA, up2, up1, gx, gk, gl, gi, gr, ga, gb, hph])) ?_
  refine r_callVi (As := []) (b := cxE X e) (st := []) hK (c_Phase_code X l (HoldP X (Abs X)) (sSetI s 3 x (sp + (nI 1))) e (nI cd) he hcd) d_Ker_step_106 ml_Ker_142 cv_Phase_code rfl (by decide) (p_recvE he) (Nat.le_of_ble_eq_true rfl) ?_ rfl
  refine r_istore (lv' := [(6, .int (nI cd)), (5, .ref o), (4, .ref ta), (3, .null), (2, .ref pp), (0, .ref x), (1, .int pv)]) hK d_Ker_step_109 (by decide) rfl ?_
  refine r_aload hK d_Ker_step_111 1 rfl ?_
  refine r_aload_n hK d_Ker_step_113 rfl 5 rfl ?_
  refine p_getR (f := 1) (v := some m) hK d_Ker_step_114 k_Ker fd_Ker_10_Ker (by decide) rfl rfl (fun g h => h.getR hx (by decide) rfl (by simp [sSetI, sSetR, sSetA, sSetB, sSetQ, sSetL, sSetT, sNew, sNewA, sNewL, sPush, sBump, sBegL, sPutT, sAddL_g, sAddL_q, sAddL_r, sAddL_l, sq, sl, sr, gSetI, gSetR, gSetA, gSetB, gNew, gNewA, up2, up1, gx, gk, gl, gi, gr, ga, gb, hxm])) ?_
  refine r_aload_n hK d_Ker_step_117 rfl 4 rfl ?_
  refine r_callUi (As := [.ref m, .ref pp]) (b := o) (st := []) hK (hact) d_Ker_step_118 ml_Ker_147 cu_Grant_Order_Locked_act rfl (Nat.succ_le_succ hda) (p_recv k_Grant (fun g h => h.kd ho (by decide))) (Nat.le_of_ble_eq_true rfl) ?_ rfl
  refine r_nif_ne (a := 0) (tgt := 127) hK d_Ker_step_121 (by decide) (by decide) (fun z => absurd z (by decide)) (fun _ => ?_)
  refine r_iload hK d_Ker_step_124 0 rfl ?_
  refine r_iret hK d_Ker_step_126 rfl (rfl) ?_
  exact ⟨rfl, rfl⟩
set_option maxHeartbeats 1000000 in
theorem c_Ker_step_act1_Grant (X : gCx) (l : Launch) (s : sS) (s2 s4 : sS) (x pp ml : Nat) (pv sp : Int32) (hx : gk s.1 x = 1) (hpr : gMr X l (HoldP X (Abs X)) M_Ker_processor 0 0 0 [.ref x, .int pv] s (some pp) s) (hsp : gi s.1 3 x = sp) (hpp : gk s.1 pp = 3) (hpm : gr s.1 16 pp = some ml) (hml : gk s.1 ml = 4) (m ta ol dd o e cd da : Nat) (hv : sq s ml = []) (hxm : gr s.1 1 x = some m) (hm : gk s.1 m = 2) (hcu : gr s.1 18 pp = some ta) (hta : gk s.1 ta = 9) (hto : gr s.1 34 ta = some ol) (hol : gk s.1 ol = 14) (hdd : gi s.1 35 ta = nI dd) (hod : (sl s ol)[dd]? = some o) (ho : gk s.1 o = 11) (hph : gr s.1 39 o = some (cxE X e)) (he : e < 12) (hcd : ([4, 5, 6, 7, 8, 9, 10, 11, 12, 13, 14, 15] : List Int32).getD e 0 = nI cd) (hda : da ≤ 5) (hact : gMi X l (HoldP X (Abs X)) M_Locked_act da 3 10 [.ref o, .ref m, .ref pp] (sSetI s 3 x (sp + nI 1)) (nI 1) s2) (fi : Int32) (hx2 : gk s2.1 x = 1) (hfi2 : gi s2.1 4 x = fi) (hta2 : gk s2.1 ta = 9) (hdd2 : gi s2.1 35 ta = nI dd) (hst : gMv X l (HoldP X (Abs X)) M_Ker_settle 3 1 2 [.ref x, .ref pp, .ref ta, .ref o] (sSetI (sSetI s2 4 x (fi + nI 1)) 35 ta (nI (dd + 1))) s4) : gMi X l (HoldP X (Abs X)) M_Ker_step 6 4 12 [.ref x, .int pv] s (nI (cd + 16)) s4 := by
  refine gM_intro (by decide) (Nat.le_of_ble_eq_true rfl) (fun K hK => ?_)
  show K 0 [(0, .ref x), (1, .int pv)] [] s 4 12
  refine r_aload_n hK d_Ker_step_0 rfl 0 rfl ?_
  refine r_iload_n hK d_Ker_step_1 rfl 1 rfl ?_
  refine r_callVr (As := [.int pv]) (b := x) (st := []) hK (hpr) d_Ker_step_2 ml_Ker_27 cv_Ker_processor rfl (by decide) (p_recv k_Ker (fun g h => h.kd hx (by decide))) (Nat.le_of_ble_eq_true rfl) ?_ rfl
  refine r_astore_n (lv' := [(2, .ref pp), (0, .ref x), (1, .int pv)]) hK d_Ker_step_5 rfl (by decide) rfl ?_
  refine r_aload_n hK d_Ker_step_6 rfl 0 rfl ?_
  refine r_ifnonnull (v := some pp) (tgt := 12) hK d_Ker_step_7 (by decide) (fun _ _ => ?_) (fun z => absurd z (by simp))
  refine r_aload_n hK d_Ker_step_12 rfl 1 rfl ?_
  refine r_dup hK d_Ker_step_13 rfl ?_
  refine p_getI (f := 3) (v := sp) hK d_Ker_step_14 k_Ker fd_Ker_96_Ker (by decide) rfl rfl (fun g h => h.getI hx (by decide) rfl hsp) ?_
  refine r_iconst (v := nI 1) hK d_Ker_step_17 (by decide) ?_
  refine r_iadd hK d_Ker_step_18 ?_
  refine p_putI (k := 2) (f := 3) hK d_Ker_step_19 k_Ker fd_Ker_96_Ker (by decide) rfl rfl rfl rfl rfl (fun g h => ⟨h.kd hx (by decide), h.setI (nz_of (k := 0) hx) rfl⟩) ?_
  refine r_aload_n hK d_Ker_step_22 rfl 0 rfl ?_
  refine p_getR (f := 16) (v := some ml) hK d_Ker_step_23 k_Processor fd_Ker_100_Processor (by decide) rfl rfl (fun g h => h.getR hpp (by decide) rfl (by simp [sSetI, sSetR, sSetA, sSetB, sSetQ, sSetL, sSetT, sNew, sNewA, sNewL, sPush, sBump, sBegL, sPutT, sAddL_g, sAddL_q, sAddL_r, sAddL_l, sq, sl, sr, gSetI, gSetR, gSetA, gSetB, gNew, gNewA, up2, up1, gx, gk, gl, gi, gr, ga, gb, hpm])) ?_
  have hsq : sq (sSetI s 3 x (sp + nI 1)) ml = [] := hv
  refine r_callVr (As := []) (b := ml) (st := []) hK (cS_take_nil (s := sSetI s 3 x (sp + nI 1)) ml hml hsq) d_Ker_step_26 ml_Ker_103 cv_Line_take rfl (by decide) (p_recv k_Line (fun g h => h.kd hml (by decide))) (Nat.le_of_ble_eq_true rfl) ?_ rfl
  refine p_castN hK d_Ker_step_29 ?_
  refine r_astore_nN (lv' := [(3, .null), (2, .ref pp), (0, .ref x), (1, .int pv)]) hK d_Ker_step_32 rfl (by decide) rfl ?_
  refine r_aload_nN hK d_Ker_step_33 rfl 0 rfl ?_
  refine r_ifnull (v := none) (tgt := 64) hK d_Ker_step_34 (by decide) (fun _ => ?_) (fun _ z => absurd z (by simp))
  refine r_aload_n hK d_Ker_step_64 rfl 1 rfl ?_
  refine p_getR (f := 18) (v := some ta) hK d_Ker_step_65 k_Processor fd_Ker_125_Processor (by decide) rfl rfl (fun g h => h.getR hpp (by decide) rfl (by simp [sSetI, sSetR, sSetA, sSetB, sSetQ, sSetL, sSetT, sNew, sNewA, sNewL, sPush, sBump, sBegL, sPutT, sAddL_g, sAddL_q, sAddL_r, sAddL_l, sq, sl, sr, gSetI, gSetR, gSetA, gSetB, gNew, gNewA, up2, up1, gx, gk, gl, gi, gr, ga, gb, hcu])) ?_
  refine r_ifnonnull (v := some ta) (tgt := 77) hK d_Ker_step_68 (by decide) (fun _ _ => ?_) (fun z => absurd z (by simp))
  refine r_aload_n hK d_Ker_step_77 rfl 1 rfl ?_
  refine p_getR (f := 18) (v := some ta) hK d_Ker_step_78 k_Processor fd_Ker_125_Processor (by decide) rfl rfl (fun g h => h.getR hpp (by decide) rfl (by simp [sSetI, sSetR, sSetA, sSetB, sSetQ, sSetL, sSetT, sNew, sNewA, sNewL, sPush, sBump, sBegL, sPutT, sAddL_g, sAddL_q, sAddL_r, sAddL_l, sq, sl, sr, gSetI, gSetR, gSetA, gSetB, gNew, gNewA, up2, up1, gx, gk, gl, gi, gr, ga, gb, hcu])) ?_
  refine r_astore (lv' := [(4, .ref ta), (3, .null), (2, .ref pp), (0, .ref x), (1, .int pv)]) hK d_Ker_step_81 (by decide) rfl ?_
  refine r_aload hK d_Ker_step_83 0 rfl ?_
  refine p_getR (f := 34) (v := some ol) hK d_Ker_step_85 k_Task fd_Ker_48_Task (by decide) rfl rfl (fun g h => h.getR hta (by decide) rfl (by simp [sSetI, sSetR, sSetA, sSetB, sSetQ, sSetL, sSetT, sNew, sNewA, sNewL, sPush, sBump, sBegL, sPutT, sAddL_g, sAddL_q, sAddL_r, sAddL_l, sq, sl, sr, gSetI, gSetR, gSetA, gSetB, gNew, gNewA, up2, up1, gx, gk, gl, gi, gr, ga, gb, hto])) ?_
  refine r_aload hK d_Ker_step_88 0 rfl ?_
  refine p_getI (f := 35) (v := nI dd) hK d_Ker_step_90 k_Task fd_Ker_133_Task (by decide) rfl rfl (fun g h => h.getI hta (by decide) rfl (by simp [sSetI, sSetR, sSetA, sSetB, sSetQ, sSetL, sSetT, sNew, sNewA, sNewL, sPush, sBump, sBegL, sPutT, sAddL_g, sAddL_q, sAddL_r, sAddL_l, sq, sl, sr, gSetI, gSetR, gSetA, gSetB, gNew, gNewA, up2, up1, gx, gk, gl, gi, gr, ga, gb, hdd])) ?_
  refine r_callVr (As := [.int (nI dd)]) (b := ol) (st := []) hK (cS_at (s := sSetI s 3 x (sp + (nI 1))) ol dd o (hol) (by simp [sSetI, sSetR, sSetA, sSetB, sSetQ, sSetL, sSetT, sNew, sNewA, sNewL, sPush, sBump, sBegL, sPutT, sAddL_g, sAddL_q, sAddL_r, sAddL_l, sq, sl, sr, gSetI, gSetR, gSetA, gSetB, gNew, gNewA, up2, up1, gx, gk, gl, gi, gr, ga, gb, hod])) d_Ker_step_93 ml_Ker_44 cv_AL_get rfl (by decide) (p_recv k_AL (fun g h => h.kd hol (by decide))) (Nat.le_of_ble_eq_true rfl) ?_ rfl
  refine p_cast hK d_Ker_step_96 cl_Ker_136 ca_Grant_Order (p_recv k_Grant (fun g h => h.kd ho (by decide))) ?_
  refine r_astore (lv' := [(5, .ref o), (4, .ref ta), (3, .null), (2, .ref pp), (0, .ref x), (1, .int pv)]) hK d_Ker_step_99 (by decide) rfl ?_
  refine r_aload hK d_Ker_step_101 0 rfl ?_
  refine p_getR (f := 39) (v := some (cxE X e)) hK d_Ker_step_103 k_Grant fd_Ker_138_Grant (by decide) rfl rfl (fun g h => h.getR ho (by decide) rfl (by simp [sSetI, sSetR, sSetA, sSetB, sSetQ, sSetL, sSetT, sNew, sNewA, sNewL, sPush, sBump, sBegL, sPutT, sAddL_g, sAddL_q, sAddL_r, sAddL_l, sq, sl, sr, gSetI, gSetR, gSetA, gSetB, gNew, gNewA, up2, up1, gx, gk, gl, gi, gr, ga, gb, hph])) ?_
  refine r_callVi (As := []) (b := cxE X e) (st := []) hK (c_Phase_code X l (HoldP X (Abs X)) (sSetI s 3 x (sp + (nI 1))) e (nI cd) he hcd) d_Ker_step_106 ml_Ker_142 cv_Phase_code rfl (by decide) (p_recvE he) (Nat.le_of_ble_eq_true rfl) ?_ rfl
  refine r_istore (lv' := [(6, .int (nI cd)), (5, .ref o), (4, .ref ta), (3, .null), (2, .ref pp), (0, .ref x), (1, .int pv)]) hK d_Ker_step_109 (by decide) rfl ?_
  refine r_aload hK d_Ker_step_111 1 rfl ?_
  refine r_aload_n hK d_Ker_step_113 rfl 5 rfl ?_
  refine p_getR (f := 1) (v := some m) hK d_Ker_step_114 k_Ker fd_Ker_10_Ker (by decide) rfl rfl (fun g h => h.getR hx (by decide) rfl (by simp [sSetI, sSetR, sSetA, sSetB, sSetQ, sSetL, sSetT, sNew, sNewA, sNewL, sPush, sBump, sBegL, sPutT, sAddL_g, sAddL_q, sAddL_r, sAddL_l, sq, sl, sr, gSetI, gSetR, gSetA, gSetB, gNew, gNewA, up2, up1, gx, gk, gl, gi, gr, ga, gb, hxm])) ?_
  refine r_aload_n hK d_Ker_step_117 rfl 4 rfl ?_
  refine r_callUi (As := [.ref m, .ref pp]) (b := o) (st := []) hK (hact) d_Ker_step_118 ml_Ker_147 cu_Grant_Order_Locked_act rfl (Nat.succ_le_succ hda) (p_recv k_Grant (fun g h => h.kd ho (by decide))) (Nat.le_of_ble_eq_true rfl) ?_ rfl
  refine r_nif_ne (a := 1) (tgt := 127) hK d_Ker_step_121 (by decide) (by decide) (fun _ => ?_) (fun z => absurd z (by decide))
  refine r_aload_n hK d_Ker_step_127 rfl 5 rfl ?_
  refine r_dup hK d_Ker_step_128 rfl ?_
  refine p_getI (f := 4) (v := fi) hK d_Ker_step_129 k_Ker fd_Ker_151_Ker (by decide) rfl rfl (fun g h => h.getI hx2 (by decide) rfl hfi2) ?_
  refine r_iconst (v := nI 1) hK d_Ker_step_132 (by decide) ?_
  refine r_iadd hK d_Ker_step_133 ?_
  refine p_putI (k := 3) (f := 4) hK d_Ker_step_134 k_Ker fd_Ker_151_Ker (by decide) rfl rfl rfl rfl rfl (fun g h => ⟨h.kd hx2 (by decide), h.setI (nz_of (k := 0) hx2) rfl⟩) ?_
  refine r_aload hK d_Ker_step_137 2 rfl ?_
  refine r_dup hK d_Ker_step_139 rfl ?_
  refine p_getI (f := 35) (v := nI dd) hK d_Ker_step_140 k_Task fd_Ker_133_Task (by decide) rfl rfl (fun g h => h.getI hta2 (by decide) rfl (by simp [sSetI, sSetR, sSetA, sSetB, sSetQ, sSetL, sSetT, sNew, sNewA, sNewL, sPush, sBump, sBegL, sPutT, sAddL_g, sAddL_q, sAddL_r, sAddL_l, sq, sl, sr, gSetI, gSetR, gSetA, gSetB, gNew, gNewA, up2, up1, gx, gk, gl, gi, gr, ga, gb, hdd2])) ?_
  refine r_iconst (v := nI 1) hK d_Ker_step_143 (by decide) ?_
  refine r_iadd hK d_Ker_step_144 ?_
  refine r_tp (b := nI (dd + 1)) (nI_add _ _) ?_
  refine p_putI (k := 2) (f := 35) hK d_Ker_step_145 k_Task fd_Ker_133_Task (by decide) rfl rfl rfl rfl rfl (fun g h => ⟨h.kd hta2 (by decide), h.setI (nz_of (k := 8) hta2) rfl⟩) ?_
  refine r_aload_n hK d_Ker_step_148 rfl 5 rfl ?_
  refine r_aload_n hK d_Ker_step_149 rfl 4 rfl ?_
  refine r_aload hK d_Ker_step_150 2 rfl ?_
  refine r_aload hK d_Ker_step_152 1 rfl ?_
  refine r_callVv (As := [.ref pp, .ref ta, .ref o]) (b := x) (st := []) hK (hst) d_Ker_step_154 ml_Ker_154 cv_Ker_settle rfl (by decide) (p_recv k_Ker (fun g h => h.kd hx2 (by decide))) (Nat.le_of_ble_eq_true rfl) ?_ rfl
  refine r_iload hK d_Ker_step_157 0 rfl ?_
  refine r_bipush (v := nI 16) hK d_Ker_step_159 (by decide) ?_
  refine r_iadd hK d_Ker_step_161 ?_
  refine r_tp (b := nI (cd + 16)) (nI_add _ _) ?_
  refine r_iret hK d_Ker_step_162 rfl (rfl) ?_
  exact ⟨rfl, rfl⟩
set_option maxHeartbeats 1000000 in
theorem c_Ker_step_act0_Revoke (X : gCx) (l : Launch) (s : sS) (s2 : sS) (x pp ml : Nat) (pv sp : Int32) (hx : gk s.1 x = 1) (hpr : gMr X l (HoldP X (Abs X)) M_Ker_processor 0 0 0 [.ref x, .int pv] s (some pp) s) (hsp : gi s.1 3 x = sp) (hpp : gk s.1 pp = 3) (hpm : gr s.1 16 pp = some ml) (hml : gk s.1 ml = 4) (m ta ol dd o e cd da : Nat) (hv : sq s ml = []) (hxm : gr s.1 1 x = some m) (hm : gk s.1 m = 2) (hcu : gr s.1 18 pp = some ta) (hta : gk s.1 ta = 9) (hto : gr s.1 34 ta = some ol) (hol : gk s.1 ol = 14) (hdd : gi s.1 35 ta = nI dd) (hod : (sl s ol)[dd]? = some o) (ho : gk s.1 o = 12) (hph : gr s.1 39 o = some (cxE X e)) (he : e < 12) (hcd : ([4, 5, 6, 7, 8, 9, 10, 11, 12, 13, 14, 15] : List Int32).getD e 0 = nI cd) (hda : da ≤ 5) (hact : gMi X l (HoldP X (Abs X)) M_Locked_act da 3 10 [.ref o, .ref m, .ref pp] (sSetI s 3 x (sp + nI 1)) (nI 0) s2) : gMi X l (HoldP X (Abs X)) M_Ker_step 6 4 12 [.ref x, .int pv] s (nI cd) s2 := by
  refine gM_intro (by decide) (Nat.le_of_ble_eq_true rfl) (fun K hK => ?_)
  show K 0 [(0, .ref x), (1, .int pv)] [] s 4 12
  refine r_aload_n hK d_Ker_step_0 rfl 0 rfl ?_
  refine r_iload_n hK d_Ker_step_1 rfl 1 rfl ?_
  refine r_callVr (As := [.int pv]) (b := x) (st := []) hK (hpr) d_Ker_step_2 ml_Ker_27 cv_Ker_processor rfl (by decide) (p_recv k_Ker (fun g h => h.kd hx (by decide))) (Nat.le_of_ble_eq_true rfl) ?_ rfl
  refine r_astore_n (lv' := [(2, .ref pp), (0, .ref x), (1, .int pv)]) hK d_Ker_step_5 rfl (by decide) rfl ?_
  refine r_aload_n hK d_Ker_step_6 rfl 0 rfl ?_
  refine r_ifnonnull (v := some pp) (tgt := 12) hK d_Ker_step_7 (by decide) (fun _ _ => ?_) (fun z => absurd z (by simp))
  refine r_aload_n hK d_Ker_step_12 rfl 1 rfl ?_
  refine r_dup hK d_Ker_step_13 rfl ?_
  refine p_getI (f := 3) (v := sp) hK d_Ker_step_14 k_Ker fd_Ker_96_Ker (by decide) rfl rfl (fun g h => h.getI hx (by decide) rfl hsp) ?_
  refine r_iconst (v := nI 1) hK d_Ker_step_17 (by decide) ?_
  refine r_iadd hK d_Ker_step_18 ?_
  refine p_putI (k := 2) (f := 3) hK d_Ker_step_19 k_Ker fd_Ker_96_Ker (by decide) rfl rfl rfl rfl rfl (fun g h => ⟨h.kd hx (by decide), h.setI (nz_of (k := 0) hx) rfl⟩) ?_
  refine r_aload_n hK d_Ker_step_22 rfl 0 rfl ?_
  refine p_getR (f := 16) (v := some ml) hK d_Ker_step_23 k_Processor fd_Ker_100_Processor (by decide) rfl rfl (fun g h => h.getR hpp (by decide) rfl (by simp [sSetI, sSetR, sSetA, sSetB, sSetQ, sSetL, sSetT, sNew, sNewA, sNewL, sPush, sBump, sBegL, sPutT, sAddL_g, sAddL_q, sAddL_r, sAddL_l, sq, sl, sr, gSetI, gSetR, gSetA, gSetB, gNew, gNewA, up2, up1, gx, gk, gl, gi, gr, ga, gb, hpm])) ?_
  have hsq : sq (sSetI s 3 x (sp + nI 1)) ml = [] := hv
  refine r_callVr (As := []) (b := ml) (st := []) hK (cS_take_nil (s := sSetI s 3 x (sp + nI 1)) ml hml hsq) d_Ker_step_26 ml_Ker_103 cv_Line_take rfl (by decide) (p_recv k_Line (fun g h => h.kd hml (by decide))) (Nat.le_of_ble_eq_true rfl) ?_ rfl
  refine p_castN hK d_Ker_step_29 ?_
  refine r_astore_nN (lv' := [(3, .null), (2, .ref pp), (0, .ref x), (1, .int pv)]) hK d_Ker_step_32 rfl (by decide) rfl ?_
  refine r_aload_nN hK d_Ker_step_33 rfl 0 rfl ?_
  refine r_ifnull (v := none) (tgt := 64) hK d_Ker_step_34 (by decide) (fun _ => ?_) (fun _ z => absurd z (by simp))
  refine r_aload_n hK d_Ker_step_64 rfl 1 rfl ?_
  refine p_getR (f := 18) (v := some ta) hK d_Ker_step_65 k_Processor fd_Ker_125_Processor (by decide) rfl rfl (fun g h => h.getR hpp (by decide) rfl (by simp [sSetI, sSetR, sSetA, sSetB, sSetQ, sSetL, sSetT, sNew, sNewA, sNewL, sPush, sBump, sBegL, sPutT, sAddL_g, sAddL_q, sAddL_r, sAddL_l, sq, sl, sr, gSetI, gSetR, gSetA, gSetB, gNew, gNewA, up2, up1, gx, gk, gl, gi, gr, ga, gb, hcu])) ?_
  refine r_ifnonnull (v := some ta) (tgt := 77) hK d_Ker_step_68 (by decide) (fun _ _ => ?_) (fun z => absurd z (by simp))
  refine r_aload_n hK d_Ker_step_77 rfl 1 rfl ?_
  refine p_getR (f := 18) (v := some ta) hK d_Ker_step_78 k_Processor fd_Ker_125_Processor (by decide) rfl rfl (fun g h => h.getR hpp (by decide) rfl (by simp [sSetI, sSetR, sSetA, sSetB, sSetQ, sSetL, sSetT, sNew, sNewA, sNewL, sPush, sBump, sBegL, sPutT, sAddL_g, sAddL_q, sAddL_r, sAddL_l, sq, sl, sr, gSetI, gSetR, gSetA, gSetB, gNew, gNewA, up2, up1, gx, gk, gl, gi, gr, ga, gb, hcu])) ?_
  refine r_astore (lv' := [(4, .ref ta), (3, .null), (2, .ref pp), (0, .ref x), (1, .int pv)]) hK d_Ker_step_81 (by decide) rfl ?_
  refine r_aload hK d_Ker_step_83 0 rfl ?_
  refine p_getR (f := 34) (v := some ol) hK d_Ker_step_85 k_Task fd_Ker_48_Task (by decide) rfl rfl (fun g h => h.getR hta (by decide) rfl (by simp [sSetI, sSetR, sSetA, sSetB, sSetQ, sSetL, sSetT, sNew, sNewA, sNewL, sPush, sBump, sBegL, sPutT, sAddL_g, sAddL_q, sAddL_r, sAddL_l, sq, sl, sr, gSetI, gSetR, gSetA, gSetB, gNew, gNewA, up2, up1, gx, gk, gl, gi, gr, ga, gb, hto])) ?_
  refine r_aload hK d_Ker_step_88 0 rfl ?_
  refine p_getI (f := 35) (v := nI dd) hK d_Ker_step_90 k_Task fd_Ker_133_Task (by decide) rfl rfl (fun g h => h.getI hta (by decide) rfl (by simp [sSetI, sSetR, sSetA, sSetB, sSetQ, sSetL, sSetT, sNew, sNewA, sNewL, sPush, sBump, sBegL, sPutT, sAddL_g, sAddL_q, sAddL_r, sAddL_l, sq, sl, sr, gSetI, gSetR, gSetA, gSetB, gNew, gNewA, up2, up1, gx, gk, gl, gi, gr, ga, gb, hdd])) ?_
  refine r_callVr (As := [.int (nI dd)]) (b := ol) (st := []) hK (cS_at (s := sSetI s 3 x (sp + (nI 1))) ol dd o (hol) (by simp [sSetI, sSetR, sSetA, sSetB, sSetQ, sSetL, sSetT, sNew, sNewA, sNewL, sPush, sBump, sBegL, sPutT, sAddL_g, sAddL_q, sAddL_r, sAddL_l, sq, sl, sr, gSetI, gSetR, gSetA, gSetB, gNew, gNewA, up2, up1, gx, gk, gl, gi, gr, ga, gb, hod])) d_Ker_step_93 ml_Ker_44 cv_AL_get rfl (by decide) (p_recv k_AL (fun g h => h.kd hol (by decide))) (Nat.le_of_ble_eq_true rfl) ?_ rfl
  refine p_cast hK d_Ker_step_96 cl_Ker_136 ca_Revoke_Order (p_recv k_Revoke (fun g h => h.kd ho (by decide))) ?_
  refine r_astore (lv' := [(5, .ref o), (4, .ref ta), (3, .null), (2, .ref pp), (0, .ref x), (1, .int pv)]) hK d_Ker_step_99 (by decide) rfl ?_
  refine r_aload hK d_Ker_step_101 0 rfl ?_
  refine p_getR (f := 39) (v := some (cxE X e)) hK d_Ker_step_103 k_Revoke fd_Ker_138_Revoke (by decide) rfl rfl (fun g h => h.getR ho (by decide) rfl (by simp [sSetI, sSetR, sSetA, sSetB, sSetQ, sSetL, sSetT, sNew, sNewA, sNewL, sPush, sBump, sBegL, sPutT, sAddL_g, sAddL_q, sAddL_r, sAddL_l, sq, sl, sr, gSetI, gSetR, gSetA, gSetB, gNew, gNewA, up2, up1, gx, gk, gl, gi, gr, ga, gb, hph])) ?_
  refine r_callVi (As := []) (b := cxE X e) (st := []) hK (c_Phase_code X l (HoldP X (Abs X)) (sSetI s 3 x (sp + (nI 1))) e (nI cd) he hcd) d_Ker_step_106 ml_Ker_142 cv_Phase_code rfl (by decide) (p_recvE he) (Nat.le_of_ble_eq_true rfl) ?_ rfl
  refine r_istore (lv' := [(6, .int (nI cd)), (5, .ref o), (4, .ref ta), (3, .null), (2, .ref pp), (0, .ref x), (1, .int pv)]) hK d_Ker_step_109 (by decide) rfl ?_
  refine r_aload hK d_Ker_step_111 1 rfl ?_
  refine r_aload_n hK d_Ker_step_113 rfl 5 rfl ?_
  refine p_getR (f := 1) (v := some m) hK d_Ker_step_114 k_Ker fd_Ker_10_Ker (by decide) rfl rfl (fun g h => h.getR hx (by decide) rfl (by simp [sSetI, sSetR, sSetA, sSetB, sSetQ, sSetL, sSetT, sNew, sNewA, sNewL, sPush, sBump, sBegL, sPutT, sAddL_g, sAddL_q, sAddL_r, sAddL_l, sq, sl, sr, gSetI, gSetR, gSetA, gSetB, gNew, gNewA, up2, up1, gx, gk, gl, gi, gr, ga, gb, hxm])) ?_
  refine r_aload_n hK d_Ker_step_117 rfl 4 rfl ?_
  refine r_callUi (As := [.ref m, .ref pp]) (b := o) (st := []) hK (hact) d_Ker_step_118 ml_Ker_147 cu_Revoke_Order_Locked_act rfl (Nat.succ_le_succ hda) (p_recv k_Revoke (fun g h => h.kd ho (by decide))) (Nat.le_of_ble_eq_true rfl) ?_ rfl
  refine r_nif_ne (a := 0) (tgt := 127) hK d_Ker_step_121 (by decide) (by decide) (fun z => absurd z (by decide)) (fun _ => ?_)
  refine r_iload hK d_Ker_step_124 0 rfl ?_
  refine r_iret hK d_Ker_step_126 rfl (rfl) ?_
  exact ⟨rfl, rfl⟩
set_option maxHeartbeats 1000000 in
theorem c_Ker_step_act1_Revoke (X : gCx) (l : Launch) (s : sS) (s2 s4 : sS) (x pp ml : Nat) (pv sp : Int32) (hx : gk s.1 x = 1) (hpr : gMr X l (HoldP X (Abs X)) M_Ker_processor 0 0 0 [.ref x, .int pv] s (some pp) s) (hsp : gi s.1 3 x = sp) (hpp : gk s.1 pp = 3) (hpm : gr s.1 16 pp = some ml) (hml : gk s.1 ml = 4) (m ta ol dd o e cd da : Nat) (hv : sq s ml = []) (hxm : gr s.1 1 x = some m) (hm : gk s.1 m = 2) (hcu : gr s.1 18 pp = some ta) (hta : gk s.1 ta = 9) (hto : gr s.1 34 ta = some ol) (hol : gk s.1 ol = 14) (hdd : gi s.1 35 ta = nI dd) (hod : (sl s ol)[dd]? = some o) (ho : gk s.1 o = 12) (hph : gr s.1 39 o = some (cxE X e)) (he : e < 12) (hcd : ([4, 5, 6, 7, 8, 9, 10, 11, 12, 13, 14, 15] : List Int32).getD e 0 = nI cd) (hda : da ≤ 5) (hact : gMi X l (HoldP X (Abs X)) M_Locked_act da 3 10 [.ref o, .ref m, .ref pp] (sSetI s 3 x (sp + nI 1)) (nI 1) s2) (fi : Int32) (hx2 : gk s2.1 x = 1) (hfi2 : gi s2.1 4 x = fi) (hta2 : gk s2.1 ta = 9) (hdd2 : gi s2.1 35 ta = nI dd) (hst : gMv X l (HoldP X (Abs X)) M_Ker_settle 3 1 2 [.ref x, .ref pp, .ref ta, .ref o] (sSetI (sSetI s2 4 x (fi + nI 1)) 35 ta (nI (dd + 1))) s4) : gMi X l (HoldP X (Abs X)) M_Ker_step 6 4 12 [.ref x, .int pv] s (nI (cd + 16)) s4 := by
  refine gM_intro (by decide) (Nat.le_of_ble_eq_true rfl) (fun K hK => ?_)
  show K 0 [(0, .ref x), (1, .int pv)] [] s 4 12
  refine r_aload_n hK d_Ker_step_0 rfl 0 rfl ?_
  refine r_iload_n hK d_Ker_step_1 rfl 1 rfl ?_
  refine r_callVr (As := [.int pv]) (b := x) (st := []) hK (hpr) d_Ker_step_2 ml_Ker_27 cv_Ker_processor rfl (by decide) (p_recv k_Ker (fun g h => h.kd hx (by decide))) (Nat.le_of_ble_eq_true rfl) ?_ rfl
  refine r_astore_n (lv' := [(2, .ref pp), (0, .ref x), (1, .int pv)]) hK d_Ker_step_5 rfl (by decide) rfl ?_
  refine r_aload_n hK d_Ker_step_6 rfl 0 rfl ?_
  refine r_ifnonnull (v := some pp) (tgt := 12) hK d_Ker_step_7 (by decide) (fun _ _ => ?_) (fun z => absurd z (by simp))
  refine r_aload_n hK d_Ker_step_12 rfl 1 rfl ?_
  refine r_dup hK d_Ker_step_13 rfl ?_
  refine p_getI (f := 3) (v := sp) hK d_Ker_step_14 k_Ker fd_Ker_96_Ker (by decide) rfl rfl (fun g h => h.getI hx (by decide) rfl hsp) ?_
  refine r_iconst (v := nI 1) hK d_Ker_step_17 (by decide) ?_
  refine r_iadd hK d_Ker_step_18 ?_
  refine p_putI (k := 2) (f := 3) hK d_Ker_step_19 k_Ker fd_Ker_96_Ker (by decide) rfl rfl rfl rfl rfl (fun g h => ⟨h.kd hx (by decide), h.setI (nz_of (k := 0) hx) rfl⟩) ?_
  refine r_aload_n hK d_Ker_step_22 rfl 0 rfl ?_
  refine p_getR (f := 16) (v := some ml) hK d_Ker_step_23 k_Processor fd_Ker_100_Processor (by decide) rfl rfl (fun g h => h.getR hpp (by decide) rfl (by simp [sSetI, sSetR, sSetA, sSetB, sSetQ, sSetL, sSetT, sNew, sNewA, sNewL, sPush, sBump, sBegL, sPutT, sAddL_g, sAddL_q, sAddL_r, sAddL_l, sq, sl, sr, gSetI, gSetR, gSetA, gSetB, gNew, gNewA, up2, up1, gx, gk, gl, gi, gr, ga, gb, hpm])) ?_
  have hsq : sq (sSetI s 3 x (sp + nI 1)) ml = [] := hv
  refine r_callVr (As := []) (b := ml) (st := []) hK (cS_take_nil (s := sSetI s 3 x (sp + nI 1)) ml hml hsq) d_Ker_step_26 ml_Ker_103 cv_Line_take rfl (by decide) (p_recv k_Line (fun g h => h.kd hml (by decide))) (Nat.le_of_ble_eq_true rfl) ?_ rfl
  refine p_castN hK d_Ker_step_29 ?_
  refine r_astore_nN (lv' := [(3, .null), (2, .ref pp), (0, .ref x), (1, .int pv)]) hK d_Ker_step_32 rfl (by decide) rfl ?_
  refine r_aload_nN hK d_Ker_step_33 rfl 0 rfl ?_
  refine r_ifnull (v := none) (tgt := 64) hK d_Ker_step_34 (by decide) (fun _ => ?_) (fun _ z => absurd z (by simp))
  refine r_aload_n hK d_Ker_step_64 rfl 1 rfl ?_
  refine p_getR (f := 18) (v := some ta) hK d_Ker_step_65 k_Processor fd_Ker_125_Processor (by decide) rfl rfl (fun g h => h.getR hpp (by decide) rfl (by simp [sSetI, sSetR, sSetA, sSetB, sSetQ, sSetL, sSetT, sNew, sNewA, sNewL, sPush, sBump, sBegL, sPutT, sAddL_g, sAddL_q, sAddL_r, sAddL_l, sq, sl, sr, gSetI, gSetR, gSetA, gSetB, gNew, gNewA, up2, up1, gx, gk, gl, gi, gr, ga, gb, hcu])) ?_
  refine r_ifnonnull (v := some ta) (tgt := 77) hK d_Ker_step_68 (by decide) (fun _ _ => ?_) (fun z => absurd z (by simp))
  refine r_aload_n hK d_Ker_step_77 rfl 1 rfl ?_
  refine p_getR (f := 18) (v := some ta) hK d_Ker_step_78 k_Processor fd_Ker_125_Processor (by decide) rfl rfl (fun g h => h.getR hpp (by decide) rfl (by simp [sSetI, sSetR, sSetA, sSetB, sSetQ, sSetL, sSetT, sNew, sNewA, sNewL, sPush, sBump, sBegL, sPutT, sAddL_g, sAddL_q, sAddL_r, sAddL_l, sq, sl, sr, gSetI, gSetR, gSetA, gSetB, gNew, gNewA, up2, up1, gx, gk, gl, gi, gr, ga, gb, hcu])) ?_
  refine r_astore (lv' := [(4, .ref ta), (3, .null), (2, .ref pp), (0, .ref x), (1, .int pv)]) hK d_Ker_step_81 (by decide) rfl ?_
  refine r_aload hK d_Ker_step_83 0 rfl ?_
  refine p_getR (f := 34) (v := some ol) hK d_Ker_step_85 k_Task fd_Ker_48_Task (by decide) rfl rfl (fun g h => h.getR hta (by decide) rfl (by simp [sSetI, sSetR, sSetA, sSetB, sSetQ, sSetL, sSetT, sNew, sNewA, sNewL, sPush, sBump, sBegL, sPutT, sAddL_g, sAddL_q, sAddL_r, sAddL_l, sq, sl, sr, gSetI, gSetR, gSetA, gSetB, gNew, gNewA, up2, up1, gx, gk, gl, gi, gr, ga, gb, hto])) ?_
  refine r_aload hK d_Ker_step_88 0 rfl ?_
  refine p_getI (f := 35) (v := nI dd) hK d_Ker_step_90 k_Task fd_Ker_133_Task (by decide) rfl rfl (fun g h => h.getI hta (by decide) rfl (by simp [sSetI, sSetR, sSetA, sSetB, sSetQ, sSetL, sSetT, sNew, sNewA, sNewL, sPush, sBump, sBegL, sPutT, sAddL_g, sAddL_q, sAddL_r, sAddL_l, sq, sl, sr, gSetI, gSetR, gSetA, gSetB, gNew, gNewA, up2, up1, gx, gk, gl, gi, gr, ga, gb, hdd])) ?_
  refine r_callVr (As := [.int (nI dd)]) (b := ol) (st := []) hK (cS_at (s := sSetI s 3 x (sp + (nI 1))) ol dd o (hol) (by simp [sSetI, sSetR, sSetA, sSetB, sSetQ, sSetL, sSetT, sNew, sNewA, sNewL, sPush, sBump, sBegL, sPutT, sAddL_g, sAddL_q, sAddL_r, sAddL_l, sq, sl, sr, gSetI, gSetR, gSetA, gSetB, gNew, gNewA, up2, up1, gx, gk, gl, gi, gr, ga, gb, hod])) d_Ker_step_93 ml_Ker_44 cv_AL_get rfl (by decide) (p_recv k_AL (fun g h => h.kd hol (by decide))) (Nat.le_of_ble_eq_true rfl) ?_ rfl
  refine p_cast hK d_Ker_step_96 cl_Ker_136 ca_Revoke_Order (p_recv k_Revoke (fun g h => h.kd ho (by decide))) ?_
  refine r_astore (lv' := [(5, .ref o), (4, .ref ta), (3, .null), (2, .ref pp), (0, .ref x), (1, .int pv)]) hK d_Ker_step_99 (by decide) rfl ?_
  refine r_aload hK d_Ker_step_101 0 rfl ?_
  refine p_getR (f := 39) (v := some (cxE X e)) hK d_Ker_step_103 k_Revoke fd_Ker_138_Revoke (by decide) rfl rfl (fun g h => h.getR ho (by decide) rfl (by simp [sSetI, sSetR, sSetA, sSetB, sSetQ, sSetL, sSetT, sNew, sNewA, sNewL, sPush, sBump, sBegL, sPutT, sAddL_g, sAddL_q, sAddL_r, sAddL_l, sq, sl, sr, gSetI, gSetR, gSetA, gSetB, gNew, gNewA, up2, up1, gx, gk, gl, gi, gr, ga, gb, hph])) ?_
  refine r_callVi (As := []) (b := cxE X e) (st := []) hK (c_Phase_code X l (HoldP X (Abs X)) (sSetI s 3 x (sp + (nI 1))) e (nI cd) he hcd) d_Ker_step_106 ml_Ker_142 cv_Phase_code rfl (by decide) (p_recvE he) (Nat.le_of_ble_eq_true rfl) ?_ rfl
  refine r_istore (lv' := [(6, .int (nI cd)), (5, .ref o), (4, .ref ta), (3, .null), (2, .ref pp), (0, .ref x), (1, .int pv)]) hK d_Ker_step_109 (by decide) rfl ?_
  refine r_aload hK d_Ker_step_111 1 rfl ?_
  refine r_aload_n hK d_Ker_step_113 rfl 5 rfl ?_
  refine p_getR (f := 1) (v := some m) hK d_Ker_step_114 k_Ker fd_Ker_10_Ker (by decide) rfl rfl (fun g h => h.getR hx (by decide) rfl (by simp [sSetI, sSetR, sSetA, sSetB, sSetQ, sSetL, sSetT, sNew, sNewA, sNewL, sPush, sBump, sBegL, sPutT, sAddL_g, sAddL_q, sAddL_r, sAddL_l, sq, sl, sr, gSetI, gSetR, gSetA, gSetB, gNew, gNewA, up2, up1, gx, gk, gl, gi, gr, ga, gb, hxm])) ?_
  refine r_aload_n hK d_Ker_step_117 rfl 4 rfl ?_
  refine r_callUi (As := [.ref m, .ref pp]) (b := o) (st := []) hK (hact) d_Ker_step_118 ml_Ker_147 cu_Revoke_Order_Locked_act rfl (Nat.succ_le_succ hda) (p_recv k_Revoke (fun g h => h.kd ho (by decide))) (Nat.le_of_ble_eq_true rfl) ?_ rfl
  refine r_nif_ne (a := 1) (tgt := 127) hK d_Ker_step_121 (by decide) (by decide) (fun _ => ?_) (fun z => absurd z (by decide))
  refine r_aload_n hK d_Ker_step_127 rfl 5 rfl ?_
  refine r_dup hK d_Ker_step_128 rfl ?_
  refine p_getI (f := 4) (v := fi) hK d_Ker_step_129 k_Ker fd_Ker_151_Ker (by decide) rfl rfl (fun g h => h.getI hx2 (by decide) rfl hfi2) ?_
  refine r_iconst (v := nI 1) hK d_Ker_step_132 (by decide) ?_
  refine r_iadd hK d_Ker_step_133 ?_
  refine p_putI (k := 3) (f := 4) hK d_Ker_step_134 k_Ker fd_Ker_151_Ker (by decide) rfl rfl rfl rfl rfl (fun g h => ⟨h.kd hx2 (by decide), h.setI (nz_of (k := 0) hx2) rfl⟩) ?_
  refine r_aload hK d_Ker_step_137 2 rfl ?_
  refine r_dup hK d_Ker_step_139 rfl ?_
  refine p_getI (f := 35) (v := nI dd) hK d_Ker_step_140 k_Task fd_Ker_133_Task (by decide) rfl rfl (fun g h => h.getI hta2 (by decide) rfl (by simp [sSetI, sSetR, sSetA, sSetB, sSetQ, sSetL, sSetT, sNew, sNewA, sNewL, sPush, sBump, sBegL, sPutT, sAddL_g, sAddL_q, sAddL_r, sAddL_l, sq, sl, sr, gSetI, gSetR, gSetA, gSetB, gNew, gNewA, up2, up1, gx, gk, gl, gi, gr, ga, gb, hdd2])) ?_
  refine r_iconst (v := nI 1) hK d_Ker_step_143 (by decide) ?_
  refine r_iadd hK d_Ker_step_144 ?_
  refine r_tp (b := nI (dd + 1)) (nI_add _ _) ?_
  refine p_putI (k := 2) (f := 35) hK d_Ker_step_145 k_Task fd_Ker_133_Task (by decide) rfl rfl rfl rfl rfl (fun g h => ⟨h.kd hta2 (by decide), h.setI (nz_of (k := 8) hta2) rfl⟩) ?_
  refine r_aload_n hK d_Ker_step_148 rfl 5 rfl ?_
  refine r_aload_n hK d_Ker_step_149 rfl 4 rfl ?_
  refine r_aload hK d_Ker_step_150 2 rfl ?_
  refine r_aload hK d_Ker_step_152 1 rfl ?_
  refine r_callVv (As := [.ref pp, .ref ta, .ref o]) (b := x) (st := []) hK (hst) d_Ker_step_154 ml_Ker_154 cv_Ker_settle rfl (by decide) (p_recv k_Ker (fun g h => h.kd hx2 (by decide))) (Nat.le_of_ble_eq_true rfl) ?_ rfl
  refine r_iload hK d_Ker_step_157 0 rfl ?_
  refine r_bipush (v := nI 16) hK d_Ker_step_159 (by decide) ?_
  refine r_iadd hK d_Ker_step_161 ?_
  refine r_tp (b := nI (cd + 16)) (nI_add _ _) ?_
  refine r_iret hK d_Ker_step_162 rfl (rfl) ?_
  exact ⟨rfl, rfl⟩
set_option maxHeartbeats 1000000 in
theorem c_Ker_step_act0_Move (X : gCx) (l : Launch) (s : sS) (s2 : sS) (x pp ml : Nat) (pv sp : Int32) (hx : gk s.1 x = 1) (hpr : gMr X l (HoldP X (Abs X)) M_Ker_processor 0 0 0 [.ref x, .int pv] s (some pp) s) (hsp : gi s.1 3 x = sp) (hpp : gk s.1 pp = 3) (hpm : gr s.1 16 pp = some ml) (hml : gk s.1 ml = 4) (m ta ol dd o e cd da : Nat) (hv : sq s ml = []) (hxm : gr s.1 1 x = some m) (hm : gk s.1 m = 2) (hcu : gr s.1 18 pp = some ta) (hta : gk s.1 ta = 9) (hto : gr s.1 34 ta = some ol) (hol : gk s.1 ol = 14) (hdd : gi s.1 35 ta = nI dd) (hod : (sl s ol)[dd]? = some o) (ho : gk s.1 o = 13) (hph : gr s.1 39 o = some (cxE X e)) (he : e < 12) (hcd : ([4, 5, 6, 7, 8, 9, 10, 11, 12, 13, 14, 15] : List Int32).getD e 0 = nI cd) (hda : da ≤ 5) (hact : gMi X l (HoldP X (Abs X)) M_Move_act da 3 10 [.ref o, .ref m, .ref pp] (sSetI s 3 x (sp + nI 1)) (nI 0) s2) : gMi X l (HoldP X (Abs X)) M_Ker_step 6 4 12 [.ref x, .int pv] s (nI cd) s2 := by
  refine gM_intro (by decide) (Nat.le_of_ble_eq_true rfl) (fun K hK => ?_)
  show K 0 [(0, .ref x), (1, .int pv)] [] s 4 12
  refine r_aload_n hK d_Ker_step_0 rfl 0 rfl ?_
  refine r_iload_n hK d_Ker_step_1 rfl 1 rfl ?_
  refine r_callVr (As := [.int pv]) (b := x) (st := []) hK (hpr) d_Ker_step_2 ml_Ker_27 cv_Ker_processor rfl (by decide) (p_recv k_Ker (fun g h => h.kd hx (by decide))) (Nat.le_of_ble_eq_true rfl) ?_ rfl
  refine r_astore_n (lv' := [(2, .ref pp), (0, .ref x), (1, .int pv)]) hK d_Ker_step_5 rfl (by decide) rfl ?_
  refine r_aload_n hK d_Ker_step_6 rfl 0 rfl ?_
  refine r_ifnonnull (v := some pp) (tgt := 12) hK d_Ker_step_7 (by decide) (fun _ _ => ?_) (fun z => absurd z (by simp))
  refine r_aload_n hK d_Ker_step_12 rfl 1 rfl ?_
  refine r_dup hK d_Ker_step_13 rfl ?_
  refine p_getI (f := 3) (v := sp) hK d_Ker_step_14 k_Ker fd_Ker_96_Ker (by decide) rfl rfl (fun g h => h.getI hx (by decide) rfl hsp) ?_
  refine r_iconst (v := nI 1) hK d_Ker_step_17 (by decide) ?_
  refine r_iadd hK d_Ker_step_18 ?_
  refine p_putI (k := 2) (f := 3) hK d_Ker_step_19 k_Ker fd_Ker_96_Ker (by decide) rfl rfl rfl rfl rfl (fun g h => ⟨h.kd hx (by decide), h.setI (nz_of (k := 0) hx) rfl⟩) ?_
  refine r_aload_n hK d_Ker_step_22 rfl 0 rfl ?_
  refine p_getR (f := 16) (v := some ml) hK d_Ker_step_23 k_Processor fd_Ker_100_Processor (by decide) rfl rfl (fun g h => h.getR hpp (by decide) rfl (by simp [sSetI, sSetR, sSetA, sSetB, sSetQ, sSetL, sSetT, sNew, sNewA, sNewL, sPush, sBump, sBegL, sPutT, sAddL_g, sAddL_q, sAddL_r, sAddL_l, sq, sl, sr, gSetI, gSetR, gSetA, gSetB, gNew, gNewA, up2, up1, gx, gk, gl, gi, gr, ga, gb, hpm])) ?_
  have hsq : sq (sSetI s 3 x (sp + nI 1)) ml = [] := hv
  refine r_callVr (As := []) (b := ml) (st := []) hK (cS_take_nil (s := sSetI s 3 x (sp + nI 1)) ml hml hsq) d_Ker_step_26 ml_Ker_103 cv_Line_take rfl (by decide) (p_recv k_Line (fun g h => h.kd hml (by decide))) (Nat.le_of_ble_eq_true rfl) ?_ rfl
  refine p_castN hK d_Ker_step_29 ?_
  refine r_astore_nN (lv' := [(3, .null), (2, .ref pp), (0, .ref x), (1, .int pv)]) hK d_Ker_step_32 rfl (by decide) rfl ?_
  refine r_aload_nN hK d_Ker_step_33 rfl 0 rfl ?_
  refine r_ifnull (v := none) (tgt := 64) hK d_Ker_step_34 (by decide) (fun _ => ?_) (fun _ z => absurd z (by simp))
  refine r_aload_n hK d_Ker_step_64 rfl 1 rfl ?_
  refine p_getR (f := 18) (v := some ta) hK d_Ker_step_65 k_Processor fd_Ker_125_Processor (by decide) rfl rfl (fun g h => h.getR hpp (by decide) rfl (by simp [sSetI, sSetR, sSetA, sSetB, sSetQ, sSetL, sSetT, sNew, sNewA, sNewL, sPush, sBump, sBegL, sPutT, sAddL_g, sAddL_q, sAddL_r, sAddL_l, sq, sl, sr, gSetI, gSetR, gSetA, gSetB, gNew, gNewA, up2, up1, gx, gk, gl, gi, gr, ga, gb, hcu])) ?_
  refine r_ifnonnull (v := some ta) (tgt := 77) hK d_Ker_step_68 (by decide) (fun _ _ => ?_) (fun z => absurd z (by simp))
  refine r_aload_n hK d_Ker_step_77 rfl 1 rfl ?_
  refine p_getR (f := 18) (v := some ta) hK d_Ker_step_78 k_Processor fd_Ker_125_Processor (by decide) rfl rfl (fun g h => h.getR hpp (by decide) rfl (by simp [sSetI, sSetR, sSetA, sSetB, sSetQ, sSetL, sSetT, sNew, sNewA, sNewL, sPush, sBump, sBegL, sPutT, sAddL_g, sAddL_q, sAddL_r, sAddL_l, sq, sl, sr, gSetI, gSetR, gSetA, gSetB, gNew, gNewA, up2, up1, gx, gk, gl, gi, gr, ga, gb, hcu])) ?_
  refine r_astore (lv' := [(4, .ref ta), (3, .null), (2, .ref pp), (0, .ref x), (1, .int pv)]) hK d_Ker_step_81 (by decide) rfl ?_
  refine r_aload hK d_Ker_step_83 0 rfl ?_
  refine p_getR (f := 34) (v := some ol) hK d_Ker_step_85 k_Task fd_Ker_48_Task (by decide) rfl rfl (fun g h => h.getR hta (by decide) rfl (by simp [sSetI, sSetR, sSetA, sSetB, sSetQ, sSetL, sSetT, sNew, sNewA, sNewL, sPush, sBump, sBegL, sPutT, sAddL_g, sAddL_q, sAddL_r, sAddL_l, sq, sl, sr, gSetI, gSetR, gSetA, gSetB, gNew, gNewA, up2, up1, gx, gk, gl, gi, gr, ga, gb, hto])) ?_
  refine r_aload hK d_Ker_step_88 0 rfl ?_
  refine p_getI (f := 35) (v := nI dd) hK d_Ker_step_90 k_Task fd_Ker_133_Task (by decide) rfl rfl (fun g h => h.getI hta (by decide) rfl (by simp [sSetI, sSetR, sSetA, sSetB, sSetQ, sSetL, sSetT, sNew, sNewA, sNewL, sPush, sBump, sBegL, sPutT, sAddL_g, sAddL_q, sAddL_r, sAddL_l, sq, sl, sr, gSetI, gSetR, gSetA, gSetB, gNew, gNewA, up2, up1, gx, gk, gl, gi, gr, ga, gb, hdd])) ?_
  refine r_callVr (As := [.int (nI dd)]) (b := ol) (st := []) hK (cS_at (s := sSetI s 3 x (sp + (nI 1))) ol dd o (hol) (by simp [sSetI, sSetR, sSetA, sSetB, sSetQ, sSetL, sSetT, sNew, sNewA, sNewL, sPush, sBump, sBegL, sPutT, sAddL_g, sAddL_q, sAddL_r, sAddL_l, sq, sl, sr, gSetI, gSetR, gSetA, gSetB, gNew, gNewA, up2, up1, gx, gk, gl, gi, gr, ga, gb, hod])) d_Ker_step_93 ml_Ker_44 cv_AL_get rfl (by decide) (p_recv k_AL (fun g h => h.kd hol (by decide))) (Nat.le_of_ble_eq_true rfl) ?_ rfl
  refine p_cast hK d_Ker_step_96 cl_Ker_136 ca_Move_Order (p_recv k_Move (fun g h => h.kd ho (by decide))) ?_
  refine r_astore (lv' := [(5, .ref o), (4, .ref ta), (3, .null), (2, .ref pp), (0, .ref x), (1, .int pv)]) hK d_Ker_step_99 (by decide) rfl ?_
  refine r_aload hK d_Ker_step_101 0 rfl ?_
  refine p_getR (f := 39) (v := some (cxE X e)) hK d_Ker_step_103 k_Move fd_Ker_138_Move (by decide) rfl rfl (fun g h => h.getR ho (by decide) rfl (by simp [sSetI, sSetR, sSetA, sSetB, sSetQ, sSetL, sSetT, sNew, sNewA, sNewL, sPush, sBump, sBegL, sPutT, sAddL_g, sAddL_q, sAddL_r, sAddL_l, sq, sl, sr, gSetI, gSetR, gSetA, gSetB, gNew, gNewA, up2, up1, gx, gk, gl, gi, gr, ga, gb, hph])) ?_
  refine r_callVi (As := []) (b := cxE X e) (st := []) hK (c_Phase_code X l (HoldP X (Abs X)) (sSetI s 3 x (sp + (nI 1))) e (nI cd) he hcd) d_Ker_step_106 ml_Ker_142 cv_Phase_code rfl (by decide) (p_recvE he) (Nat.le_of_ble_eq_true rfl) ?_ rfl
  refine r_istore (lv' := [(6, .int (nI cd)), (5, .ref o), (4, .ref ta), (3, .null), (2, .ref pp), (0, .ref x), (1, .int pv)]) hK d_Ker_step_109 (by decide) rfl ?_
  refine r_aload hK d_Ker_step_111 1 rfl ?_
  refine r_aload_n hK d_Ker_step_113 rfl 5 rfl ?_
  refine p_getR (f := 1) (v := some m) hK d_Ker_step_114 k_Ker fd_Ker_10_Ker (by decide) rfl rfl (fun g h => h.getR hx (by decide) rfl (by simp [sSetI, sSetR, sSetA, sSetB, sSetQ, sSetL, sSetT, sNew, sNewA, sNewL, sPush, sBump, sBegL, sPutT, sAddL_g, sAddL_q, sAddL_r, sAddL_l, sq, sl, sr, gSetI, gSetR, gSetA, gSetB, gNew, gNewA, up2, up1, gx, gk, gl, gi, gr, ga, gb, hxm])) ?_
  refine r_aload_n hK d_Ker_step_117 rfl 4 rfl ?_
  refine r_callUi (As := [.ref m, .ref pp]) (b := o) (st := []) hK (hact) d_Ker_step_118 ml_Ker_147 cu_Move_Order_Move_act rfl (Nat.succ_le_succ hda) (p_recv k_Move (fun g h => h.kd ho (by decide))) (Nat.le_of_ble_eq_true rfl) ?_ rfl
  refine r_nif_ne (a := 0) (tgt := 127) hK d_Ker_step_121 (by decide) (by decide) (fun z => absurd z (by decide)) (fun _ => ?_)
  refine r_iload hK d_Ker_step_124 0 rfl ?_
  refine r_iret hK d_Ker_step_126 rfl (rfl) ?_
  exact ⟨rfl, rfl⟩
set_option maxHeartbeats 1000000 in
theorem c_Ker_step_act1_Move (X : gCx) (l : Launch) (s : sS) (s2 s4 : sS) (x pp ml : Nat) (pv sp : Int32) (hx : gk s.1 x = 1) (hpr : gMr X l (HoldP X (Abs X)) M_Ker_processor 0 0 0 [.ref x, .int pv] s (some pp) s) (hsp : gi s.1 3 x = sp) (hpp : gk s.1 pp = 3) (hpm : gr s.1 16 pp = some ml) (hml : gk s.1 ml = 4) (m ta ol dd o e cd da : Nat) (hv : sq s ml = []) (hxm : gr s.1 1 x = some m) (hm : gk s.1 m = 2) (hcu : gr s.1 18 pp = some ta) (hta : gk s.1 ta = 9) (hto : gr s.1 34 ta = some ol) (hol : gk s.1 ol = 14) (hdd : gi s.1 35 ta = nI dd) (hod : (sl s ol)[dd]? = some o) (ho : gk s.1 o = 13) (hph : gr s.1 39 o = some (cxE X e)) (he : e < 12) (hcd : ([4, 5, 6, 7, 8, 9, 10, 11, 12, 13, 14, 15] : List Int32).getD e 0 = nI cd) (hda : da ≤ 5) (hact : gMi X l (HoldP X (Abs X)) M_Move_act da 3 10 [.ref o, .ref m, .ref pp] (sSetI s 3 x (sp + nI 1)) (nI 1) s2) (fi : Int32) (hx2 : gk s2.1 x = 1) (hfi2 : gi s2.1 4 x = fi) (hta2 : gk s2.1 ta = 9) (hdd2 : gi s2.1 35 ta = nI dd) (hst : gMv X l (HoldP X (Abs X)) M_Ker_settle 3 1 2 [.ref x, .ref pp, .ref ta, .ref o] (sSetI (sSetI s2 4 x (fi + nI 1)) 35 ta (nI (dd + 1))) s4) : gMi X l (HoldP X (Abs X)) M_Ker_step 6 4 12 [.ref x, .int pv] s (nI (cd + 16)) s4 := by
  refine gM_intro (by decide) (Nat.le_of_ble_eq_true rfl) (fun K hK => ?_)
  show K 0 [(0, .ref x), (1, .int pv)] [] s 4 12
  refine r_aload_n hK d_Ker_step_0 rfl 0 rfl ?_
  refine r_iload_n hK d_Ker_step_1 rfl 1 rfl ?_
  refine r_callVr (As := [.int pv]) (b := x) (st := []) hK (hpr) d_Ker_step_2 ml_Ker_27 cv_Ker_processor rfl (by decide) (p_recv k_Ker (fun g h => h.kd hx (by decide))) (Nat.le_of_ble_eq_true rfl) ?_ rfl
  refine r_astore_n (lv' := [(2, .ref pp), (0, .ref x), (1, .int pv)]) hK d_Ker_step_5 rfl (by decide) rfl ?_
  refine r_aload_n hK d_Ker_step_6 rfl 0 rfl ?_
  refine r_ifnonnull (v := some pp) (tgt := 12) hK d_Ker_step_7 (by decide) (fun _ _ => ?_) (fun z => absurd z (by simp))
  refine r_aload_n hK d_Ker_step_12 rfl 1 rfl ?_
  refine r_dup hK d_Ker_step_13 rfl ?_
  refine p_getI (f := 3) (v := sp) hK d_Ker_step_14 k_Ker fd_Ker_96_Ker (by decide) rfl rfl (fun g h => h.getI hx (by decide) rfl hsp) ?_
  refine r_iconst (v := nI 1) hK d_Ker_step_17 (by decide) ?_
  refine r_iadd hK d_Ker_step_18 ?_
  refine p_putI (k := 2) (f := 3) hK d_Ker_step_19 k_Ker fd_Ker_96_Ker (by decide) rfl rfl rfl rfl rfl (fun g h => ⟨h.kd hx (by decide), h.setI (nz_of (k := 0) hx) rfl⟩) ?_
  refine r_aload_n hK d_Ker_step_22 rfl 0 rfl ?_
  refine p_getR (f := 16) (v := some ml) hK d_Ker_step_23 k_Processor fd_Ker_100_Processor (by decide) rfl rfl (fun g h => h.getR hpp (by decide) rfl (by simp [sSetI, sSetR, sSetA, sSetB, sSetQ, sSetL, sSetT, sNew, sNewA, sNewL, sPush, sBump, sBegL, sPutT, sAddL_g, sAddL_q, sAddL_r, sAddL_l, sq, sl, sr, gSetI, gSetR, gSetA, gSetB, gNew, gNewA, up2, up1, gx, gk, gl, gi, gr, ga, gb, hpm])) ?_
  have hsq : sq (sSetI s 3 x (sp + nI 1)) ml = [] := hv
  refine r_callVr (As := []) (b := ml) (st := []) hK (cS_take_nil (s := sSetI s 3 x (sp + nI 1)) ml hml hsq) d_Ker_step_26 ml_Ker_103 cv_Line_take rfl (by decide) (p_recv k_Line (fun g h => h.kd hml (by decide))) (Nat.le_of_ble_eq_true rfl) ?_ rfl
  refine p_castN hK d_Ker_step_29 ?_
  refine r_astore_nN (lv' := [(3, .null), (2, .ref pp), (0, .ref x), (1, .int pv)]) hK d_Ker_step_32 rfl (by decide) rfl ?_
  refine r_aload_nN hK d_Ker_step_33 rfl 0 rfl ?_
  refine r_ifnull (v := none) (tgt := 64) hK d_Ker_step_34 (by decide) (fun _ => ?_) (fun _ z => absurd z (by simp))
  refine r_aload_n hK d_Ker_step_64 rfl 1 rfl ?_
  refine p_getR (f := 18) (v := some ta) hK d_Ker_step_65 k_Processor fd_Ker_125_Processor (by decide) rfl rfl (fun g h => h.getR hpp (by decide) rfl (by simp [sSetI, sSetR, sSetA, sSetB, sSetQ, sSetL, sSetT, sNew, sNewA, sNewL, sPush, sBump, sBegL, sPutT, sAddL_g, sAddL_q, sAddL_r, sAddL_l, sq, sl, sr, gSetI, gSetR, gSetA, gSetB, gNew, gNewA, up2, up1, gx, gk, gl, gi, gr, ga, gb, hcu])) ?_
  refine r_ifnonnull (v := some ta) (tgt := 77) hK d_Ker_step_68 (by decide) (fun _ _ => ?_) (fun z => absurd z (by simp))
  refine r_aload_n hK d_Ker_step_77 rfl 1 rfl ?_
  refine p_getR (f := 18) (v := some ta) hK d_Ker_step_78 k_Processor fd_Ker_125_Processor (by decide) rfl rfl (fun g h => h.getR hpp (by decide) rfl (by simp [sSetI, sSetR, sSetA, sSetB, sSetQ, sSetL, sSetT, sNew, sNewA, sNewL, sPush, sBump, sBegL, sPutT, sAddL_g, sAddL_q, sAddL_r, sAddL_l, sq, sl, sr, gSetI, gSetR, gSetA, gSetB, gNew, gNewA, up2, up1, gx, gk, gl, gi, gr, ga, gb, hcu])) ?_
  refine r_astore (lv' := [(4, .ref ta), (3, .null), (2, .ref pp), (0, .ref x), (1, .int pv)]) hK d_Ker_step_81 (by decide) rfl ?_
  refine r_aload hK d_Ker_step_83 0 rfl ?_
  refine p_getR (f := 34) (v := some ol) hK d_Ker_step_85 k_Task fd_Ker_48_Task (by decide) rfl rfl (fun g h => h.getR hta (by decide) rfl (by simp [sSetI, sSetR, sSetA, sSetB, sSetQ, sSetL, sSetT, sNew, sNewA, sNewL, sPush, sBump, sBegL, sPutT, sAddL_g, sAddL_q, sAddL_r, sAddL_l, sq, sl, sr, gSetI, gSetR, gSetA, gSetB, gNew, gNewA, up2, up1, gx, gk, gl, gi, gr, ga, gb, hto])) ?_
  refine r_aload hK d_Ker_step_88 0 rfl ?_
  refine p_getI (f := 35) (v := nI dd) hK d_Ker_step_90 k_Task fd_Ker_133_Task (by decide) rfl rfl (fun g h => h.getI hta (by decide) rfl (by simp [sSetI, sSetR, sSetA, sSetB, sSetQ, sSetL, sSetT, sNew, sNewA, sNewL, sPush, sBump, sBegL, sPutT, sAddL_g, sAddL_q, sAddL_r, sAddL_l, sq, sl, sr, gSetI, gSetR, gSetA, gSetB, gNew, gNewA, up2, up1, gx, gk, gl, gi, gr, ga, gb, hdd])) ?_
  refine r_callVr (As := [.int (nI dd)]) (b := ol) (st := []) hK (cS_at (s := sSetI s 3 x (sp + (nI 1))) ol dd o (hol) (by simp [sSetI, sSetR, sSetA, sSetB, sSetQ, sSetL, sSetT, sNew, sNewA, sNewL, sPush, sBump, sBegL, sPutT, sAddL_g, sAddL_q, sAddL_r, sAddL_l, sq, sl, sr, gSetI, gSetR, gSetA, gSetB, gNew, gNewA, up2, up1, gx, gk, gl, gi, gr, ga, gb, hod])) d_Ker_step_93 ml_Ker_44 cv_AL_get rfl (by decide) (p_recv k_AL (fun g h => h.kd hol (by decide))) (Nat.le_of_ble_eq_true rfl) ?_ rfl
  refine p_cast hK d_Ker_step_96 cl_Ker_136 ca_Move_Order (p_recv k_Move (fun g h => h.kd ho (by decide))) ?_
  refine r_astore (lv' := [(5, .ref o), (4, .ref ta), (3, .null), (2, .ref pp), (0, .ref x), (1, .int pv)]) hK d_Ker_step_99 (by decide) rfl ?_
  refine r_aload hK d_Ker_step_101 0 rfl ?_
  refine p_getR (f := 39) (v := some (cxE X e)) hK d_Ker_step_103 k_Move fd_Ker_138_Move (by decide) rfl rfl (fun g h => h.getR ho (by decide) rfl (by simp [sSetI, sSetR, sSetA, sSetB, sSetQ, sSetL, sSetT, sNew, sNewA, sNewL, sPush, sBump, sBegL, sPutT, sAddL_g, sAddL_q, sAddL_r, sAddL_l, sq, sl, sr, gSetI, gSetR, gSetA, gSetB, gNew, gNewA, up2, up1, gx, gk, gl, gi, gr, ga, gb, hph])) ?_
  refine r_callVi (As := []) (b := cxE X e) (st := []) hK (c_Phase_code X l (HoldP X (Abs X)) (sSetI s 3 x (sp + (nI 1))) e (nI cd) he hcd) d_Ker_step_106 ml_Ker_142 cv_Phase_code rfl (by decide) (p_recvE he) (Nat.le_of_ble_eq_true rfl) ?_ rfl
  refine r_istore (lv' := [(6, .int (nI cd)), (5, .ref o), (4, .ref ta), (3, .null), (2, .ref pp), (0, .ref x), (1, .int pv)]) hK d_Ker_step_109 (by decide) rfl ?_
  refine r_aload hK d_Ker_step_111 1 rfl ?_
  refine r_aload_n hK d_Ker_step_113 rfl 5 rfl ?_
  refine p_getR (f := 1) (v := some m) hK d_Ker_step_114 k_Ker fd_Ker_10_Ker (by decide) rfl rfl (fun g h => h.getR hx (by decide) rfl (by simp [sSetI, sSetR, sSetA, sSetB, sSetQ, sSetL, sSetT, sNew, sNewA, sNewL, sPush, sBump, sBegL, sPutT, sAddL_g, sAddL_q, sAddL_r, sAddL_l, sq, sl, sr, gSetI, gSetR, gSetA, gSetB, gNew, gNewA, up2, up1, gx, gk, gl, gi, gr, ga, gb, hxm])) ?_
  refine r_aload_n hK d_Ker_step_117 rfl 4 rfl ?_
  refine r_callUi (As := [.ref m, .ref pp]) (b := o) (st := []) hK (hact) d_Ker_step_118 ml_Ker_147 cu_Move_Order_Move_act rfl (Nat.succ_le_succ hda) (p_recv k_Move (fun g h => h.kd ho (by decide))) (Nat.le_of_ble_eq_true rfl) ?_ rfl
  refine r_nif_ne (a := 1) (tgt := 127) hK d_Ker_step_121 (by decide) (by decide) (fun _ => ?_) (fun z => absurd z (by decide))
  refine r_aload_n hK d_Ker_step_127 rfl 5 rfl ?_
  refine r_dup hK d_Ker_step_128 rfl ?_
  refine p_getI (f := 4) (v := fi) hK d_Ker_step_129 k_Ker fd_Ker_151_Ker (by decide) rfl rfl (fun g h => h.getI hx2 (by decide) rfl hfi2) ?_
  refine r_iconst (v := nI 1) hK d_Ker_step_132 (by decide) ?_
  refine r_iadd hK d_Ker_step_133 ?_
  refine p_putI (k := 3) (f := 4) hK d_Ker_step_134 k_Ker fd_Ker_151_Ker (by decide) rfl rfl rfl rfl rfl (fun g h => ⟨h.kd hx2 (by decide), h.setI (nz_of (k := 0) hx2) rfl⟩) ?_
  refine r_aload hK d_Ker_step_137 2 rfl ?_
  refine r_dup hK d_Ker_step_139 rfl ?_
  refine p_getI (f := 35) (v := nI dd) hK d_Ker_step_140 k_Task fd_Ker_133_Task (by decide) rfl rfl (fun g h => h.getI hta2 (by decide) rfl (by simp [sSetI, sSetR, sSetA, sSetB, sSetQ, sSetL, sSetT, sNew, sNewA, sNewL, sPush, sBump, sBegL, sPutT, sAddL_g, sAddL_q, sAddL_r, sAddL_l, sq, sl, sr, gSetI, gSetR, gSetA, gSetB, gNew, gNewA, up2, up1, gx, gk, gl, gi, gr, ga, gb, hdd2])) ?_
  refine r_iconst (v := nI 1) hK d_Ker_step_143 (by decide) ?_
  refine r_iadd hK d_Ker_step_144 ?_
  refine r_tp (b := nI (dd + 1)) (nI_add _ _) ?_
  refine p_putI (k := 2) (f := 35) hK d_Ker_step_145 k_Task fd_Ker_133_Task (by decide) rfl rfl rfl rfl rfl (fun g h => ⟨h.kd hta2 (by decide), h.setI (nz_of (k := 8) hta2) rfl⟩) ?_
  refine r_aload_n hK d_Ker_step_148 rfl 5 rfl ?_
  refine r_aload_n hK d_Ker_step_149 rfl 4 rfl ?_
  refine r_aload hK d_Ker_step_150 2 rfl ?_
  refine r_aload hK d_Ker_step_152 1 rfl ?_
  refine r_callVv (As := [.ref pp, .ref ta, .ref o]) (b := x) (st := []) hK (hst) d_Ker_step_154 ml_Ker_154 cv_Ker_settle rfl (by decide) (p_recv k_Ker (fun g h => h.kd hx2 (by decide))) (Nat.le_of_ble_eq_true rfl) ?_ rfl
  refine r_iload hK d_Ker_step_157 0 rfl ?_
  refine r_bipush (v := nI 16) hK d_Ker_step_159 (by decide) ?_
  refine r_iadd hK d_Ker_step_161 ?_
  refine r_tp (b := nI (cd + 16)) (nI_add _ _) ?_
  refine r_iret hK d_Ker_step_162 rfl (rfl) ?_
  exact ⟨rfl, rfl⟩
set_option maxHeartbeats 1000000 in
theorem c_Ker_run_lo (X : gCx) (l : Launch) (s : sS) (x : Nat) (sch n : Int32) (hb : n < nI 1) : gMi X l (HoldP X (Abs X)) M_Ker_run 7 64 192 [.ref x, .int sch, .int n] s (-1) s := by
  refine gM_intro (by decide) (Nat.le_of_ble_eq_true rfl) (fun K hK => ?_)
  show K 0 [(0, .ref x), (1, .int sch), (2, .int n)] [] s 64 192
  refine r_iload_n hK d_Ker_run_0 rfl 2 rfl ?_
  refine r_iconst (v := nI 1) hK d_Ker_run_1 (by decide) ?_
  refine r_icmp_lt (tgt := 11) hK d_Ker_run_2 (by decide) (fun c2 => ?_) (fun z => False.elim (z hb))
  refine r_iconst (v := -1) hK d_Ker_run_11 (by decide) ?_
  refine r_iret hK d_Ker_run_12 rfl (rfl) ?_
  exact ⟨rfl, rfl⟩
set_option maxHeartbeats 1000000 in
theorem c_Ker_run_hi (X : gCx) (l : Launch) (s : sS) (x : Nat) (sch n : Int32) (ha : ¬ n < nI 1) (hb : ¬ n ≤ nI 16) : gMi X l (HoldP X (Abs X)) M_Ker_run 7 64 192 [.ref x, .int sch, .int n] s (-1) s := by
  refine gM_intro (by decide) (Nat.le_of_ble_eq_true rfl) (fun K hK => ?_)
  show K 0 [(0, .ref x), (1, .int sch), (2, .int n)] [] s 64 192
  refine r_iload_n hK d_Ker_run_0 rfl 2 rfl ?_
  refine r_iconst (v := nI 1) hK d_Ker_run_1 (by decide) ?_
  refine r_icmp_lt (tgt := 11) hK d_Ker_run_2 (by decide) (fun z => False.elim (ha z)) (fun c2 => ?_)
  refine r_iload_n hK d_Ker_run_5 rfl 2 rfl ?_
  refine r_bipush (v := nI 16) hK d_Ker_run_6 (by decide) ?_
  refine r_icmp_le (tgt := 13) hK d_Ker_run_8 (by decide) (fun z => False.elim (hb z)) (fun c8 => ?_)
  refine r_iconst (v := -1) hK d_Ker_run_11 (by decide) ?_
  refine r_iret hK d_Ker_run_12 rfl (rfl) ?_
  exact ⟨rfl, rfl⟩
