set_option maxHeartbeats 1000000 in
theorem c_Ker_settle_park_Access (X : gCx) (l : Launch) (s : sS) (x p ta o ol dd cn : Nat) (hp : gk s.1 p = 3) (hta : gk s.1 ta = 9) (hto : gr s.1 34 ta = some ol) (hol : gk s.1 ol = 14) (hcn : (sl s ol).length = cn) (hdd : gi s.1 35 ta = nI dd) (hdb : dd < 100) (hcb : cn < 100) (ho : gk s.1 o = 10) (hl : dd = cn) : gMv X l (HoldP X (Abs X)) M_Ker_settle 3 1 2 [.ref x, .ref p, .ref ta, .ref o] s (sSetR (sSetR s 36 ta (some p)) 18 p none) := by
  refine gM_intro (by decide) (Nat.le_of_ble_eq_true rfl) (fun K hK => ?_)
  show K 0 [(0, .ref x), (1, .ref p), (2, .ref ta), (3, .ref o)] [] s 1 2
  refine r_aload_n hK d_Ker_settle_0 rfl 3 rfl ?_
  refine p_instN hK d_Ker_settle_1 cl_Ker_91 (fun U h => h.2.2.2.1.1) (p_recv k_Access (fun g h => h.kd ho (by decide))) ?_
  refine r_istore (lv' := [(4, .int (nI 0)), (0, .ref x), (1, .ref p), (2, .ref ta), (3, .ref o)]) hK d_Ker_settle_4 (by decide) rfl ?_
  refine r_iload hK d_Ker_settle_6 0 rfl ?_
  refine r_nif_eq (a := 0) (tgt := 29) hK d_Ker_settle_8 (by decide) (by decide) (fun _ => ?_) (fun z => absurd z (by decide))
  refine r_aload_n hK d_Ker_settle_29 rfl 2 rfl ?_
  refine r_astore (lv' := [(5, .ref p), (4, .int (nI 0)), (0, .ref x), (1, .ref p), (2, .ref ta), (3, .ref o)]) hK d_Ker_settle_30 (by decide) rfl ?_
  refine r_aload_n hK d_Ker_settle_32 rfl 4 rfl ?_
  refine p_getI (f := 35) (v := nI dd) hK d_Ker_settle_33 k_Task fd_Ker_133_Task (by decide) rfl rfl (fun g h => h.getI hta (by decide) rfl hdd) ?_
  refine r_aload_n hK d_Ker_settle_36 rfl 4 rfl ?_
  refine p_getR (f := 34) (v := some ol) hK d_Ker_settle_37 k_Task fd_Ker_48_Task (by decide) rfl rfl (fun g h => h.getR hta (by decide) rfl hto) ?_
  refine r_callVi (As := []) (b := ol) (st := [.int (nI dd)]) hK (cS_size (s := s) ol (hol)) d_Ker_settle_40 ml_Ker_31 cv_AL_size rfl (by decide) (p_recv k_AL (fun g h => h.kd hol (by decide))) (Nat.le_of_ble_eq_true rfl) ?_ rfl
  refine r_tp (b := nI cn) (congrArg nI hcn) ?_
  refine r_ncmp_ne (a := dd) (b := cn) (tgt := 60) hK d_Ker_settle_43 (by decide) (by omega) (by omega) (fun z => False.elim (z hl)) (fun c43 => ?_)
  refine r_aload_n hK d_Ker_settle_46 rfl 4 rfl ?_
  refine r_aload hK d_Ker_settle_47 0 rfl ?_
  refine p_putR (k := 3) (f := 36) (v := some p) hK d_Ker_settle_49 k_Task fd_Ker_51_Task (by decide) rfl rfl rfl (fun g h => ⟨h.kd hta (by decide), h.setR (nz_of (k := 8) hta) rfl⟩) ?_
  refine r_aload_n hK d_Ker_settle_52 rfl 3 rfl ?_
  refine r_null hK d_Ker_settle_53 ?_
  refine p_putR (k := 7) (f := 18) (v := none) hK d_Ker_settle_54 k_Processor fd_Ker_125_Processor (by decide) rfl rfl rfl (fun g h => ⟨h.kd hp (by decide), h.setR (nz_of (k := 2) hp) rfl⟩) ?_
  refine r_goto (tgt := 89) hK d_Ker_settle_57 (by decide) ?_
  refine r_vret hK d_Ker_settle_89 rfl ?_
  exact ⟨rfl, rfl⟩
set_option maxHeartbeats 1000000 in
theorem c_Ker_settle_queue_Access (X : gCx) (l : Launch) (s : sS) (x p ta o ol dd cn : Nat) (hp : gk s.1 p = 3) (hta : gk s.1 ta = 9) (hto : gr s.1 34 ta = some ol) (hol : gk s.1 ol = 14) (hcn : (sl s ol).length = cn) (hdd : gi s.1 35 ta = nI dd) (hdb : dd < 100) (hcb : cn < 100) (qu : Nat) (hpq : gr s.1 17 p = some qu) (hqu : gk s.1 qu = 4) (ho : gk s.1 o = 10) (hl : dd ≠ cn) (hq0 : 0 < (sq s qu).length) (hqb : (sq s qu).length < 100) : gMv X l (HoldP X (Abs X)) M_Ker_settle 3 1 2 [.ref x, .ref p, .ref ta, .ref o] s (sSetR (sPush s qu ta) 18 p none) := by
  refine gM_intro (by decide) (Nat.le_of_ble_eq_true rfl) (fun K hK => ?_)
  show K 0 [(0, .ref x), (1, .ref p), (2, .ref ta), (3, .ref o)] [] s 1 2
  refine r_aload_n hK d_Ker_settle_0 rfl 3 rfl ?_
  refine p_instN hK d_Ker_settle_1 cl_Ker_91 (fun U h => h.2.2.2.1.1) (p_recv k_Access (fun g h => h.kd ho (by decide))) ?_
  refine r_istore (lv' := [(4, .int (nI 0)), (0, .ref x), (1, .ref p), (2, .ref ta), (3, .ref o)]) hK d_Ker_settle_4 (by decide) rfl ?_
  refine r_iload hK d_Ker_settle_6 0 rfl ?_
  refine r_nif_eq (a := 0) (tgt := 29) hK d_Ker_settle_8 (by decide) (by decide) (fun _ => ?_) (fun z => absurd z (by decide))
  refine r_aload_n hK d_Ker_settle_29 rfl 2 rfl ?_
  refine r_astore (lv' := [(5, .ref p), (4, .int (nI 0)), (0, .ref x), (1, .ref p), (2, .ref ta), (3, .ref o)]) hK d_Ker_settle_30 (by decide) rfl ?_
  refine r_aload_n hK d_Ker_settle_32 rfl 4 rfl ?_
  refine p_getI (f := 35) (v := nI dd) hK d_Ker_settle_33 k_Task fd_Ker_133_Task (by decide) rfl rfl (fun g h => h.getI hta (by decide) rfl hdd) ?_
  refine r_aload_n hK d_Ker_settle_36 rfl 4 rfl ?_
  refine p_getR (f := 34) (v := some ol) hK d_Ker_settle_37 k_Task fd_Ker_48_Task (by decide) rfl rfl (fun g h => h.getR hta (by decide) rfl hto) ?_
  refine r_callVi (As := []) (b := ol) (st := [.int (nI dd)]) hK (cS_size (s := s) ol (hol)) d_Ker_settle_40 ml_Ker_31 cv_AL_size rfl (by decide) (p_recv k_AL (fun g h => h.kd hol (by decide))) (Nat.le_of_ble_eq_true rfl) ?_ rfl
  refine r_tp (b := nI cn) (congrArg nI hcn) ?_
  refine r_ncmp_ne (a := dd) (b := cn) (tgt := 60) hK d_Ker_settle_43 (by decide) (by omega) (by omega) (fun c43 => ?_) (fun z => False.elim (hl z))
  refine r_iload hK d_Ker_settle_60 1 rfl ?_
  refine r_nif_ne (a := 0) (tgt := 75) hK d_Ker_settle_62 (by decide) (by decide) (fun z => absurd z (by decide)) (fun _ => ?_)
  refine r_aload_n hK d_Ker_settle_65 rfl 3 rfl ?_
  refine p_getR (f := 17) (v := some qu) hK d_Ker_settle_66 k_Processor fd_Ker_55_Processor (by decide) rfl rfl (fun g h => h.getR hp (by decide) rfl hpq) ?_
  refine p_getI (f := 21) (v := nI (sq s qu).length) hK d_Ker_settle_69 k_Line fd_Ker_158_Line (by decide) rfl rfl (fun g h => h.size hqu) ?_
  refine r_nif_le (a := (sq s qu).length) (tgt := 89) hK d_Ker_settle_72 (by decide) (by omega) (fun z => False.elim (by omega)) (fun c72 => ?_)
  refine r_aload hK d_Ker_settle_75 0 rfl ?_
  refine p_getR (f := 17) (v := some qu) hK d_Ker_settle_77 k_Processor fd_Ker_55_Processor (by decide) rfl rfl (fun g h => h.getR hp (by decide) rfl hpq) ?_
  refine r_aload_n hK d_Ker_settle_80 rfl 4 rfl ?_
  refine r_callVv (As := [.ref ta]) (b := qu) (st := []) hK (cS_add (s := s) qu ta hqu) d_Ker_settle_81 ml_Ker_61 cv_Line_add rfl (by decide) (p_recv k_Line (fun g h => h.kd hqu (by decide))) (Nat.le_of_ble_eq_true rfl) ?_ rfl
  refine r_aload_n hK d_Ker_settle_84 rfl 3 rfl ?_
  refine r_null hK d_Ker_settle_85 ?_
  refine p_putR (k := 7) (f := 18) (v := none) hK d_Ker_settle_86 k_Processor fd_Ker_125_Processor (by decide) rfl rfl rfl (fun g h => ⟨h.kd hp (by decide), h.setR (nz_of (k := 2) hp) rfl⟩) ?_
  refine r_vret hK d_Ker_settle_89 rfl ?_
  exact ⟨rfl, rfl⟩
set_option maxHeartbeats 1000000 in
theorem c_Ker_settle_stay_Access (X : gCx) (l : Launch) (s : sS) (x p ta o ol dd cn : Nat) (hp : gk s.1 p = 3) (hta : gk s.1 ta = 9) (hto : gr s.1 34 ta = some ol) (hol : gk s.1 ol = 14) (hcn : (sl s ol).length = cn) (hdd : gi s.1 35 ta = nI dd) (hdb : dd < 100) (hcb : cn < 100) (qu : Nat) (hpq : gr s.1 17 p = some qu) (hqu : gk s.1 qu = 4) (ho : gk s.1 o = 10) (hl : dd ≠ cn) (hq0 : (sq s qu).length = 0) : gMv X l (HoldP X (Abs X)) M_Ker_settle 3 1 2 [.ref x, .ref p, .ref ta, .ref o] s s := by
  refine gM_intro (by decide) (Nat.le_of_ble_eq_true rfl) (fun K hK => ?_)
  show K 0 [(0, .ref x), (1, .ref p), (2, .ref ta), (3, .ref o)] [] s 1 2
  refine r_aload_n hK d_Ker_settle_0 rfl 3 rfl ?_
  refine p_instN hK d_Ker_settle_1 cl_Ker_91 (fun U h => h.2.2.2.1.1) (p_recv k_Access (fun g h => h.kd ho (by decide))) ?_
  refine r_istore (lv' := [(4, .int (nI 0)), (0, .ref x), (1, .ref p), (2, .ref ta), (3, .ref o)]) hK d_Ker_settle_4 (by decide) rfl ?_
  refine r_iload hK d_Ker_settle_6 0 rfl ?_
  refine r_nif_eq (a := 0) (tgt := 29) hK d_Ker_settle_8 (by decide) (by decide) (fun _ => ?_) (fun z => absurd z (by decide))
  refine r_aload_n hK d_Ker_settle_29 rfl 2 rfl ?_
  refine r_astore (lv' := [(5, .ref p), (4, .int (nI 0)), (0, .ref x), (1, .ref p), (2, .ref ta), (3, .ref o)]) hK d_Ker_settle_30 (by decide) rfl ?_
  refine r_aload_n hK d_Ker_settle_32 rfl 4 rfl ?_
  refine p_getI (f := 35) (v := nI dd) hK d_Ker_settle_33 k_Task fd_Ker_133_Task (by decide) rfl rfl (fun g h => h.getI hta (by decide) rfl hdd) ?_
  refine r_aload_n hK d_Ker_settle_36 rfl 4 rfl ?_
  refine p_getR (f := 34) (v := some ol) hK d_Ker_settle_37 k_Task fd_Ker_48_Task (by decide) rfl rfl (fun g h => h.getR hta (by decide) rfl hto) ?_
  refine r_callVi (As := []) (b := ol) (st := [.int (nI dd)]) hK (cS_size (s := s) ol (hol)) d_Ker_settle_40 ml_Ker_31 cv_AL_size rfl (by decide) (p_recv k_AL (fun g h => h.kd hol (by decide))) (Nat.le_of_ble_eq_true rfl) ?_ rfl
  refine r_tp (b := nI cn) (congrArg nI hcn) ?_
  refine r_ncmp_ne (a := dd) (b := cn) (tgt := 60) hK d_Ker_settle_43 (by decide) (by omega) (by omega) (fun c43 => ?_) (fun z => False.elim (hl z))
  refine r_iload hK d_Ker_settle_60 1 rfl ?_
  refine r_nif_ne (a := 0) (tgt := 75) hK d_Ker_settle_62 (by decide) (by decide) (fun z => absurd z (by decide)) (fun _ => ?_)
  refine r_aload_n hK d_Ker_settle_65 rfl 3 rfl ?_
  refine p_getR (f := 17) (v := some qu) hK d_Ker_settle_66 k_Processor fd_Ker_55_Processor (by decide) rfl rfl (fun g h => h.getR hp (by decide) rfl hpq) ?_
  refine p_getI (f := 21) (v := nI (sq s qu).length) hK d_Ker_settle_69 k_Line fd_Ker_158_Line (by decide) rfl rfl (fun g h => h.size hqu) ?_
  refine r_nif_le (a := (sq s qu).length) (tgt := 89) hK d_Ker_settle_72 (by decide) (by omega) (fun c72 => ?_) (fun z => False.elim (by omega))
  refine r_vret hK d_Ker_settle_89 rfl ?_
  exact ⟨rfl, rfl⟩
set_option maxHeartbeats 1000000 in
theorem c_Ker_settle_park_Grant (X : gCx) (l : Launch) (s : sS) (x p ta o ol dd cn : Nat) (hp : gk s.1 p = 3) (hta : gk s.1 ta = 9) (hto : gr s.1 34 ta = some ol) (hol : gk s.1 ol = 14) (hcn : (sl s ol).length = cn) (hdd : gi s.1 35 ta = nI dd) (hdb : dd < 100) (hcb : cn < 100) (ho : gk s.1 o = 11) (hl : dd = cn) : gMv X l (HoldP X (Abs X)) M_Ker_settle 3 1 2 [.ref x, .ref p, .ref ta, .ref o] s (sSetR (sSetR s 36 ta (some p)) 18 p none) := by
  refine gM_intro (by decide) (Nat.le_of_ble_eq_true rfl) (fun K hK => ?_)
  show K 0 [(0, .ref x), (1, .ref p), (2, .ref ta), (3, .ref o)] [] s 1 2
  refine r_aload_n hK d_Ker_settle_0 rfl 3 rfl ?_
  refine p_instN hK d_Ker_settle_1 cl_Ker_91 (fun U h => h.2.2.2.1.2.1) (p_recv k_Grant (fun g h => h.kd ho (by decide))) ?_
  refine r_istore (lv' := [(4, .int (nI 0)), (0, .ref x), (1, .ref p), (2, .ref ta), (3, .ref o)]) hK d_Ker_settle_4 (by decide) rfl ?_
  refine r_iload hK d_Ker_settle_6 0 rfl ?_
  refine r_nif_eq (a := 0) (tgt := 29) hK d_Ker_settle_8 (by decide) (by decide) (fun _ => ?_) (fun z => absurd z (by decide))
  refine r_aload_n hK d_Ker_settle_29 rfl 2 rfl ?_
  refine r_astore (lv' := [(5, .ref p), (4, .int (nI 0)), (0, .ref x), (1, .ref p), (2, .ref ta), (3, .ref o)]) hK d_Ker_settle_30 (by decide) rfl ?_
  refine r_aload_n hK d_Ker_settle_32 rfl 4 rfl ?_
  refine p_getI (f := 35) (v := nI dd) hK d_Ker_settle_33 k_Task fd_Ker_133_Task (by decide) rfl rfl (fun g h => h.getI hta (by decide) rfl hdd) ?_
  refine r_aload_n hK d_Ker_settle_36 rfl 4 rfl ?_
  refine p_getR (f := 34) (v := some ol) hK d_Ker_settle_37 k_Task fd_Ker_48_Task (by decide) rfl rfl (fun g h => h.getR hta (by decide) rfl hto) ?_
  refine r_callVi (As := []) (b := ol) (st := [.int (nI dd)]) hK (cS_size (s := s) ol (hol)) d_Ker_settle_40 ml_Ker_31 cv_AL_size rfl (by decide) (p_recv k_AL (fun g h => h.kd hol (by decide))) (Nat.le_of_ble_eq_true rfl) ?_ rfl
  refine r_tp (b := nI cn) (congrArg nI hcn) ?_
  refine r_ncmp_ne (a := dd) (b := cn) (tgt := 60) hK d_Ker_settle_43 (by decide) (by omega) (by omega) (fun z => False.elim (z hl)) (fun c43 => ?_)
  refine r_aload_n hK d_Ker_settle_46 rfl 4 rfl ?_
  refine r_aload hK d_Ker_settle_47 0 rfl ?_
  refine p_putR (k := 3) (f := 36) (v := some p) hK d_Ker_settle_49 k_Task fd_Ker_51_Task (by decide) rfl rfl rfl (fun g h => ⟨h.kd hta (by decide), h.setR (nz_of (k := 8) hta) rfl⟩) ?_
  refine r_aload_n hK d_Ker_settle_52 rfl 3 rfl ?_
  refine r_null hK d_Ker_settle_53 ?_
  refine p_putR (k := 7) (f := 18) (v := none) hK d_Ker_settle_54 k_Processor fd_Ker_125_Processor (by decide) rfl rfl rfl (fun g h => ⟨h.kd hp (by decide), h.setR (nz_of (k := 2) hp) rfl⟩) ?_
  refine r_goto (tgt := 89) hK d_Ker_settle_57 (by decide) ?_
  refine r_vret hK d_Ker_settle_89 rfl ?_
  exact ⟨rfl, rfl⟩
set_option maxHeartbeats 1000000 in
theorem c_Ker_settle_queue_Grant (X : gCx) (l : Launch) (s : sS) (x p ta o ol dd cn : Nat) (hp : gk s.1 p = 3) (hta : gk s.1 ta = 9) (hto : gr s.1 34 ta = some ol) (hol : gk s.1 ol = 14) (hcn : (sl s ol).length = cn) (hdd : gi s.1 35 ta = nI dd) (hdb : dd < 100) (hcb : cn < 100) (qu : Nat) (hpq : gr s.1 17 p = some qu) (hqu : gk s.1 qu = 4) (ho : gk s.1 o = 11) (hl : dd ≠ cn) (hq0 : 0 < (sq s qu).length) (hqb : (sq s qu).length < 100) : gMv X l (HoldP X (Abs X)) M_Ker_settle 3 1 2 [.ref x, .ref p, .ref ta, .ref o] s (sSetR (sPush s qu ta) 18 p none) := by
  refine gM_intro (by decide) (Nat.le_of_ble_eq_true rfl) (fun K hK => ?_)
  show K 0 [(0, .ref x), (1, .ref p), (2, .ref ta), (3, .ref o)] [] s 1 2
  refine r_aload_n hK d_Ker_settle_0 rfl 3 rfl ?_
  refine p_instN hK d_Ker_settle_1 cl_Ker_91 (fun U h => h.2.2.2.1.2.1) (p_recv k_Grant (fun g h => h.kd ho (by decide))) ?_
  refine r_istore (lv' := [(4, .int (nI 0)), (0, .ref x), (1, .ref p), (2, .ref ta), (3, .ref o)]) hK d_Ker_settle_4 (by decide) rfl ?_
  refine r_iload hK d_Ker_settle_6 0 rfl ?_
  refine r_nif_eq (a := 0) (tgt := 29) hK d_Ker_settle_8 (by decide) (by decide) (fun _ => ?_) (fun z => absurd z (by decide))
  refine r_aload_n hK d_Ker_settle_29 rfl 2 rfl ?_
  refine r_astore (lv' := [(5, .ref p), (4, .int (nI 0)), (0, .ref x), (1, .ref p), (2, .ref ta), (3, .ref o)]) hK d_Ker_settle_30 (by decide) rfl ?_
  refine r_aload_n hK d_Ker_settle_32 rfl 4 rfl ?_
  refine p_getI (f := 35) (v := nI dd) hK d_Ker_settle_33 k_Task fd_Ker_133_Task (by decide) rfl rfl (fun g h => h.getI hta (by decide) rfl hdd) ?_
  refine r_aload_n hK d_Ker_settle_36 rfl 4 rfl ?_
  refine p_getR (f := 34) (v := some ol) hK d_Ker_settle_37 k_Task fd_Ker_48_Task (by decide) rfl rfl (fun g h => h.getR hta (by decide) rfl hto) ?_
  refine r_callVi (As := []) (b := ol) (st := [.int (nI dd)]) hK (cS_size (s := s) ol (hol)) d_Ker_settle_40 ml_Ker_31 cv_AL_size rfl (by decide) (p_recv k_AL (fun g h => h.kd hol (by decide))) (Nat.le_of_ble_eq_true rfl) ?_ rfl
  refine r_tp (b := nI cn) (congrArg nI hcn) ?_
  refine r_ncmp_ne (a := dd) (b := cn) (tgt := 60) hK d_Ker_settle_43 (by decide) (by omega) (by omega) (fun c43 => ?_) (fun z => False.elim (hl z))
  refine r_iload hK d_Ker_settle_60 1 rfl ?_
  refine r_nif_ne (a := 0) (tgt := 75) hK d_Ker_settle_62 (by decide) (by decide) (fun z => absurd z (by decide)) (fun _ => ?_)
  refine r_aload_n hK d_Ker_settle_65 rfl 3 rfl ?_
  refine p_getR (f := 17) (v := some qu) hK d_Ker_settle_66 k_Processor fd_Ker_55_Processor (by decide) rfl rfl (fun g h => h.getR hp (by decide) rfl hpq) ?_
  refine p_getI (f := 21) (v := nI (sq s qu).length) hK d_Ker_settle_69 k_Line fd_Ker_158_Line (by decide) rfl rfl (fun g h => h.size hqu) ?_
  refine r_nif_le (a := (sq s qu).length) (tgt := 89) hK d_Ker_settle_72 (by decide) (by omega) (fun z => False.elim (by omega)) (fun c72 => ?_)
  refine r_aload hK d_Ker_settle_75 0 rfl ?_
  refine p_getR (f := 17) (v := some qu) hK d_Ker_settle_77 k_Processor fd_Ker_55_Processor (by decide) rfl rfl (fun g h => h.getR hp (by decide) rfl hpq) ?_
  refine r_aload_n hK d_Ker_settle_80 rfl 4 rfl ?_
  refine r_callVv (As := [.ref ta]) (b := qu) (st := []) hK (cS_add (s := s) qu ta hqu) d_Ker_settle_81 ml_Ker_61 cv_Line_add rfl (by decide) (p_recv k_Line (fun g h => h.kd hqu (by decide))) (Nat.le_of_ble_eq_true rfl) ?_ rfl
  refine r_aload_n hK d_Ker_settle_84 rfl 3 rfl ?_
  refine r_null hK d_Ker_settle_85 ?_
  refine p_putR (k := 7) (f := 18) (v := none) hK d_Ker_settle_86 k_Processor fd_Ker_125_Processor (by decide) rfl rfl rfl (fun g h => ⟨h.kd hp (by decide), h.setR (nz_of (k := 2) hp) rfl⟩) ?_
  refine r_vret hK d_Ker_settle_89 rfl ?_
  exact ⟨rfl, rfl⟩
set_option maxHeartbeats 1000000 in
theorem c_Ker_settle_stay_Grant (X : gCx) (l : Launch) (s : sS) (x p ta o ol dd cn : Nat) (hp : gk s.1 p = 3) (hta : gk s.1 ta = 9) (hto : gr s.1 34 ta = some ol) (hol : gk s.1 ol = 14) (hcn : (sl s ol).length = cn) (hdd : gi s.1 35 ta = nI dd) (hdb : dd < 100) (hcb : cn < 100) (qu : Nat) (hpq : gr s.1 17 p = some qu) (hqu : gk s.1 qu = 4) (ho : gk s.1 o = 11) (hl : dd ≠ cn) (hq0 : (sq s qu).length = 0) : gMv X l (HoldP X (Abs X)) M_Ker_settle 3 1 2 [.ref x, .ref p, .ref ta, .ref o] s s := by
  refine gM_intro (by decide) (Nat.le_of_ble_eq_true rfl) (fun K hK => ?_)
  show K 0 [(0, .ref x), (1, .ref p), (2, .ref ta), (3, .ref o)] [] s 1 2
  refine r_aload_n hK d_Ker_settle_0 rfl 3 rfl ?_
  refine p_instN hK d_Ker_settle_1 cl_Ker_91 (fun U h => h.2.2.2.1.2.1) (p_recv k_Grant (fun g h => h.kd ho (by decide))) ?_
  refine r_istore (lv' := [(4, .int (nI 0)), (0, .ref x), (1, .ref p), (2, .ref ta), (3, .ref o)]) hK d_Ker_settle_4 (by decide) rfl ?_
  refine r_iload hK d_Ker_settle_6 0 rfl ?_
  refine r_nif_eq (a := 0) (tgt := 29) hK d_Ker_settle_8 (by decide) (by decide) (fun _ => ?_) (fun z => absurd z (by decide))
  refine r_aload_n hK d_Ker_settle_29 rfl 2 rfl ?_
  refine r_astore (lv' := [(5, .ref p), (4, .int (nI 0)), (0, .ref x), (1, .ref p), (2, .ref ta), (3, .ref o)]) hK d_Ker_settle_30 (by decide) rfl ?_
  refine r_aload_n hK d_Ker_settle_32 rfl 4 rfl ?_
  refine p_getI (f := 35) (v := nI dd) hK d_Ker_settle_33 k_Task fd_Ker_133_Task (by decide) rfl rfl (fun g h => h.getI hta (by decide) rfl hdd) ?_
  refine r_aload_n hK d_Ker_settle_36 rfl 4 rfl ?_
  refine p_getR (f := 34) (v := some ol) hK d_Ker_settle_37 k_Task fd_Ker_48_Task (by decide) rfl rfl (fun g h => h.getR hta (by decide) rfl hto) ?_
  refine r_callVi (As := []) (b := ol) (st := [.int (nI dd)]) hK (cS_size (s := s) ol (hol)) d_Ker_settle_40 ml_Ker_31 cv_AL_size rfl (by decide) (p_recv k_AL (fun g h => h.kd hol (by decide))) (Nat.le_of_ble_eq_true rfl) ?_ rfl
  refine r_tp (b := nI cn) (congrArg nI hcn) ?_
  refine r_ncmp_ne (a := dd) (b := cn) (tgt := 60) hK d_Ker_settle_43 (by decide) (by omega) (by omega) (fun c43 => ?_) (fun z => False.elim (hl z))
  refine r_iload hK d_Ker_settle_60 1 rfl ?_
  refine r_nif_ne (a := 0) (tgt := 75) hK d_Ker_settle_62 (by decide) (by decide) (fun z => absurd z (by decide)) (fun _ => ?_)
  refine r_aload_n hK d_Ker_settle_65 rfl 3 rfl ?_
  refine p_getR (f := 17) (v := some qu) hK d_Ker_settle_66 k_Processor fd_Ker_55_Processor (by decide) rfl rfl (fun g h => h.getR hp (by decide) rfl hpq) ?_
  refine p_getI (f := 21) (v := nI (sq s qu).length) hK d_Ker_settle_69 k_Line fd_Ker_158_Line (by decide) rfl rfl (fun g h => h.size hqu) ?_
  refine r_nif_le (a := (sq s qu).length) (tgt := 89) hK d_Ker_settle_72 (by decide) (by omega) (fun c72 => ?_) (fun z => False.elim (by omega))
  refine r_vret hK d_Ker_settle_89 rfl ?_
  exact ⟨rfl, rfl⟩
set_option maxHeartbeats 1000000 in
theorem c_Ker_settle_park_Revoke (X : gCx) (l : Launch) (s : sS) (x p ta o ol dd cn : Nat) (hp : gk s.1 p = 3) (hta : gk s.1 ta = 9) (hto : gr s.1 34 ta = some ol) (hol : gk s.1 ol = 14) (hcn : (sl s ol).length = cn) (hdd : gi s.1 35 ta = nI dd) (hdb : dd < 100) (hcb : cn < 100) (ho : gk s.1 o = 12) (hl : dd = cn) : gMv X l (HoldP X (Abs X)) M_Ker_settle 3 1 2 [.ref x, .ref p, .ref ta, .ref o] s (sSetR (sSetR s 36 ta (some p)) 18 p none) := by
  refine gM_intro (by decide) (Nat.le_of_ble_eq_true rfl) (fun K hK => ?_)
  show K 0 [(0, .ref x), (1, .ref p), (2, .ref ta), (3, .ref o)] [] s 1 2
  refine r_aload_n hK d_Ker_settle_0 rfl 3 rfl ?_
  refine p_instN hK d_Ker_settle_1 cl_Ker_91 (fun U h => h.2.2.2.1.2.2) (p_recv k_Revoke (fun g h => h.kd ho (by decide))) ?_
  refine r_istore (lv' := [(4, .int (nI 0)), (0, .ref x), (1, .ref p), (2, .ref ta), (3, .ref o)]) hK d_Ker_settle_4 (by decide) rfl ?_
  refine r_iload hK d_Ker_settle_6 0 rfl ?_
  refine r_nif_eq (a := 0) (tgt := 29) hK d_Ker_settle_8 (by decide) (by decide) (fun _ => ?_) (fun z => absurd z (by decide))
  refine r_aload_n hK d_Ker_settle_29 rfl 2 rfl ?_
  refine r_astore (lv' := [(5, .ref p), (4, .int (nI 0)), (0, .ref x), (1, .ref p), (2, .ref ta), (3, .ref o)]) hK d_Ker_settle_30 (by decide) rfl ?_
  refine r_aload_n hK d_Ker_settle_32 rfl 4 rfl ?_
  refine p_getI (f := 35) (v := nI dd) hK d_Ker_settle_33 k_Task fd_Ker_133_Task (by decide) rfl rfl (fun g h => h.getI hta (by decide) rfl hdd) ?_
  refine r_aload_n hK d_Ker_settle_36 rfl 4 rfl ?_
  refine p_getR (f := 34) (v := some ol) hK d_Ker_settle_37 k_Task fd_Ker_48_Task (by decide) rfl rfl (fun g h => h.getR hta (by decide) rfl hto) ?_
  refine r_callVi (As := []) (b := ol) (st := [.int (nI dd)]) hK (cS_size (s := s) ol (hol)) d_Ker_settle_40 ml_Ker_31 cv_AL_size rfl (by decide) (p_recv k_AL (fun g h => h.kd hol (by decide))) (Nat.le_of_ble_eq_true rfl) ?_ rfl
  refine r_tp (b := nI cn) (congrArg nI hcn) ?_
  refine r_ncmp_ne (a := dd) (b := cn) (tgt := 60) hK d_Ker_settle_43 (by decide) (by omega) (by omega) (fun z => False.elim (z hl)) (fun c43 => ?_)
  refine r_aload_n hK d_Ker_settle_46 rfl 4 rfl ?_
  refine r_aload hK d_Ker_settle_47 0 rfl ?_
  refine p_putR (k := 3) (f := 36) (v := some p) hK d_Ker_settle_49 k_Task fd_Ker_51_Task (by decide) rfl rfl rfl (fun g h => ⟨h.kd hta (by decide), h.setR (nz_of (k := 8) hta) rfl⟩) ?_
  refine r_aload_n hK d_Ker_settle_52 rfl 3 rfl ?_
  refine r_null hK d_Ker_settle_53 ?_
  refine p_putR (k := 7) (f := 18) (v := none) hK d_Ker_settle_54 k_Processor fd_Ker_125_Processor (by decide) rfl rfl rfl (fun g h => ⟨h.kd hp (by decide), h.setR (nz_of (k := 2) hp) rfl⟩) ?_
  refine r_goto (tgt := 89) hK d_Ker_settle_57 (by decide) ?_
  refine r_vret hK d_Ker_settle_89 rfl ?_
  exact ⟨rfl, rfl⟩
set_option maxHeartbeats 1000000 in
theorem c_Ker_settle_queue_Revoke (X : gCx) (l : Launch) (s : sS) (x p ta o ol dd cn : Nat) (hp : gk s.1 p = 3) (hta : gk s.1 ta = 9) (hto : gr s.1 34 ta = some ol) (hol : gk s.1 ol = 14) (hcn : (sl s ol).length = cn) (hdd : gi s.1 35 ta = nI dd) (hdb : dd < 100) (hcb : cn < 100) (qu : Nat) (hpq : gr s.1 17 p = some qu) (hqu : gk s.1 qu = 4) (ho : gk s.1 o = 12) (hl : dd ≠ cn) (hq0 : 0 < (sq s qu).length) (hqb : (sq s qu).length < 100) : gMv X l (HoldP X (Abs X)) M_Ker_settle 3 1 2 [.ref x, .ref p, .ref ta, .ref o] s (sSetR (sPush s qu ta) 18 p none) := by
  refine gM_intro (by decide) (Nat.le_of_ble_eq_true rfl) (fun K hK => ?_)
  show K 0 [(0, .ref x), (1, .ref p), (2, .ref ta), (3, .ref o)] [] s 1 2
  refine r_aload_n hK d_Ker_settle_0 rfl 3 rfl ?_
  refine p_instN hK d_Ker_settle_1 cl_Ker_91 (fun U h => h.2.2.2.1.2.2) (p_recv k_Revoke (fun g h => h.kd ho (by decide))) ?_
  refine r_istore (lv' := [(4, .int (nI 0)), (0, .ref x), (1, .ref p), (2, .ref ta), (3, .ref o)]) hK d_Ker_settle_4 (by decide) rfl ?_
  refine r_iload hK d_Ker_settle_6 0 rfl ?_
  refine r_nif_eq (a := 0) (tgt := 29) hK d_Ker_settle_8 (by decide) (by decide) (fun _ => ?_) (fun z => absurd z (by decide))
  refine r_aload_n hK d_Ker_settle_29 rfl 2 rfl ?_
  refine r_astore (lv' := [(5, .ref p), (4, .int (nI 0)), (0, .ref x), (1, .ref p), (2, .ref ta), (3, .ref o)]) hK d_Ker_settle_30 (by decide) rfl ?_
  refine r_aload_n hK d_Ker_settle_32 rfl 4 rfl ?_
  refine p_getI (f := 35) (v := nI dd) hK d_Ker_settle_33 k_Task fd_Ker_133_Task (by decide) rfl rfl (fun g h => h.getI hta (by decide) rfl hdd) ?_
  refine r_aload_n hK d_Ker_settle_36 rfl 4 rfl ?_
  refine p_getR (f := 34) (v := some ol) hK d_Ker_settle_37 k_Task fd_Ker_48_Task (by decide) rfl rfl (fun g h => h.getR hta (by decide) rfl hto) ?_
  refine r_callVi (As := []) (b := ol) (st := [.int (nI dd)]) hK (cS_size (s := s) ol (hol)) d_Ker_settle_40 ml_Ker_31 cv_AL_size rfl (by decide) (p_recv k_AL (fun g h => h.kd hol (by decide))) (Nat.le_of_ble_eq_true rfl) ?_ rfl
  refine r_tp (b := nI cn) (congrArg nI hcn) ?_
  refine r_ncmp_ne (a := dd) (b := cn) (tgt := 60) hK d_Ker_settle_43 (by decide) (by omega) (by omega) (fun c43 => ?_) (fun z => False.elim (hl z))
  refine r_iload hK d_Ker_settle_60 1 rfl ?_
  refine r_nif_ne (a := 0) (tgt := 75) hK d_Ker_settle_62 (by decide) (by decide) (fun z => absurd z (by decide)) (fun _ => ?_)
  refine r_aload_n hK d_Ker_settle_65 rfl 3 rfl ?_
  refine p_getR (f := 17) (v := some qu) hK d_Ker_settle_66 k_Processor fd_Ker_55_Processor (by decide) rfl rfl (fun g h => h.getR hp (by decide) rfl hpq) ?_
  refine p_getI (f := 21) (v := nI (sq s qu).length) hK d_Ker_settle_69 k_Line fd_Ker_158_Line (by decide) rfl rfl (fun g h => h.size hqu) ?_
  refine r_nif_le (a := (sq s qu).length) (tgt := 89) hK d_Ker_settle_72 (by decide) (by omega) (fun z => False.elim (by omega)) (fun c72 => ?_)
  refine r_aload hK d_Ker_settle_75 0 rfl ?_
  refine p_getR (f := 17) (v := some qu) hK d_Ker_settle_77 k_Processor fd_Ker_55_Processor (by decide) rfl rfl (fun g h => h.getR hp (by decide) rfl hpq) ?_
  refine r_aload_n hK d_Ker_settle_80 rfl 4 rfl ?_
  refine r_callVv (As := [.ref ta]) (b := qu) (st := []) hK (cS_add (s := s) qu ta hqu) d_Ker_settle_81 ml_Ker_61 cv_Line_add rfl (by decide) (p_recv k_Line (fun g h => h.kd hqu (by decide))) (Nat.le_of_ble_eq_true rfl) ?_ rfl
  refine r_aload_n hK d_Ker_settle_84 rfl 3 rfl ?_
  refine r_null hK d_Ker_settle_85 ?_
  refine p_putR (k := 7) (f := 18) (v := none) hK d_Ker_settle_86 k_Processor fd_Ker_125_Processor (by decide) rfl rfl rfl (fun g h => ⟨h.kd hp (by decide), h.setR (nz_of (k := 2) hp) rfl⟩) ?_
  refine r_vret hK d_Ker_settle_89 rfl ?_
  exact ⟨rfl, rfl⟩
set_option maxHeartbeats 1000000 in
theorem c_Ker_settle_stay_Revoke (X : gCx) (l : Launch) (s : sS) (x p ta o ol dd cn : Nat) (hp : gk s.1 p = 3) (hta : gk s.1 ta = 9) (hto : gr s.1 34 ta = some ol) (hol : gk s.1 ol = 14) (hcn : (sl s ol).length = cn) (hdd : gi s.1 35 ta = nI dd) (hdb : dd < 100) (hcb : cn < 100) (qu : Nat) (hpq : gr s.1 17 p = some qu) (hqu : gk s.1 qu = 4) (ho : gk s.1 o = 12) (hl : dd ≠ cn) (hq0 : (sq s qu).length = 0) : gMv X l (HoldP X (Abs X)) M_Ker_settle 3 1 2 [.ref x, .ref p, .ref ta, .ref o] s s := by
  refine gM_intro (by decide) (Nat.le_of_ble_eq_true rfl) (fun K hK => ?_)
  show K 0 [(0, .ref x), (1, .ref p), (2, .ref ta), (3, .ref o)] [] s 1 2
  refine r_aload_n hK d_Ker_settle_0 rfl 3 rfl ?_
  refine p_instN hK d_Ker_settle_1 cl_Ker_91 (fun U h => h.2.2.2.1.2.2) (p_recv k_Revoke (fun g h => h.kd ho (by decide))) ?_
  refine r_istore (lv' := [(4, .int (nI 0)), (0, .ref x), (1, .ref p), (2, .ref ta), (3, .ref o)]) hK d_Ker_settle_4 (by decide) rfl ?_
  refine r_iload hK d_Ker_settle_6 0 rfl ?_
  refine r_nif_eq (a := 0) (tgt := 29) hK d_Ker_settle_8 (by decide) (by decide) (fun _ => ?_) (fun z => absurd z (by decide))
  refine r_aload_n hK d_Ker_settle_29 rfl 2 rfl ?_
  refine r_astore (lv' := [(5, .ref p), (4, .int (nI 0)), (0, .ref x), (1, .ref p), (2, .ref ta), (3, .ref o)]) hK d_Ker_settle_30 (by decide) rfl ?_
  refine r_aload_n hK d_Ker_settle_32 rfl 4 rfl ?_
  refine p_getI (f := 35) (v := nI dd) hK d_Ker_settle_33 k_Task fd_Ker_133_Task (by decide) rfl rfl (fun g h => h.getI hta (by decide) rfl hdd) ?_
  refine r_aload_n hK d_Ker_settle_36 rfl 4 rfl ?_
  refine p_getR (f := 34) (v := some ol) hK d_Ker_settle_37 k_Task fd_Ker_48_Task (by decide) rfl rfl (fun g h => h.getR hta (by decide) rfl hto) ?_
  refine r_callVi (As := []) (b := ol) (st := [.int (nI dd)]) hK (cS_size (s := s) ol (hol)) d_Ker_settle_40 ml_Ker_31 cv_AL_size rfl (by decide) (p_recv k_AL (fun g h => h.kd hol (by decide))) (Nat.le_of_ble_eq_true rfl) ?_ rfl
  refine r_tp (b := nI cn) (congrArg nI hcn) ?_
  refine r_ncmp_ne (a := dd) (b := cn) (tgt := 60) hK d_Ker_settle_43 (by decide) (by omega) (by omega) (fun c43 => ?_) (fun z => False.elim (hl z))
  refine r_iload hK d_Ker_settle_60 1 rfl ?_
  refine r_nif_ne (a := 0) (tgt := 75) hK d_Ker_settle_62 (by decide) (by decide) (fun z => absurd z (by decide)) (fun _ => ?_)
  refine r_aload_n hK d_Ker_settle_65 rfl 3 rfl ?_
  refine p_getR (f := 17) (v := some qu) hK d_Ker_settle_66 k_Processor fd_Ker_55_Processor (by decide) rfl rfl (fun g h => h.getR hp (by decide) rfl hpq) ?_
  refine p_getI (f := 21) (v := nI (sq s qu).length) hK d_Ker_settle_69 k_Line fd_Ker_158_Line (by decide) rfl rfl (fun g h => h.size hqu) ?_
  refine r_nif_le (a := (sq s qu).length) (tgt := 89) hK d_Ker_settle_72 (by decide) (by omega) (fun c72 => ?_) (fun z => False.elim (by omega))
  refine r_vret hK d_Ker_settle_89 rfl ?_
  exact ⟨rfl, rfl⟩
set_option maxHeartbeats 1000000 in
theorem c_Ker_settle_park_Move (X : gCx) (l : Launch) (s : sS) (x p ta o ol dd cn : Nat) (hp : gk s.1 p = 3) (hta : gk s.1 ta = 9) (hto : gr s.1 34 ta = some ol) (hol : gk s.1 ol = 14) (hcn : (sl s ol).length = cn) (hdd : gi s.1 35 ta = nI dd) (hdb : dd < 100) (hcb : cn < 100) (m pa to pt : Nat) (hx : gk s.1 x = 1) (hxm : gr s.1 1 x = some m) (hm : gk s.1 m = 2) (hmp : gr s.1 5 m = some pa) (hpa : gk s.1 pa = 102) (hpal : gl s.1 pa = 4) (ho : gk s.1 o = 13) (hot : gi s.1 53 o = nI to) (hto4 : to < 4) (hpt0 : gb s.1 pa to = some pt) (hl : dd = cn) : gMv X l (HoldP X (Abs X)) M_Ker_settle 3 1 2 [.ref x, .ref p, .ref ta, .ref o] s (sSetR (sSetR s 36 ta (some pt)) 18 p none) := by
  refine gM_intro (by decide) (Nat.le_of_ble_eq_true rfl) (fun K hK => ?_)
  show K 0 [(0, .ref x), (1, .ref p), (2, .ref ta), (3, .ref o)] [] s 1 2
  refine r_aload_n hK d_Ker_settle_0 rfl 3 rfl ?_
  refine p_instY hK d_Ker_settle_1 cl_Ker_91 ca_Move_Move (p_recv k_Move (fun g h => h.kd ho (by decide))) ?_
  refine r_istore (lv' := [(4, .int (nI 1)), (0, .ref x), (1, .ref p), (2, .ref ta), (3, .ref o)]) hK d_Ker_settle_4 (by decide) rfl ?_
  refine r_iload hK d_Ker_settle_6 0 rfl ?_
  refine r_nif_eq (a := 1) (tgt := 29) hK d_Ker_settle_8 (by decide) (by decide) (fun z => absurd z (by decide)) (fun _ => ?_)
  refine r_aload_n hK d_Ker_settle_11 rfl 1 rfl ?_
  refine p_getR (f := 1) (v := some m) hK d_Ker_settle_12 k_Ker fd_Ker_10_Ker (by decide) rfl rfl (fun g h => h.getR hx (by decide) rfl hxm) ?_
  refine p_getR (f := 5) (v := some pa) hK d_Ker_settle_15 k_Machine fd_Ker_23_Machine (by decide) rfl rfl (fun g h => h.getR hm (by decide) rfl hmp) ?_
  refine r_aload_n hK d_Ker_settle_18 rfl 4 rfl ?_
  refine p_cast hK d_Ker_settle_19 cl_Ker_91 ca_Move_Move (p_recv k_Move (fun g h => h.kd ho (by decide))) ?_
  refine p_getI (f := 53) (v := nI to) hK d_Ker_settle_22 k_Move fd_Ker_163_Move (by decide) rfl rfl (fun g h => h.getI ho (by decide) rfl hot) ?_
  refine p_aald (t := 2) (v := some pt) hK to 4 d_Ker_settle_25 (by decide) (by decide) rfl rfl (by omega) (fun g h => have e := h.arr (a := pa) (t := 2) (L := 4) (j := to) hpa hpal; ⟨e.1, e.2.1, e.2.2.2.trans hpt0⟩) ?_
  refine r_goto (tgt := 30) hK d_Ker_settle_26 (by decide) ?_
  refine r_astore (lv' := [(5, .ref pt), (4, .int (nI 1)), (0, .ref x), (1, .ref p), (2, .ref ta), (3, .ref o)]) hK d_Ker_settle_30 (by decide) rfl ?_
  refine r_aload_n hK d_Ker_settle_32 rfl 4 rfl ?_
  refine p_getI (f := 35) (v := nI dd) hK d_Ker_settle_33 k_Task fd_Ker_133_Task (by decide) rfl rfl (fun g h => h.getI hta (by decide) rfl hdd) ?_
  refine r_aload_n hK d_Ker_settle_36 rfl 4 rfl ?_
  refine p_getR (f := 34) (v := some ol) hK d_Ker_settle_37 k_Task fd_Ker_48_Task (by decide) rfl rfl (fun g h => h.getR hta (by decide) rfl hto) ?_
  refine r_callVi (As := []) (b := ol) (st := [.int (nI dd)]) hK (cS_size (s := s) ol (hol)) d_Ker_settle_40 ml_Ker_31 cv_AL_size rfl (by decide) (p_recv k_AL (fun g h => h.kd hol (by decide))) (Nat.le_of_ble_eq_true rfl) ?_ rfl
  refine r_tp (b := nI cn) (congrArg nI hcn) ?_
  refine r_ncmp_ne (a := dd) (b := cn) (tgt := 60) hK d_Ker_settle_43 (by decide) (by omega) (by omega) (fun z => False.elim (z hl)) (fun c43 => ?_)
  refine r_aload_n hK d_Ker_settle_46 rfl 4 rfl ?_
  refine r_aload hK d_Ker_settle_47 0 rfl ?_
  refine p_putR (k := 3) (f := 36) (v := some pt) hK d_Ker_settle_49 k_Task fd_Ker_51_Task (by decide) rfl rfl rfl (fun g h => ⟨h.kd hta (by decide), h.setR (nz_of (k := 8) hta) rfl⟩) ?_
  refine r_aload_n hK d_Ker_settle_52 rfl 3 rfl ?_
  refine r_null hK d_Ker_settle_53 ?_
  refine p_putR (k := 7) (f := 18) (v := none) hK d_Ker_settle_54 k_Processor fd_Ker_125_Processor (by decide) rfl rfl rfl (fun g h => ⟨h.kd hp (by decide), h.setR (nz_of (k := 2) hp) rfl⟩) ?_
  refine r_goto (tgt := 89) hK d_Ker_settle_57 (by decide) ?_
  refine r_vret hK d_Ker_settle_89 rfl ?_
  exact ⟨rfl, rfl⟩
set_option maxHeartbeats 1000000 in
theorem c_Ker_settle_queue_Move (X : gCx) (l : Launch) (s : sS) (x p ta o ol dd cn : Nat) (hp : gk s.1 p = 3) (hta : gk s.1 ta = 9) (hto : gr s.1 34 ta = some ol) (hol : gk s.1 ol = 14) (hcn : (sl s ol).length = cn) (hdd : gi s.1 35 ta = nI dd) (hdb : dd < 100) (hcb : cn < 100) (m pa to pt : Nat) (hx : gk s.1 x = 1) (hxm : gr s.1 1 x = some m) (hm : gk s.1 m = 2) (hmp : gr s.1 5 m = some pa) (hpa : gk s.1 pa = 102) (hpal : gl s.1 pa = 4) (ho : gk s.1 o = 13) (hot : gi s.1 53 o = nI to) (hto4 : to < 4) (hpt0 : gb s.1 pa to = some pt) (qt : Nat) (hpt : gk s.1 pt = 3) (hptq : gr s.1 17 pt = some qt) (hqt : gk s.1 qt = 4) (hl : dd ≠ cn) : gMv X l (HoldP X (Abs X)) M_Ker_settle 3 1 2 [.ref x, .ref p, .ref ta, .ref o] s (sSetR (sPush s qt ta) 18 p none) := by
  refine gM_intro (by decide) (Nat.le_of_ble_eq_true rfl) (fun K hK => ?_)
  show K 0 [(0, .ref x), (1, .ref p), (2, .ref ta), (3, .ref o)] [] s 1 2
  refine r_aload_n hK d_Ker_settle_0 rfl 3 rfl ?_
  refine p_instY hK d_Ker_settle_1 cl_Ker_91 ca_Move_Move (p_recv k_Move (fun g h => h.kd ho (by decide))) ?_
  refine r_istore (lv' := [(4, .int (nI 1)), (0, .ref x), (1, .ref p), (2, .ref ta), (3, .ref o)]) hK d_Ker_settle_4 (by decide) rfl ?_
  refine r_iload hK d_Ker_settle_6 0 rfl ?_
  refine r_nif_eq (a := 1) (tgt := 29) hK d_Ker_settle_8 (by decide) (by decide) (fun z => absurd z (by decide)) (fun _ => ?_)
  refine r_aload_n hK d_Ker_settle_11 rfl 1 rfl ?_
  refine p_getR (f := 1) (v := some m) hK d_Ker_settle_12 k_Ker fd_Ker_10_Ker (by decide) rfl rfl (fun g h => h.getR hx (by decide) rfl hxm) ?_
  refine p_getR (f := 5) (v := some pa) hK d_Ker_settle_15 k_Machine fd_Ker_23_Machine (by decide) rfl rfl (fun g h => h.getR hm (by decide) rfl hmp) ?_
  refine r_aload_n hK d_Ker_settle_18 rfl 4 rfl ?_
  refine p_cast hK d_Ker_settle_19 cl_Ker_91 ca_Move_Move (p_recv k_Move (fun g h => h.kd ho (by decide))) ?_
  refine p_getI (f := 53) (v := nI to) hK d_Ker_settle_22 k_Move fd_Ker_163_Move (by decide) rfl rfl (fun g h => h.getI ho (by decide) rfl hot) ?_
  refine p_aald (t := 2) (v := some pt) hK to 4 d_Ker_settle_25 (by decide) (by decide) rfl rfl (by omega) (fun g h => have e := h.arr (a := pa) (t := 2) (L := 4) (j := to) hpa hpal; ⟨e.1, e.2.1, e.2.2.2.trans hpt0⟩) ?_
  refine r_goto (tgt := 30) hK d_Ker_settle_26 (by decide) ?_
  refine r_astore (lv' := [(5, .ref pt), (4, .int (nI 1)), (0, .ref x), (1, .ref p), (2, .ref ta), (3, .ref o)]) hK d_Ker_settle_30 (by decide) rfl ?_
  refine r_aload_n hK d_Ker_settle_32 rfl 4 rfl ?_
  refine p_getI (f := 35) (v := nI dd) hK d_Ker_settle_33 k_Task fd_Ker_133_Task (by decide) rfl rfl (fun g h => h.getI hta (by decide) rfl hdd) ?_
  refine r_aload_n hK d_Ker_settle_36 rfl 4 rfl ?_
  refine p_getR (f := 34) (v := some ol) hK d_Ker_settle_37 k_Task fd_Ker_48_Task (by decide) rfl rfl (fun g h => h.getR hta (by decide) rfl hto) ?_
  refine r_callVi (As := []) (b := ol) (st := [.int (nI dd)]) hK (cS_size (s := s) ol (hol)) d_Ker_settle_40 ml_Ker_31 cv_AL_size rfl (by decide) (p_recv k_AL (fun g h => h.kd hol (by decide))) (Nat.le_of_ble_eq_true rfl) ?_ rfl
  refine r_tp (b := nI cn) (congrArg nI hcn) ?_
  refine r_ncmp_ne (a := dd) (b := cn) (tgt := 60) hK d_Ker_settle_43 (by decide) (by omega) (by omega) (fun c43 => ?_) (fun z => False.elim (hl z))
  refine r_iload hK d_Ker_settle_60 1 rfl ?_
  refine r_nif_ne (a := 1) (tgt := 75) hK d_Ker_settle_62 (by decide) (by decide) (fun _ => ?_) (fun z => absurd z (by decide))
  refine r_aload hK d_Ker_settle_75 0 rfl ?_
  refine p_getR (f := 17) (v := some qt) hK d_Ker_settle_77 k_Processor fd_Ker_55_Processor (by decide) rfl rfl (fun g h => h.getR hpt (by decide) rfl hptq) ?_
  refine r_aload_n hK d_Ker_settle_80 rfl 4 rfl ?_
  refine r_callVv (As := [.ref ta]) (b := qt) (st := []) hK (cS_add (s := s) qt ta hqt) d_Ker_settle_81 ml_Ker_61 cv_Line_add rfl (by decide) (p_recv k_Line (fun g h => h.kd hqt (by decide))) (Nat.le_of_ble_eq_true rfl) ?_ rfl
  refine r_aload_n hK d_Ker_settle_84 rfl 3 rfl ?_
  refine r_null hK d_Ker_settle_85 ?_
  refine p_putR (k := 7) (f := 18) (v := none) hK d_Ker_settle_86 k_Processor fd_Ker_125_Processor (by decide) rfl rfl rfl (fun g h => ⟨h.kd hp (by decide), h.setR (nz_of (k := 2) hp) rfl⟩) ?_
  refine r_vret hK d_Ker_settle_89 rfl ?_
  exact ⟨rfl, rfl⟩
set_option maxHeartbeats 1000000 in
theorem c_Ker_pick_own (X : gCx) (l : Launch) (s : sS) (x pp qu t : Nat) (vs : List Nat) (hpp : gk s.1 pp = 3) (hpq : gr s.1 17 pp = some qu) (hqu : gk s.1 qu = 4) (ht : gk s.1 t = 9) (hv : sq s qu = t :: vs) : gMi X l (HoldP X (Abs X)) M_Ker_pick 2 0 0 [.ref x, .ref pp] s (nI 2) (sSetR (sSetQ s qu vs) 18 pp (some t)) := by
  refine gM_intro (by decide) (Nat.le_of_ble_eq_true rfl) (fun K hK => ?_)
  show K 0 [(0, .ref x), (1, .ref pp)] [] s 0 0
  refine r_aload_n hK d_Ker_pick_0 rfl 1 rfl ?_
  refine r_aload_n hK d_Ker_pick_1 rfl 1 rfl ?_
  refine p_getR (f := 17) (v := some qu) hK d_Ker_pick_2 k_Processor fd_Ker_55_Processor (by decide) rfl rfl (fun g h => h.getR hpp (by decide) rfl hpq) ?_
  refine r_callVr (As := []) (b := qu) (st := [.ref pp]) hK (cS_take (s := s) qu t vs hqu hv) d_Ker_pick_5 ml_Ker_103 cv_Line_take rfl (by decide) (p_recv k_Line (fun g h => h.kd hqu (by decide))) (Nat.le_of_ble_eq_true rfl) ?_ rfl
  refine p_cast hK d_Ker_pick_8 cl_Ker_35 ca_Task_Task (p_recv k_Task (fun g h => h.kd ht (by decide))) ?_
  refine p_putR (k := 7) (f := 18) (v := some t) hK d_Ker_pick_11 k_Processor fd_Ker_125_Processor (by decide) rfl rfl rfl (fun g h => ⟨h.kd hpp (by decide), h.setR (nz_of (k := 2) hpp) rfl⟩) ?_
  refine r_aload_n hK d_Ker_pick_14 rfl 1 rfl ?_
  refine p_getR (f := 18) (v := some t) hK d_Ker_pick_15 k_Processor fd_Ker_125_Processor (by decide) rfl rfl (fun g h => h.getR hpp (by decide) rfl (by simp [sSetI, sSetR, sSetA, sSetB, sSetQ, sSetL, sSetT, sNew, sNewA, sNewL, sPush, sBump, sBegL, sPutT, sAddL_g, sAddL_q, sAddL_r, sAddL_l, sq, sl, sr, gSetI, gSetR, gSetA, gSetB, gNew, gNewA, up2, up1, gx, gk, gl, gi, gr, ga, gb])) ?_
  refine r_ifnull (v := some t) (tgt := 23) hK d_Ker_pick_18 (by decide) (fun z => absurd z (by simp)) (fun _ _ => ?_)
  refine r_iconst (v := nI 2) hK d_Ker_pick_21 (by decide) ?_
  refine r_iret hK d_Ker_pick_22 rfl (rfl) ?_
  exact ⟨rfl, rfl⟩
def s_lg (len : Nat → Nat) (p : Nat) : Nat → Nat
  | 0 => p
  | i + 1 => if len (s_lg len p i) < len i then i else s_lg len p i
theorem s_lg_lt {len : Nat → Nat} {p : Nat} (hp : p < 4) : ∀ i, i ≤ 4 → s_lg len p i < 4
  | 0, _ => hp
  | i + 1, h => by
    unfold s_lg
    split
    · omega
    · exact s_lg_lt hp i (by omega)
set_option maxHeartbeats 1000000 in
theorem c_Ker_pick_none (X : gCx) (l : Launch) (s : sS) (x m pa p : Nat) (pr qu : Nat → Nat) (hx : gk s.1 x = 1) (hxm : gr s.1 1 x = some m) (hm : gk s.1 m = 2) (hmp : gr s.1 5 m = some pa) (hpa : gk s.1 pa = 102) (hpal : gl s.1 pa = 4) (hp : p < 4) (hpa4 : ∀ i, i < 4 → gb s.1 pa i = some (pr i) ∧ gk s.1 (pr i) = 3 ∧ gr s.1 17 (pr i) = some (qu i) ∧ gk s.1 (qu i) = 4 ∧ (sq s (qu i)).length < 100) (hq0 : sq s (qu p) = []) (gg : Nat) (hgd4 : gg = s_lg (fun i => (sq s (qu i)).length) p 4) (hsz : (sq s (qu gg)).length < 2) : gMi X l (HoldP X (Abs X)) M_Ker_pick 2 0 0 [.ref x, .ref (pr p)] s (nI 0) (sSetR s 18 (pr p) none) := by
  have hg : gg < 4 := by rw [hgd4]; exact s_lg_lt hp 4 (by decide)
  refine gM_intro (by decide) (Nat.le_of_ble_eq_true rfl) (fun K hK => ?_)
  have kend : K 40 [(0, .ref x), (1, .ref (pr p)), (2, .ref (pr gg)), (3, .ref pa), (4, .int (nI 4)), (5, .int (nI 4))] [] (sSetR s 18 (pr p) none) 0 0 := by
    refine r_iload hK d_Ker_pick_40 5 rfl ?_
    refine r_iload hK d_Ker_pick_42 4 rfl ?_
    refine r_ncmp_ge (a := 4) (b := 4) (tgt := 84) hK d_Ker_pick_44 (by decide) (by decide) (by decide) (fun _ => ?_) (fun z => absurd z (by decide))
    refine r_aload_n hK d_Ker_pick_84 rfl 2 rfl ?_
    refine p_getR (f := 17) (v := some (qu gg)) hK d_Ker_pick_85 k_Processor fd_Ker_55_Processor (by decide) rfl rfl (fun g h => h.getR ((hpa4 gg hg).2.1) (by decide) rfl (by simp [sSetI, sSetR, sSetA, sSetB, sSetQ, sSetL, sSetT, sNew, sNewA, sNewL, sPush, sBump, sBegL, sPutT, sAddL_g, sAddL_q, sAddL_r, sAddL_l, sq, sl, sr, gSetI, gSetR, gSetA, gSetB, gNew, gNewA, up2, up1, gx, gk, gl, gi, gr, ga, gb, (hpa4 gg hg).2.2.1])) ?_
    refine p_getI (f := 21) (v := nI (sq s (qu gg)).length) hK d_Ker_pick_88 k_Line fd_Ker_158_Line (by decide) rfl rfl (fun g h => ⟨(h.size ((hpa4 gg hg).2.2.2.1)).1, (h.size ((hpa4 gg hg).2.2.2.1)).2.trans (by simp [sSetI, sSetR, sSetA, sSetB, sSetQ, sSetL, sSetT, sNew, sNewA, sNewL, sPush, sBump, sBegL, sPutT, sAddL_g, sAddL_q, sAddL_r, sAddL_l, sq, sl, sr, gSetI, gSetR, gSetA, gSetB, gNew, gNewA, up2, up1, gx, gk, gl, gi, gr, ga, gb])⟩) ?_
    refine r_iconst (v := nI 2) hK d_Ker_pick_91 (by decide) ?_
    refine r_ncmp_ge (a := (sq s (qu gg)).length) (b := 2) (tgt := 97) hK d_Ker_pick_92 (by decide) (by have := (hpa4 gg hg).2.2.2.2; omega) (by have := (hpa4 gg hg).2.2.2.2; omega) (fun z => False.elim (by omega)) (fun c92 => ?_)
    refine r_iconst (v := nI 0) hK d_Ker_pick_95 (by decide) ?_
    refine r_iret hK d_Ker_pick_96 rfl (rfl) ?_
    exact ⟨rfl, rfl⟩
  rw [hgd4] at kend
  have key : ∀ (k i : Nat), 4 < i + k → i ≤ 4 → K 40 [(0, .ref x), (1, .ref (pr p)), (2, .ref (pr (s_lg (fun i => (sq s (qu i)).length) p i))), (3, .ref pa), (4, .int (nI 4)), (5, .int (nI i))] [] (sSetR s 18 (pr p) none) 0 0 := by
    intro k
    induction k with
    | zero => intro i h1 h2; exact absurd h1 (by omega)
    | succ k ih =>
      intro i h1 h2
      rcases Nat.lt_or_eq_of_le h2 with hi | hi
      · have hg : s_lg (fun i => (sq s (qu i)).length) p i < 4 := s_lg_lt hp i h2
        generalize hgd : s_lg (fun i => (sq s (qu i)).length) p i = gg at hg ⊢
        refine r_iload hK d_Ker_pick_40 5 rfl ?_
        refine r_iload hK d_Ker_pick_42 4 rfl ?_
        refine r_ncmp_ge (a := i) (b := 4) (tgt := 84) hK d_Ker_pick_44 (by decide) (by have := (hpa4 i hi).2.2.2.2; have := (hpa4 gg hg).2.2.2.2; omega) (by have := (hpa4 i hi).2.2.2.2; have := (hpa4 gg hg).2.2.2.2; omega) (fun z => False.elim (by omega)) (fun c44 => ?_)
        refine r_aload_n hK d_Ker_pick_47 rfl 3 rfl ?_
        refine r_iload hK d_Ker_pick_48 5 rfl ?_
        refine p_aald (t := 2) (v := some (pr i)) hK i 4 d_Ker_pick_50 (by decide) (by decide) rfl rfl (by have := (hpa4 i hi).2.2.2.2; have := (hpa4 gg hg).2.2.2.2; omega) (fun g h => have e := h.arr (a := pa) (t := 2) (L := 4) (j := i) hpa hpal; ⟨e.1, e.2.1, e.2.2.2.trans (by simp [sSetI, sSetR, sSetA, sSetB, sSetQ, sSetL, sSetT, sNew, sNewA, sNewL, sPush, sBump, sBegL, sPutT, sAddL_g, sAddL_q, sAddL_r, sAddL_l, sq, sl, sr, gSetI, gSetR, gSetA, gSetB, gNew, gNewA, up2, up1, gx, gk, gl, gi, gr, ga, gb, (hpa4 i hi).1])⟩) ?_
        refine r_astore (lv' := [(6, .ref (pr i)), (0, .ref x), (1, .ref (pr p)), (2, .ref (pr gg)), (3, .ref pa), (4, .int (nI 4)), (5, .int (nI i))]) hK d_Ker_pick_51 (by decide) rfl ?_
        refine r_aload hK d_Ker_pick_53 0 rfl ?_
        refine p_getR (f := 17) (v := some (qu i)) hK d_Ker_pick_55 k_Processor fd_Ker_55_Processor (by decide) rfl rfl (fun g h => h.getR ((hpa4 i hi).2.1) (by decide) rfl (by simp [sSetI, sSetR, sSetA, sSetB, sSetQ, sSetL, sSetT, sNew, sNewA, sNewL, sPush, sBump, sBegL, sPutT, sAddL_g, sAddL_q, sAddL_r, sAddL_l, sq, sl, sr, gSetI, gSetR, gSetA, gSetB, gNew, gNewA, up2, up1, gx, gk, gl, gi, gr, ga, gb, (hpa4 i hi).2.2.1])) ?_
        refine p_getI (f := 21) (v := nI (sq s (qu i)).length) hK d_Ker_pick_58 k_Line fd_Ker_158_Line (by decide) rfl rfl (fun g h => ⟨(h.size ((hpa4 i hi).2.2.2.1)).1, (h.size ((hpa4 i hi).2.2.2.1)).2.trans (by simp [sSetI, sSetR, sSetA, sSetB, sSetQ, sSetL, sSetT, sNew, sNewA, sNewL, sPush, sBump, sBegL, sPutT, sAddL_g, sAddL_q, sAddL_r, sAddL_l, sq, sl, sr, gSetI, gSetR, gSetA, gSetB, gNew, gNewA, up2, up1, gx, gk, gl, gi, gr, ga, gb])⟩) ?_
        refine r_aload_n hK d_Ker_pick_61 rfl 3 rfl ?_
        refine p_getR (f := 17) (v := some (qu gg)) hK d_Ker_pick_62 k_Processor fd_Ker_55_Processor (by decide) rfl rfl (fun g h => h.getR ((hpa4 gg hg).2.1) (by decide) rfl (by simp [sSetI, sSetR, sSetA, sSetB, sSetQ, sSetL, sSetT, sNew, sNewA, sNewL, sPush, sBump, sBegL, sPutT, sAddL_g, sAddL_q, sAddL_r, sAddL_l, sq, sl, sr, gSetI, gSetR, gSetA, gSetB, gNew, gNewA, up2, up1, gx, gk, gl, gi, gr, ga, gb, (hpa4 gg hg).2.2.1])) ?_
        refine p_getI (f := 21) (v := nI (sq s (qu gg)).length) hK d_Ker_pick_65 k_Line fd_Ker_158_Line (by decide) rfl rfl (fun g h => ⟨(h.size ((hpa4 gg hg).2.2.2.1)).1, (h.size ((hpa4 gg hg).2.2.2.1)).2.trans (by simp [sSetI, sSetR, sSetA, sSetB, sSetQ, sSetL, sSetT, sNew, sNewA, sNewL, sPush, sBump, sBegL, sPutT, sAddL_g, sAddL_q, sAddL_r, sAddL_l, sq, sl, sr, gSetI, gSetR, gSetA, gSetB, gNew, gNewA, up2, up1, gx, gk, gl, gi, gr, ga, gb])⟩) ?_
        refine r_ncmp_le (a := (sq s (qu i)).length) (b := (sq s (qu gg)).length) (tgt := 76) hK d_Ker_pick_68 (by decide) (by have := (hpa4 i hi).2.2.2.2; have := (hpa4 gg hg).2.2.2.2; omega) (by have := (hpa4 i hi).2.2.2.2; have := (hpa4 gg hg).2.2.2.2; omega) (fun c68 => ?_) (fun c68 => ?_)
        · refine r_aload_n hK d_Ker_pick_76 rfl 3 rfl ?_
          refine r_astore_n (lv' := [(2, .ref (pr gg)), (6, .ref (pr i)), (0, .ref x), (1, .ref (pr p)), (3, .ref pa), (4, .int (nI 4)), (5, .int (nI i))]) hK d_Ker_pick_77 rfl (by decide) rfl ?_
          refine r_iinc (w := nI (i + 1)) (lv' := [(5, .int (nI (i + 1))), (2, .ref (pr gg)), (6, .ref (pr i)), (0, .ref x), (1, .ref (pr p)), (3, .ref pa), (4, .int (nI 4))]) hK d_Ker_pick_78 6 rfl (nI_add _ 1) (by decide) rfl ?_
          refine r_goto (tgt := 40) hK d_Ker_pick_81 (by decide) ?_
          have e1 : s_lg (fun i => (sq s (qu i)).length) p (i + 1) = gg := by show (if _ then _ else _) = _; rw [hgd]; exact if_neg (Nat.not_lt.mpr c68)
          have e2 := ih (i + 1) (by omega) (by omega)
          rw [e1] at e2
          exact r_loc hK [3, 4, 1, 5, 6, 0] rfl e2
        · refine r_aload hK d_Ker_pick_71 0 rfl ?_
          refine r_goto (tgt := 77) hK d_Ker_pick_73 (by decide) ?_
          refine r_astore_n (lv' := [(2, .ref (pr i)), (6, .ref (pr i)), (0, .ref x), (1, .ref (pr p)), (3, .ref pa), (4, .int (nI 4)), (5, .int (nI i))]) hK d_Ker_pick_77 rfl (by decide) rfl ?_
          refine r_iinc (w := nI (i + 1)) (lv' := [(5, .int (nI (i + 1))), (2, .ref (pr i)), (6, .ref (pr i)), (0, .ref x), (1, .ref (pr p)), (3, .ref pa), (4, .int (nI 4))]) hK d_Ker_pick_78 6 rfl (nI_add _ 1) (by decide) rfl ?_
          refine r_goto (tgt := 40) hK d_Ker_pick_81 (by decide) ?_
          have e1 : s_lg (fun i => (sq s (qu i)).length) p (i + 1) = i := by show (if _ then _ else _) = _; rw [hgd]; exact if_pos c68
          have e2 := ih (i + 1) (by omega) (by omega)
          rw [e1] at e2
          exact r_loc hK [3, 4, 1, 5, 6, 0] rfl e2
      · rw [hi]
        exact kend
  show K 0 [(0, .ref x), (1, .ref (pr p))] [] s 0 0
  refine r_aload_n hK d_Ker_pick_0 rfl 1 rfl ?_
  refine r_aload_n hK d_Ker_pick_1 rfl 1 rfl ?_
  refine p_getR (f := 17) (v := some (qu p)) hK d_Ker_pick_2 k_Processor fd_Ker_55_Processor (by decide) rfl rfl (fun g h => h.getR ((hpa4 p hp).2.1) (by decide) rfl ((hpa4 p hp).2.2.1)) ?_
  refine r_callVr (As := []) (b := qu p) (st := [.ref (pr p)]) hK (cS_take_nil (s := s) (qu p) (hpa4 p hp).2.2.2.1 hq0) d_Ker_pick_5 ml_Ker_103 cv_Line_take rfl (by decide) (p_recv k_Line (fun g h => h.kd ((hpa4 p hp).2.2.2.1) (by decide))) (Nat.le_of_ble_eq_true rfl) ?_ rfl
  refine p_castN hK d_Ker_pick_8 ?_
  refine p_putR (k := 7) (f := 18) (v := none) hK d_Ker_pick_11 k_Processor fd_Ker_125_Processor (by decide) rfl rfl rfl (fun g h => ⟨h.kd ((hpa4 p hp).2.1) (by decide), h.setR (nz_of (k := 2) ((hpa4 p hp).2.1)) rfl⟩) ?_
  refine r_aload_n hK d_Ker_pick_14 rfl 1 rfl ?_
  refine p_getR (f := 18) (v := none) hK d_Ker_pick_15 k_Processor fd_Ker_125_Processor (by decide) rfl rfl (fun g h => h.getR ((hpa4 p hp).2.1) (by decide) rfl (by simp [sSetI, sSetR, sSetA, sSetB, sSetQ, sSetL, sSetT, sNew, sNewA, sNewL, sPush, sBump, sBegL, sPutT, sAddL_g, sAddL_q, sAddL_r, sAddL_l, sq, sl, sr, gSetI, gSetR, gSetA, gSetB, gNew, gNewA, up2, up1, gx, gk, gl, gi, gr, ga, gb])) ?_
  refine r_ifnull (v := none) (tgt := 23) hK d_Ker_pick_18 (by decide) (fun _ => ?_) (fun _ z => absurd z (by simp))
  refine r_aload_n hK d_Ker_pick_23 rfl 1 rfl ?_
  refine r_astore_n (lv' := [(2, .ref (pr p)), (0, .ref x), (1, .ref (pr p))]) hK d_Ker_pick_24 rfl (by decide) rfl ?_
  refine r_aload_n hK d_Ker_pick_25 rfl 1 rfl ?_
  refine p_getR (f := 1) (v := some m) hK d_Ker_pick_26 k_Ker fd_Ker_10_Ker (by decide) rfl rfl (fun g h => h.getR hx (by decide) rfl (by simp [sSetI, sSetR, sSetA, sSetB, sSetQ, sSetL, sSetT, sNew, sNewA, sNewL, sPush, sBump, sBegL, sPutT, sAddL_g, sAddL_q, sAddL_r, sAddL_l, sq, sl, sr, gSetI, gSetR, gSetA, gSetB, gNew, gNewA, up2, up1, gx, gk, gl, gi, gr, ga, gb, hxm])) ?_
  refine p_getR (f := 5) (v := some pa) hK d_Ker_pick_29 k_Machine fd_Ker_23_Machine (by decide) rfl rfl (fun g h => h.getR hm (by decide) rfl (by simp [sSetI, sSetR, sSetA, sSetB, sSetQ, sSetL, sSetT, sNew, sNewA, sNewL, sPush, sBump, sBegL, sPutT, sAddL_g, sAddL_q, sAddL_r, sAddL_l, sq, sl, sr, gSetI, gSetR, gSetA, gSetB, gNew, gNewA, up2, up1, gx, gk, gl, gi, gr, ga, gb, hmp])) ?_
  refine r_astore_n (lv' := [(3, .ref pa), (2, .ref (pr p)), (0, .ref x), (1, .ref (pr p))]) hK d_Ker_pick_32 rfl (by decide) rfl ?_
  refine r_aload_n hK d_Ker_pick_33 rfl 0 rfl ?_
  refine p_alen (t := 2) hK d_Ker_pick_34 (by decide) (fun g h => have e := h.arr (a := pa) (t := 2) (L := 4) (j := 0) hpa hpal; ⟨e.1, e.2.1⟩) ?_
  refine r_istore (lv' := [(4, .int (nI 4)), (3, .ref pa), (2, .ref (pr p)), (0, .ref x), (1, .ref (pr p))]) hK d_Ker_pick_35 (by decide) rfl ?_
  refine r_iconst (v := nI 0) hK d_Ker_pick_37 (by decide) ?_
  refine r_istore (lv' := [(5, .int (nI 0)), (4, .int (nI 4)), (3, .ref pa), (2, .ref (pr p)), (0, .ref x), (1, .ref (pr p))]) hK d_Ker_pick_38 (by decide) rfl ?_
  exact r_loc hK [4, 5, 3, 2, 1, 0] rfl (key 5 0 (by omega) (by omega))
set_option maxHeartbeats 1000000 in
theorem c_Ker_pick_steal (X : gCx) (l : Launch) (s : sS) (x m pa p : Nat) (pr qu : Nat → Nat) (hx : gk s.1 x = 1) (hxm : gr s.1 1 x = some m) (hm : gk s.1 m = 2) (hmp : gr s.1 5 m = some pa) (hpa : gk s.1 pa = 102) (hpal : gl s.1 pa = 4) (hp : p < 4) (hpa4 : ∀ i, i < 4 → gb s.1 pa i = some (pr i) ∧ gk s.1 (pr i) = 3 ∧ gr s.1 17 (pr i) = some (qu i) ∧ gk s.1 (qu i) = 4 ∧ (sq s (qu i)).length < 100) (hq0 : sq s (qu p) = []) (gg : Nat) (hgd4 : gg = s_lg (fun i => (sq s (qu i)).length) p 4) (k t : Nat) (vs : List Nat) (ht : gk s.1 t = 9) (hlast : sq s (qu gg) = vs ++ [t]) (hk : vs.length = k + 1) (hkb : k < 100) : gMi X l (HoldP X (Abs X)) M_Ker_pick 2 0 0 [.ref x, .ref (pr p)] s (nI 3) (sSetR (sSetQ (sSetR s 18 (pr p) none) (qu gg) vs) 18 (pr p) (some t)) := by
  have hg : gg < 4 := by rw [hgd4]; exact s_lg_lt hp 4 (by decide)
  have hsz : 2 ≤ (sq s (qu gg)).length := by rw [hlast]; simp; omega
  refine gM_intro (by decide) (Nat.le_of_ble_eq_true rfl) (fun K hK => ?_)
  have kend : K 40 [(0, .ref x), (1, .ref (pr p)), (2, .ref (pr gg)), (3, .ref pa), (4, .int (nI 4)), (5, .int (nI 4))] [] (sSetR s 18 (pr p) none) 0 0 := by
    refine r_iload hK d_Ker_pick_40 5 rfl ?_
    refine r_iload hK d_Ker_pick_42 4 rfl ?_
    refine r_ncmp_ge (a := 4) (b := 4) (tgt := 84) hK d_Ker_pick_44 (by decide) (by decide) (by decide) (fun _ => ?_) (fun z => absurd z (by decide))
    refine r_aload_n hK d_Ker_pick_84 rfl 2 rfl ?_
    refine p_getR (f := 17) (v := some (qu gg)) hK d_Ker_pick_85 k_Processor fd_Ker_55_Processor (by decide) rfl rfl (fun g h => h.getR ((hpa4 gg hg).2.1) (by decide) rfl (by simp [sSetI, sSetR, sSetA, sSetB, sSetQ, sSetL, sSetT, sNew, sNewA, sNewL, sPush, sBump, sBegL, sPutT, sAddL_g, sAddL_q, sAddL_r, sAddL_l, sq, sl, sr, gSetI, gSetR, gSetA, gSetB, gNew, gNewA, up2, up1, gx, gk, gl, gi, gr, ga, gb, (hpa4 gg hg).2.2.1])) ?_
    refine p_getI (f := 21) (v := nI (sq s (qu gg)).length) hK d_Ker_pick_88 k_Line fd_Ker_158_Line (by decide) rfl rfl (fun g h => ⟨(h.size ((hpa4 gg hg).2.2.2.1)).1, (h.size ((hpa4 gg hg).2.2.2.1)).2.trans (by simp [sSetI, sSetR, sSetA, sSetB, sSetQ, sSetL, sSetT, sNew, sNewA, sNewL, sPush, sBump, sBegL, sPutT, sAddL_g, sAddL_q, sAddL_r, sAddL_l, sq, sl, sr, gSetI, gSetR, gSetA, gSetB, gNew, gNewA, up2, up1, gx, gk, gl, gi, gr, ga, gb])⟩) ?_
    refine r_iconst (v := nI 2) hK d_Ker_pick_91 (by decide) ?_
    refine r_ncmp_ge (a := (sq s (qu gg)).length) (b := 2) (tgt := 97) hK d_Ker_pick_92 (by decide) (by have := (hpa4 gg hg).2.2.2.2; omega) (by have := (hpa4 gg hg).2.2.2.2; omega) (fun c92 => ?_) (fun z => False.elim (by omega))
    refine r_aload_n hK d_Ker_pick_97 rfl 1 rfl ?_
    refine r_aload_n hK d_Ker_pick_98 rfl 2 rfl ?_
    refine p_getR (f := 17) (v := some (qu gg)) hK d_Ker_pick_99 k_Processor fd_Ker_55_Processor (by decide) rfl rfl (fun g h => h.getR ((hpa4 gg hg).2.1) (by decide) rfl (by simp [sSetI, sSetR, sSetA, sSetB, sSetQ, sSetL, sSetT, sNew, sNewA, sNewL, sPush, sBump, sBegL, sPutT, sAddL_g, sAddL_q, sAddL_r, sAddL_l, sq, sl, sr, gSetI, gSetR, gSetA, gSetB, gNew, gNewA, up2, up1, gx, gk, gl, gi, gr, ga, gb, (hpa4 gg hg).2.2.1])) ?_
    have hsq : sq (sSetR s 18 (pr p) none) (qu gg) = vs ++ [t] := hlast
    refine r_callVr (As := []) (b := qu gg) (st := [.ref (pr p)]) hK (cS_takeLast (s := sSetR s 18 (pr p) none) (qu gg) t k vs (hpa4 gg hg).2.2.2.1 hsq hk (by omega)) d_Ker_pick_102 ml_Ker_160 cv_Line_takeLast rfl (by decide) (p_recv k_Line (fun g0 h => h.kd (hpa4 gg hg).2.2.2.1 (by decide))) (Nat.le_of_ble_eq_true rfl) ?_ rfl
    refine p_cast hK d_Ker_pick_105 cl_Ker_35 ca_Task_Task (p_recv k_Task (fun g h => h.kd ht (by decide))) ?_
    refine p_putR (k := 7) (f := 18) (v := some t) hK d_Ker_pick_108 k_Processor fd_Ker_125_Processor (by decide) rfl rfl rfl (fun g h => ⟨h.kd ((hpa4 p hp).2.1) (by decide), h.setR (nz_of (k := 2) ((hpa4 p hp).2.1)) rfl⟩) ?_
    refine r_iconst (v := nI 3) hK d_Ker_pick_111 (by decide) ?_
    refine r_iret hK d_Ker_pick_112 rfl (rfl) ?_
    exact ⟨rfl, rfl⟩
  rw [hgd4] at kend
  have key : ∀ (k i : Nat), 4 < i + k → i ≤ 4 → K 40 [(0, .ref x), (1, .ref (pr p)), (2, .ref (pr (s_lg (fun i => (sq s (qu i)).length) p i))), (3, .ref pa), (4, .int (nI 4)), (5, .int (nI i))] [] (sSetR s 18 (pr p) none) 0 0 := by
    intro k
    induction k with
    | zero => intro i h1 h2; exact absurd h1 (by omega)
    | succ k ih =>
      intro i h1 h2
      rcases Nat.lt_or_eq_of_le h2 with hi | hi
      · have hg : s_lg (fun i => (sq s (qu i)).length) p i < 4 := s_lg_lt hp i h2
        generalize hgd : s_lg (fun i => (sq s (qu i)).length) p i = gg at hg ⊢
        refine r_iload hK d_Ker_pick_40 5 rfl ?_
        refine r_iload hK d_Ker_pick_42 4 rfl ?_
        refine r_ncmp_ge (a := i) (b := 4) (tgt := 84) hK d_Ker_pick_44 (by decide) (by have := (hpa4 i hi).2.2.2.2; have := (hpa4 gg hg).2.2.2.2; omega) (by have := (hpa4 i hi).2.2.2.2; have := (hpa4 gg hg).2.2.2.2; omega) (fun z => False.elim (by omega)) (fun c44 => ?_)
        refine r_aload_n hK d_Ker_pick_47 rfl 3 rfl ?_
        refine r_iload hK d_Ker_pick_48 5 rfl ?_
        refine p_aald (t := 2) (v := some (pr i)) hK i 4 d_Ker_pick_50 (by decide) (by decide) rfl rfl (by have := (hpa4 i hi).2.2.2.2; have := (hpa4 gg hg).2.2.2.2; omega) (fun g h => have e := h.arr (a := pa) (t := 2) (L := 4) (j := i) hpa hpal; ⟨e.1, e.2.1, e.2.2.2.trans (by simp [sSetI, sSetR, sSetA, sSetB, sSetQ, sSetL, sSetT, sNew, sNewA, sNewL, sPush, sBump, sBegL, sPutT, sAddL_g, sAddL_q, sAddL_r, sAddL_l, sq, sl, sr, gSetI, gSetR, gSetA, gSetB, gNew, gNewA, up2, up1, gx, gk, gl, gi, gr, ga, gb, (hpa4 i hi).1])⟩) ?_
        refine r_astore (lv' := [(6, .ref (pr i)), (0, .ref x), (1, .ref (pr p)), (2, .ref (pr gg)), (3, .ref pa), (4, .int (nI 4)), (5, .int (nI i))]) hK d_Ker_pick_51 (by decide) rfl ?_
        refine r_aload hK d_Ker_pick_53 0 rfl ?_
        refine p_getR (f := 17) (v := some (qu i)) hK d_Ker_pick_55 k_Processor fd_Ker_55_Processor (by decide) rfl rfl (fun g h => h.getR ((hpa4 i hi).2.1) (by decide) rfl (by simp [sSetI, sSetR, sSetA, sSetB, sSetQ, sSetL, sSetT, sNew, sNewA, sNewL, sPush, sBump, sBegL, sPutT, sAddL_g, sAddL_q, sAddL_r, sAddL_l, sq, sl, sr, gSetI, gSetR, gSetA, gSetB, gNew, gNewA, up2, up1, gx, gk, gl, gi, gr, ga, gb, (hpa4 i hi).2.2.1])) ?_
        refine p_getI (f := 21) (v := nI (sq s (qu i)).length) hK d_Ker_pick_58 k_Line fd_Ker_158_Line (by decide) rfl rfl (fun g h => ⟨(h.size ((hpa4 i hi).2.2.2.1)).1, (h.size ((hpa4 i hi).2.2.2.1)).2.trans (by simp [sSetI, sSetR, sSetA, sSetB, sSetQ, sSetL, sSetT, sNew, sNewA, sNewL, sPush, sBump, sBegL, sPutT, sAddL_g, sAddL_q, sAddL_r, sAddL_l, sq, sl, sr, gSetI, gSetR, gSetA, gSetB, gNew, gNewA, up2, up1, gx, gk, gl, gi, gr, ga, gb])⟩) ?_
        refine r_aload_n hK d_Ker_pick_61 rfl 3 rfl ?_
        refine p_getR (f := 17) (v := some (qu gg)) hK d_Ker_pick_62 k_Processor fd_Ker_55_Processor (by decide) rfl rfl (fun g h => h.getR ((hpa4 gg hg).2.1) (by decide) rfl (by simp [sSetI, sSetR, sSetA, sSetB, sSetQ, sSetL, sSetT, sNew, sNewA, sNewL, sPush, sBump, sBegL, sPutT, sAddL_g, sAddL_q, sAddL_r, sAddL_l, sq, sl, sr, gSetI, gSetR, gSetA, gSetB, gNew, gNewA, up2, up1, gx, gk, gl, gi, gr, ga, gb, (hpa4 gg hg).2.2.1])) ?_
        refine p_getI (f := 21) (v := nI (sq s (qu gg)).length) hK d_Ker_pick_65 k_Line fd_Ker_158_Line (by decide) rfl rfl (fun g h => ⟨(h.size ((hpa4 gg hg).2.2.2.1)).1, (h.size ((hpa4 gg hg).2.2.2.1)).2.trans (by simp [sSetI, sSetR, sSetA, sSetB, sSetQ, sSetL, sSetT, sNew, sNewA, sNewL, sPush, sBump, sBegL, sPutT, sAddL_g, sAddL_q, sAddL_r, sAddL_l, sq, sl, sr, gSetI, gSetR, gSetA, gSetB, gNew, gNewA, up2, up1, gx, gk, gl, gi, gr, ga, gb])⟩) ?_
        refine r_ncmp_le (a := (sq s (qu i)).length) (b := (sq s (qu gg)).length) (tgt := 76) hK d_Ker_pick_68 (by decide) (by have := (hpa4 i hi).2.2.2.2; have := (hpa4 gg hg).2.2.2.2; omega) (by have := (hpa4 i hi).2.2.2.2; have := (hpa4 gg hg).2.2.2.2; omega) (fun c68 => ?_) (fun c68 => ?_)
        · refine r_aload_n hK d_Ker_pick_76 rfl 3 rfl ?_
          refine r_astore_n (lv' := [(2, .ref (pr gg)), (6, .ref (pr i)), (0, .ref x), (1, .ref (pr p)), (3, .ref pa), (4, .int (nI 4)), (5, .int (nI i))]) hK d_Ker_pick_77 rfl (by decide) rfl ?_
          refine r_iinc (w := nI (i + 1)) (lv' := [(5, .int (nI (i + 1))), (2, .ref (pr gg)), (6, .ref (pr i)), (0, .ref x), (1, .ref (pr p)), (3, .ref pa), (4, .int (nI 4))]) hK d_Ker_pick_78 6 rfl (nI_add _ 1) (by decide) rfl ?_
          refine r_goto (tgt := 40) hK d_Ker_pick_81 (by decide) ?_
          have e1 : s_lg (fun i => (sq s (qu i)).length) p (i + 1) = gg := by show (if _ then _ else _) = _; rw [hgd]; exact if_neg (Nat.not_lt.mpr c68)
          have e2 := ih (i + 1) (by omega) (by omega)
          rw [e1] at e2
          exact r_loc hK [3, 4, 1, 5, 6, 0] rfl e2
        · refine r_aload hK d_Ker_pick_71 0 rfl ?_
          refine r_goto (tgt := 77) hK d_Ker_pick_73 (by decide) ?_
          refine r_astore_n (lv' := [(2, .ref (pr i)), (6, .ref (pr i)), (0, .ref x), (1, .ref (pr p)), (3, .ref pa), (4, .int (nI 4)), (5, .int (nI i))]) hK d_Ker_pick_77 rfl (by decide) rfl ?_
          refine r_iinc (w := nI (i + 1)) (lv' := [(5, .int (nI (i + 1))), (2, .ref (pr i)), (6, .ref (pr i)), (0, .ref x), (1, .ref (pr p)), (3, .ref pa), (4, .int (nI 4))]) hK d_Ker_pick_78 6 rfl (nI_add _ 1) (by decide) rfl ?_
          refine r_goto (tgt := 40) hK d_Ker_pick_81 (by decide) ?_
          have e1 : s_lg (fun i => (sq s (qu i)).length) p (i + 1) = i := by show (if _ then _ else _) = _; rw [hgd]; exact if_pos c68
          have e2 := ih (i + 1) (by omega) (by omega)
          rw [e1] at e2
          exact r_loc hK [3, 4, 1, 5, 6, 0] rfl e2
      · rw [hi]
        exact kend
  show K 0 [(0, .ref x), (1, .ref (pr p))] [] s 0 0
  refine r_aload_n hK d_Ker_pick_0 rfl 1 rfl ?_
  refine r_aload_n hK d_Ker_pick_1 rfl 1 rfl ?_
  refine p_getR (f := 17) (v := some (qu p)) hK d_Ker_pick_2 k_Processor fd_Ker_55_Processor (by decide) rfl rfl (fun g h => h.getR ((hpa4 p hp).2.1) (by decide) rfl ((hpa4 p hp).2.2.1)) ?_
  refine r_callVr (As := []) (b := qu p) (st := [.ref (pr p)]) hK (cS_take_nil (s := s) (qu p) (hpa4 p hp).2.2.2.1 hq0) d_Ker_pick_5 ml_Ker_103 cv_Line_take rfl (by decide) (p_recv k_Line (fun g h => h.kd ((hpa4 p hp).2.2.2.1) (by decide))) (Nat.le_of_ble_eq_true rfl) ?_ rfl
  refine p_castN hK d_Ker_pick_8 ?_
  refine p_putR (k := 7) (f := 18) (v := none) hK d_Ker_pick_11 k_Processor fd_Ker_125_Processor (by decide) rfl rfl rfl (fun g h => ⟨h.kd ((hpa4 p hp).2.1) (by decide), h.setR (nz_of (k := 2) ((hpa4 p hp).2.1)) rfl⟩) ?_
  refine r_aload_n hK d_Ker_pick_14 rfl 1 rfl ?_
  refine p_getR (f := 18) (v := none) hK d_Ker_pick_15 k_Processor fd_Ker_125_Processor (by decide) rfl rfl (fun g h => h.getR ((hpa4 p hp).2.1) (by decide) rfl (by simp [sSetI, sSetR, sSetA, sSetB, sSetQ, sSetL, sSetT, sNew, sNewA, sNewL, sPush, sBump, sBegL, sPutT, sAddL_g, sAddL_q, sAddL_r, sAddL_l, sq, sl, sr, gSetI, gSetR, gSetA, gSetB, gNew, gNewA, up2, up1, gx, gk, gl, gi, gr, ga, gb])) ?_
  refine r_ifnull (v := none) (tgt := 23) hK d_Ker_pick_18 (by decide) (fun _ => ?_) (fun _ z => absurd z (by simp))
  refine r_aload_n hK d_Ker_pick_23 rfl 1 rfl ?_
  refine r_astore_n (lv' := [(2, .ref (pr p)), (0, .ref x), (1, .ref (pr p))]) hK d_Ker_pick_24 rfl (by decide) rfl ?_
  refine r_aload_n hK d_Ker_pick_25 rfl 1 rfl ?_
  refine p_getR (f := 1) (v := some m) hK d_Ker_pick_26 k_Ker fd_Ker_10_Ker (by decide) rfl rfl (fun g h => h.getR hx (by decide) rfl (by simp [sSetI, sSetR, sSetA, sSetB, sSetQ, sSetL, sSetT, sNew, sNewA, sNewL, sPush, sBump, sBegL, sPutT, sAddL_g, sAddL_q, sAddL_r, sAddL_l, sq, sl, sr, gSetI, gSetR, gSetA, gSetB, gNew, gNewA, up2, up1, gx, gk, gl, gi, gr, ga, gb, hxm])) ?_
  refine p_getR (f := 5) (v := some pa) hK d_Ker_pick_29 k_Machine fd_Ker_23_Machine (by decide) rfl rfl (fun g h => h.getR hm (by decide) rfl (by simp [sSetI, sSetR, sSetA, sSetB, sSetQ, sSetL, sSetT, sNew, sNewA, sNewL, sPush, sBump, sBegL, sPutT, sAddL_g, sAddL_q, sAddL_r, sAddL_l, sq, sl, sr, gSetI, gSetR, gSetA, gSetB, gNew, gNewA, up2, up1, gx, gk, gl, gi, gr, ga, gb, hmp])) ?_
  refine r_astore_n (lv' := [(3, .ref pa), (2, .ref (pr p)), (0, .ref x), (1, .ref (pr p))]) hK d_Ker_pick_32 rfl (by decide) rfl ?_
  refine r_aload_n hK d_Ker_pick_33 rfl 0 rfl ?_
  refine p_alen (t := 2) hK d_Ker_pick_34 (by decide) (fun g h => have e := h.arr (a := pa) (t := 2) (L := 4) (j := 0) hpa hpal; ⟨e.1, e.2.1⟩) ?_
  refine r_istore (lv' := [(4, .int (nI 4)), (3, .ref pa), (2, .ref (pr p)), (0, .ref x), (1, .ref (pr p))]) hK d_Ker_pick_35 (by decide) rfl ?_
  refine r_iconst (v := nI 0) hK d_Ker_pick_37 (by decide) ?_
  refine r_istore (lv' := [(5, .int (nI 0)), (4, .int (nI 4)), (3, .ref pa), (2, .ref (pr p)), (0, .ref x), (1, .ref (pr p))]) hK d_Ker_pick_38 (by decide) rfl ?_
  exact r_loc hK [4, 5, 3, 2, 1, 0] rfl (key 5 0 (by omega) (by omega))
