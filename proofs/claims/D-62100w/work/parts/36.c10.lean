set_option maxHeartbeats 1000000 in
theorem c_Ker_processor_bad (X : gCx) (l : Launch) (s : sS) (x : Nat) (pv : Int32) (hb : pv < 0 ∨ ¬ pv < nI 4) : gMr X l (HoldP X (Abs X)) M_Ker_processor 0 0 0 [.ref x, .int pv] s none s := by
  refine gM_intro (by decide) (Nat.le_of_ble_eq_true rfl) (fun K hK => ?_)
  show K 0 [(0, .ref x), (1, .int pv)] [] s 0 0
  refine r_iload_n hK d_Ker_processor_0 rfl 1 rfl ?_
  refine r_if_lt (tgt := 9) hK d_Ker_processor_1 (by decide) (fun c1 => ?_) (fun c1 => ?_)
  · refine r_null hK d_Ker_processor_9 ?_
    refine r_goto (tgt := 22) hK d_Ker_processor_10 (by decide) ?_
    refine r_aret (v := none) hK d_Ker_processor_22 rfl (Or.inl ⟨_, rfl⟩) ?_
    exact ⟨rfl, rfl⟩
  · refine r_iload_n hK d_Ker_processor_4 rfl 1 rfl ?_
    refine r_iconst (v := nI 4) hK d_Ker_processor_5 (by decide) ?_
    refine r_icmp_lt (tgt := 13) hK d_Ker_processor_6 (by decide) (fun z => False.elim (by rcases hb with hb | hb; exact c1 hb; exact hb z)) (fun c6 => ?_)
    refine r_null hK d_Ker_processor_9 ?_
    refine r_goto (tgt := 22) hK d_Ker_processor_10 (by decide) ?_
    refine r_aret (v := none) hK d_Ker_processor_22 rfl (Or.inl ⟨_, rfl⟩) ?_
    exact ⟨rfl, rfl⟩
set_option maxHeartbeats 1000000 in
theorem c_Ker_processor (X : gCx) (l : Launch) (s : sS) (x m pa p pp : Nat) (hx : gk s.1 x = 1) (hxm : gr s.1 1 x = some m) (hm : gk s.1 m = 2) (hmp : gr s.1 5 m = some pa) (hpa : gk s.1 pa = 102) (hpal : gl s.1 pa = 4) (hp : p < 4) (hpp : gb s.1 pa p = some pp) : gMr X l (HoldP X (Abs X)) M_Ker_processor 0 0 0 [.ref x, .int (nI p)] s (some pp) s := by
  refine gM_intro (by decide) (Nat.le_of_ble_eq_true rfl) (fun K hK => ?_)
  show K 0 [(0, .ref x), (1, .int (nI p))] [] s 0 0
  refine r_iload_n hK d_Ker_processor_0 rfl 1 rfl ?_
  refine r_nif_lt (a := p) (tgt := 9) hK d_Ker_processor_1 (by decide) (by omega) ?_
  refine r_iload_n hK d_Ker_processor_4 rfl 1 rfl ?_
  refine r_iconst (v := nI 4) hK d_Ker_processor_5 (by decide) ?_
  refine r_ncmp_lt (a := p) (b := 4) (tgt := 13) hK d_Ker_processor_6 (by decide) (by omega) (by omega) (fun c6 => ?_) (fun z => False.elim (by omega))
  refine r_aload_n hK d_Ker_processor_13 rfl 0 rfl ?_
  refine p_getR (f := 1) (v := some m) hK d_Ker_processor_14 k_Ker fd_Ker_10_Ker (by decide) rfl rfl (fun g h => h.getR hx (by decide) rfl hxm) ?_
  refine p_getR (f := 5) (v := some pa) hK d_Ker_processor_17 k_Machine fd_Ker_23_Machine (by decide) rfl rfl (fun g h => h.getR hm (by decide) rfl hmp) ?_
  refine r_iload_n hK d_Ker_processor_20 rfl 1 rfl ?_
  refine p_aald (t := 2) (v := some pp) hK p 4 d_Ker_processor_21 (by decide) (by decide) rfl rfl (by omega) (fun g h => have e := h.arr (a := pa) (t := 2) (L := 4) (j := p) hpa hpal; ⟨e.1, e.2.1, e.2.2.2.trans hpp⟩) ?_
  refine r_aret (v := some pp) hK d_Ker_processor_22 rfl (Or.inl ⟨_, rfl⟩) ?_
  exact ⟨rfl, rfl⟩
set_option maxHeartbeats 1000000 in
theorem c_Ker_noRange (X : gCx) (l : Launch) (s : sS) (p n : Int32) : gMi X l (HoldP X (Abs X)) M_Ker_noRange 0 0 0 [.int p, .int n] s (s_Mod_noRange p n) s := by
  refine gM_intro (by decide) (Nat.le_of_ble_eq_true rfl) (fun K hK => ?_)
  show K 0 [(0, .int p), (1, .int n)] [] s 0 0
  refine r_iload_n hK d_Ker_noRange_0 rfl 1 rfl ?_
  refine r_iconst (v := nI 1) hK d_Ker_noRange_1 (by decide) ?_
  refine r_icmp_lt (tgt := 22) hK d_Ker_noRange_2 (by decide) (fun c2 => ?_) (fun c2 => ?_)
  · refine r_iconst (v := nI 1) hK d_Ker_noRange_22 (by decide) ?_
    refine r_goto (tgt := 27) hK d_Ker_noRange_23 (by decide) ?_
    refine r_iret hK d_Ker_noRange_27 rfl (rfl) ?_
    have hs : s_Mod_noRange p n = nI 1 := by unfold s_Mod_noRange; rw [if_pos c2]
    exact ⟨by rw [hs], rfl⟩
  · refine r_iload_n hK d_Ker_noRange_5 rfl 1 rfl ?_
    refine r_iconst (v := nI 4) hK d_Ker_noRange_6 (by decide) ?_
    refine r_icmp_gt (tgt := 22) hK d_Ker_noRange_7 (by decide) (fun c7 => ?_) (fun c7 => ?_)
    · refine r_iconst (v := nI 1) hK d_Ker_noRange_22 (by decide) ?_
      refine r_goto (tgt := 27) hK d_Ker_noRange_23 (by decide) ?_
      refine r_iret hK d_Ker_noRange_27 rfl (rfl) ?_
      have hs : s_Mod_noRange p n = nI 1 := by unfold s_Mod_noRange; rw [if_neg c2, if_pos c7]
      exact ⟨by rw [hs], rfl⟩
    · refine r_iload_n hK d_Ker_noRange_10 rfl 0 rfl ?_
      refine r_if_lt (tgt := 22) hK d_Ker_noRange_11 (by decide) (fun c11 => ?_) (fun c11 => ?_)
      · refine r_iconst (v := nI 1) hK d_Ker_noRange_22 (by decide) ?_
        refine r_goto (tgt := 27) hK d_Ker_noRange_23 (by decide) ?_
        refine r_iret hK d_Ker_noRange_27 rfl (rfl) ?_
        have hs : s_Mod_noRange p n = nI 1 := by unfold s_Mod_noRange; rw [if_neg c2, if_neg c7, if_pos c11]
        exact ⟨by rw [hs], rfl⟩
      · refine r_iload_n hK d_Ker_noRange_14 rfl 0 rfl ?_
        refine r_bipush (v := nI 16) hK d_Ker_noRange_15 (by decide) ?_
        refine r_iload_n hK d_Ker_noRange_17 rfl 1 rfl ?_
        refine r_isub hK d_Ker_noRange_18 ?_
        refine r_icmp_le (tgt := 26) hK d_Ker_noRange_19 (by decide) (fun c19 => ?_) (fun c19 => ?_)
        · refine r_iconst (v := nI 0) hK d_Ker_noRange_26 (by decide) ?_
          refine r_iret hK d_Ker_noRange_27 rfl (rfl) ?_
          have hs : s_Mod_noRange p n = nI 0 := by unfold s_Mod_noRange; rw [if_neg c2, if_neg c7, if_neg c11, if_pos c19]
          exact ⟨by rw [hs], rfl⟩
        · refine r_iconst (v := nI 1) hK d_Ker_noRange_22 (by decide) ?_
          refine r_goto (tgt := 27) hK d_Ker_noRange_23 (by decide) ?_
          refine r_iret hK d_Ker_noRange_27 rfl (rfl) ?_
          have hs : s_Mod_noRange p n = nI 1 := by unfold s_Mod_noRange; rw [if_neg c2, if_neg c7, if_neg c11, if_neg c19]
          exact ⟨by rw [hs], rfl⟩
set_option maxHeartbeats 1000000 in
theorem c_Ker_full_neg (X : gCx) (l : Launch) (s : sS) (x : Nat) (thr : Int32) (hb : thr < 0) : gMi X l (HoldP X (Abs X)) M_Ker_full 3 0 0 [.ref x, .int thr] s (nI 1) s := by
  refine gM_intro (by decide) (Nat.le_of_ble_eq_true rfl) (fun K hK => ?_)
  show K 0 [(0, .ref x), (1, .int thr)] [] s 0 0
  refine r_iload_n hK d_Ker_full_0 rfl 1 rfl ?_
  refine r_if_lt (tgt := 37) hK d_Ker_full_1 (by decide) (fun c1 => ?_) (fun z => False.elim (z hb))
  refine r_iconst (v := nI 1) hK d_Ker_full_37 (by decide) ?_
  refine r_goto (tgt := 42) hK d_Ker_full_38 (by decide) ?_
  refine r_iret hK d_Ker_full_42 rfl (rfl) ?_
  exact ⟨rfl, rfl⟩
set_option maxHeartbeats 1000000 in
theorem c_Ker_full_ge (X : gCx) (l : Launch) (s : sS) (x tl n : Nat) (thr : Int32) (hx : gk s.1 x = 1) (hxt : gr s.1 2 x = some tl) (htl : gk s.1 tl = 14) (hn : (sl s tl).length = n) (ha : ¬ thr < 0) (hb : nI n ≤ thr) : gMi X l (HoldP X (Abs X)) M_Ker_full 3 0 0 [.ref x, .int thr] s (nI 1) s := by
  refine gM_intro (by decide) (Nat.le_of_ble_eq_true rfl) (fun K hK => ?_)
  show K 0 [(0, .ref x), (1, .int thr)] [] s 0 0
  refine r_iload_n hK d_Ker_full_0 rfl 1 rfl ?_
  refine r_if_lt (tgt := 37) hK d_Ker_full_1 (by decide) (fun z => False.elim (ha z)) (fun c1 => ?_)
  refine r_iload_n hK d_Ker_full_4 rfl 1 rfl ?_
  refine r_aload_n hK d_Ker_full_5 rfl 0 rfl ?_
  refine p_getR (f := 2) (v := some tl) hK d_Ker_full_6 k_Ker fd_Ker_19_Ker (by decide) rfl rfl (fun g h => h.getR hx (by decide) rfl hxt) ?_
  refine r_callVi (As := []) (b := tl) (st := [.int thr]) hK (cS_size (s := s) tl (htl)) d_Ker_full_9 ml_Ker_31 cv_AL_size rfl (by decide) (p_recv k_AL (fun g h => h.kd htl (by decide))) (Nat.le_of_ble_eq_true rfl) ?_ rfl
  refine r_tp (b := nI n) (congrArg nI hn) ?_
  refine r_icmp_ge (tgt := 37) hK d_Ker_full_12 (by decide) (fun c12 => ?_) (fun z => False.elim (z hb))
  refine r_iconst (v := nI 1) hK d_Ker_full_37 (by decide) ?_
  refine r_goto (tgt := 42) hK d_Ker_full_38 (by decide) ?_
  refine r_iret hK d_Ker_full_42 rfl (rfl) ?_
  exact ⟨rfl, rfl⟩
set_option maxHeartbeats 1000000 in
theorem c_Ker_full_full (X : gCx) (l : Launch) (s : sS) (x tl n t ta ol cn : Nat) (hx : gk s.1 x = 1) (hxt : gr s.1 2 x = some tl) (htl : gk s.1 tl = 14) (hn : (sl s tl).length = n) (hn8 : n ≤ 8) (htn8 : t < n) (htn : (sl s tl)[t]? = some ta) (hta : gk s.1 ta = 9) (hto : gr s.1 34 ta = some ol) (hol : gk s.1 ol = 14) (hcn : (sl s ol).length = cn) (hc : 10 ≤ cn) (hc2 : cn < 100) : gMi X l (HoldP X (Abs X)) M_Ker_full 3 0 0 [.ref x, .int (nI t)] s (nI 1) s := by
  refine gM_intro (by decide) (Nat.le_of_ble_eq_true rfl) (fun K hK => ?_)
  show K 0 [(0, .ref x), (1, .int (nI t))] [] s 0 0
  refine r_iload_n hK d_Ker_full_0 rfl 1 rfl ?_
  refine r_nif_lt (a := t) (tgt := 37) hK d_Ker_full_1 (by decide) (by omega) ?_
  refine r_iload_n hK d_Ker_full_4 rfl 1 rfl ?_
  refine r_aload_n hK d_Ker_full_5 rfl 0 rfl ?_
  refine p_getR (f := 2) (v := some tl) hK d_Ker_full_6 k_Ker fd_Ker_19_Ker (by decide) rfl rfl (fun g h => h.getR hx (by decide) rfl hxt) ?_
  refine r_callVi (As := []) (b := tl) (st := [.int (nI t)]) hK (cS_size (s := s) tl (htl)) d_Ker_full_9 ml_Ker_31 cv_AL_size rfl (by decide) (p_recv k_AL (fun g h => h.kd htl (by decide))) (Nat.le_of_ble_eq_true rfl) ?_ rfl
  refine r_tp (b := nI n) (congrArg nI hn) ?_
  refine r_ncmp_ge (a := t) (b := n) (tgt := 37) hK d_Ker_full_12 (by decide) (by omega) (by omega) (fun z => False.elim (by omega)) (fun c12 => ?_)
  refine r_aload_n hK d_Ker_full_15 rfl 0 rfl ?_
  refine p_getR (f := 2) (v := some tl) hK d_Ker_full_16 k_Ker fd_Ker_19_Ker (by decide) rfl rfl (fun g h => h.getR hx (by decide) rfl hxt) ?_
  refine r_iload_n hK d_Ker_full_19 rfl 1 rfl ?_
  refine r_callVr (As := [.int (nI t)]) (b := tl) (st := []) hK (cS_at (s := s) tl t ta (htl) htn) d_Ker_full_20 ml_Ker_44 cv_AL_get rfl (by decide) (p_recv k_AL (fun g h => h.kd htl (by decide))) (Nat.le_of_ble_eq_true rfl) ?_ rfl
  refine p_cast hK d_Ker_full_23 cl_Ker_35 ca_Task_Task (p_recv k_Task (fun g h => h.kd hta (by decide))) ?_
  refine p_getR (f := 34) (v := some ol) hK d_Ker_full_26 k_Task fd_Ker_48_Task (by decide) rfl rfl (fun g h => h.getR hta (by decide) rfl hto) ?_
  refine r_callVi (As := []) (b := ol) (st := []) hK (cS_size (s := s) ol (hol)) d_Ker_full_29 ml_Ker_31 cv_AL_size rfl (by decide) (p_recv k_AL (fun g h => h.kd hol (by decide))) (Nat.le_of_ble_eq_true rfl) ?_ rfl
  refine r_tp (b := nI cn) (congrArg nI hcn) ?_
  refine r_bipush (v := nI 10) hK d_Ker_full_32 (by decide) ?_
  refine r_ncmp_lt (a := cn) (b := 10) (tgt := 41) hK d_Ker_full_34 (by decide) (by omega) (by omega) (fun z => False.elim (by omega)) (fun c34 => ?_)
  refine r_iconst (v := nI 1) hK d_Ker_full_37 (by decide) ?_
  refine r_goto (tgt := 42) hK d_Ker_full_38 (by decide) ?_
  refine r_iret hK d_Ker_full_42 rfl (rfl) ?_
  exact ⟨rfl, rfl⟩
set_option maxHeartbeats 1000000 in
theorem c_Ker_full_ok (X : gCx) (l : Launch) (s : sS) (x tl n t ta ol cn : Nat) (hx : gk s.1 x = 1) (hxt : gr s.1 2 x = some tl) (htl : gk s.1 tl = 14) (hn : (sl s tl).length = n) (hn8 : n ≤ 8) (htn8 : t < n) (htn : (sl s tl)[t]? = some ta) (hta : gk s.1 ta = 9) (hto : gr s.1 34 ta = some ol) (hol : gk s.1 ol = 14) (hcn : (sl s ol).length = cn) (hc : cn < 10) : gMi X l (HoldP X (Abs X)) M_Ker_full 3 0 0 [.ref x, .int (nI t)] s (nI 0) s := by
  refine gM_intro (by decide) (Nat.le_of_ble_eq_true rfl) (fun K hK => ?_)
  show K 0 [(0, .ref x), (1, .int (nI t))] [] s 0 0
  refine r_iload_n hK d_Ker_full_0 rfl 1 rfl ?_
  refine r_nif_lt (a := t) (tgt := 37) hK d_Ker_full_1 (by decide) (by omega) ?_
  refine r_iload_n hK d_Ker_full_4 rfl 1 rfl ?_
  refine r_aload_n hK d_Ker_full_5 rfl 0 rfl ?_
  refine p_getR (f := 2) (v := some tl) hK d_Ker_full_6 k_Ker fd_Ker_19_Ker (by decide) rfl rfl (fun g h => h.getR hx (by decide) rfl hxt) ?_
  refine r_callVi (As := []) (b := tl) (st := [.int (nI t)]) hK (cS_size (s := s) tl (htl)) d_Ker_full_9 ml_Ker_31 cv_AL_size rfl (by decide) (p_recv k_AL (fun g h => h.kd htl (by decide))) (Nat.le_of_ble_eq_true rfl) ?_ rfl
  refine r_tp (b := nI n) (congrArg nI hn) ?_
  refine r_ncmp_ge (a := t) (b := n) (tgt := 37) hK d_Ker_full_12 (by decide) (by omega) (by omega) (fun z => False.elim (by omega)) (fun c12 => ?_)
  refine r_aload_n hK d_Ker_full_15 rfl 0 rfl ?_
  refine p_getR (f := 2) (v := some tl) hK d_Ker_full_16 k_Ker fd_Ker_19_Ker (by decide) rfl rfl (fun g h => h.getR hx (by decide) rfl hxt) ?_
  refine r_iload_n hK d_Ker_full_19 rfl 1 rfl ?_
  refine r_callVr (As := [.int (nI t)]) (b := tl) (st := []) hK (cS_at (s := s) tl t ta (htl) htn) d_Ker_full_20 ml_Ker_44 cv_AL_get rfl (by decide) (p_recv k_AL (fun g h => h.kd htl (by decide))) (Nat.le_of_ble_eq_true rfl) ?_ rfl
  refine p_cast hK d_Ker_full_23 cl_Ker_35 ca_Task_Task (p_recv k_Task (fun g h => h.kd hta (by decide))) ?_
  refine p_getR (f := 34) (v := some ol) hK d_Ker_full_26 k_Task fd_Ker_48_Task (by decide) rfl rfl (fun g h => h.getR hta (by decide) rfl hto) ?_
  refine r_callVi (As := []) (b := ol) (st := []) hK (cS_size (s := s) ol (hol)) d_Ker_full_29 ml_Ker_31 cv_AL_size rfl (by decide) (p_recv k_AL (fun g h => h.kd hol (by decide))) (Nat.le_of_ble_eq_true rfl) ?_ rfl
  refine r_tp (b := nI cn) (congrArg nI hcn) ?_
  refine r_bipush (v := nI 10) hK d_Ker_full_32 (by decide) ?_
  refine r_ncmp_lt (a := cn) (b := 10) (tgt := 41) hK d_Ker_full_34 (by decide) (by omega) (by omega) (fun c34 => ?_) (fun z => False.elim (by omega))
  refine r_iconst (v := nI 0) hK d_Ker_full_41 (by decide) ?_
  refine r_iret hK d_Ker_full_42 rfl (rfl) ?_
  exact ⟨rfl, rfl⟩
set_option maxHeartbeats 1000000 in
theorem c_Ker_enlist_run (X : gCx) (l : Launch) (s : sS) (x tl t ta ol cn o : Nat) (hx : gk s.1 x = 1) (hxt : gr s.1 2 x = some tl) (htl : gk s.1 tl = 14) (htn : (sl s tl)[t]? = some ta) (hta : gk s.1 ta = 9) (hto : gr s.1 34 ta = some ol) (hol : gk s.1 ol = 14) (hcn : (sl s ol).length = cn) (hc : cn < 10) (C : String) (T : u_T) (NN ci : Nat) (hC : gCl ci C T NN) (hca : Cond.castable C "java/lang/Object" ∈ lw_tbl) (hov : gk s.1 o = ci + 1) (hci : ci < 63) (hh : gr s.1 36 ta = none) : gMi X l (HoldP X (Abs X)) M_Ker_enlist 5 2 12 [.ref x, .int (nI t), .ref o] s (nI cn) (sAddL s ol o) := by
  refine gM_intro (by decide) (Nat.le_of_ble_eq_true rfl) (fun K hK => ?_)
  show K 0 [(0, .ref x), (1, .int (nI t)), (2, .ref o)] [] s 2 12
  refine r_aload_n hK d_Ker_enlist_0 rfl 0 rfl ?_
  refine p_getR (f := 2) (v := some tl) hK d_Ker_enlist_1 k_Ker fd_Ker_19_Ker (by decide) rfl rfl (fun g h => h.getR hx (by decide) rfl hxt) ?_
  refine r_iload_n hK d_Ker_enlist_4 rfl 1 rfl ?_
  refine r_callVr (As := [.int (nI t)]) (b := tl) (st := []) hK (cS_at (s := s) tl t ta (htl) htn) d_Ker_enlist_5 ml_Ker_44 cv_AL_get rfl (by decide) (p_recv k_AL (fun g h => h.kd htl (by decide))) (Nat.le_of_ble_eq_true rfl) ?_ rfl
  refine p_cast hK d_Ker_enlist_8 cl_Ker_35 ca_Task_Task (p_recv k_Task (fun g h => h.kd hta (by decide))) ?_
  refine r_astore_n (lv' := [(3, .ref ta), (0, .ref x), (1, .int (nI t)), (2, .ref o)]) hK d_Ker_enlist_11 rfl (by decide) rfl ?_
  refine r_aload_n hK d_Ker_enlist_12 rfl 0 rfl ?_
  refine p_getR (f := 34) (v := some ol) hK d_Ker_enlist_13 k_Task fd_Ker_48_Task (by decide) rfl rfl (fun g h => h.getR hta (by decide) rfl hto) ?_
  refine r_aload_n hK d_Ker_enlist_16 rfl 3 rfl ?_
  refine r_callVi (As := [.ref o]) (b := ol) (st := []) hK (cS_put (s := s) ol o ci NN C T hol (by rw [hcn]; exact hc) hC hca hov hci) d_Ker_enlist_17 ml_Ker_40 cv_AL_add_1 rfl (by decide) (p_recv k_AL (fun g h => h.kd hol (by decide))) (Nat.le_of_ble_eq_true rfl) ?_ rfl
  refine r_pop hK d_Ker_enlist_20 rfl ?_
  refine r_aload_n hK d_Ker_enlist_21 rfl 0 rfl ?_
  refine p_getR (f := 36) (v := none) hK d_Ker_enlist_22 k_Task fd_Ker_51_Task (by decide) rfl rfl (fun g h => h.getR (by simp [sSetI, sSetR, sSetA, sSetB, sSetQ, sSetL, sSetT, sNew, sNewA, sNewL, sPush, sBump, sBegL, sPutT, sAddL_g, sAddL_q, sAddL_r, sAddL_l, sq, sl, sr, gSetI, gSetR, gSetA, gSetB, gNew, gNewA, up2, up1, gx, gk, gl, gi, gr, ga, gb, hta]) (by decide) rfl (by simp [sSetI, sSetR, sSetA, sSetB, sSetQ, sSetL, sSetT, sNew, sNewA, sNewL, sPush, sBump, sBegL, sPutT, sAddL_g, sAddL_q, sAddL_r, sAddL_l, sq, sl, sr, gSetI, gSetR, gSetA, gSetB, gNew, gNewA, up2, up1, gx, gk, gl, gi, gr, ga, gb, hh])) ?_
  refine r_ifnull (v := none) (tgt := 44) hK d_Ker_enlist_25 (by decide) (fun _ => ?_) (fun _ z => absurd z (by simp))
  refine r_aload_n hK d_Ker_enlist_44 rfl 0 rfl ?_
  refine p_getR (f := 34) (v := some ol) hK d_Ker_enlist_45 k_Task fd_Ker_48_Task (by decide) rfl rfl (fun g h => h.getR (by simp [sSetI, sSetR, sSetA, sSetB, sSetQ, sSetL, sSetT, sNew, sNewA, sNewL, sPush, sBump, sBegL, sPutT, sAddL_g, sAddL_q, sAddL_r, sAddL_l, sq, sl, sr, gSetI, gSetR, gSetA, gSetB, gNew, gNewA, up2, up1, gx, gk, gl, gi, gr, ga, gb, hta]) (by decide) rfl (by simp [sSetI, sSetR, sSetA, sSetB, sSetQ, sSetL, sSetT, sNew, sNewA, sNewL, sPush, sBump, sBegL, sPutT, sAddL_g, sAddL_q, sAddL_r, sAddL_l, sq, sl, sr, gSetI, gSetR, gSetA, gSetB, gNew, gNewA, up2, up1, gx, gk, gl, gi, gr, ga, gb, hto])) ?_
  refine r_callVi (As := []) (b := ol) (st := []) hK (cS_size (s := sAddL s ol o) ol (by simp [sSetI, sSetR, sSetA, sSetB, sSetQ, sSetL, sSetT, sNew, sNewA, sNewL, sPush, sBump, sBegL, sPutT, sAddL_g, sAddL_q, sAddL_r, sAddL_l, sq, sl, sr, gSetI, gSetR, gSetA, gSetB, gNew, gNewA, up2, up1, gx, gk, gl, gi, gr, ga, gb, hol])) d_Ker_enlist_48 ml_Ker_31 cv_AL_size rfl (by decide) (p_recv k_AL (fun g h => h.kd (by simp [sSetI, sSetR, sSetA, sSetB, sSetQ, sSetL, sSetT, sNew, sNewA, sNewL, sPush, sBump, sBegL, sPutT, sAddL_g, sAddL_q, sAddL_r, sAddL_l, sq, sl, sr, gSetI, gSetR, gSetA, gSetB, gNew, gNewA, up2, up1, gx, gk, gl, gi, gr, ga, gb, hol]) (by decide))) (Nat.le_of_ble_eq_true rfl) ?_ rfl
  refine r_tp (b := nI (cn + 1)) (by simp [sSetI, sSetR, sSetA, sSetB, sSetQ, sSetL, sSetT, sNew, sNewA, sNewL, sPush, sBump, sBegL, sPutT, sAddL_g, sAddL_q, sAddL_r, sAddL_l, sq, sl, sr, gSetI, gSetR, gSetA, gSetB, gNew, gNewA, up2, up1, gx, gk, gl, gi, gr, ga, gb, hcn]) ?_
  refine r_iconst (v := nI 1) hK d_Ker_enlist_51 (by decide) ?_
  refine r_isub hK d_Ker_enlist_52 ?_
  refine r_tp (b := nI cn) (nI_pred cn) ?_
  refine r_iret hK d_Ker_enlist_53 rfl (rfl) ?_
  exact ⟨rfl, rfl⟩
set_option maxHeartbeats 1000000 in
theorem c_Ker_enlist_park (X : gCx) (l : Launch) (s : sS) (x tl t ta ol cn o : Nat) (hx : gk s.1 x = 1) (hxt : gr s.1 2 x = some tl) (htl : gk s.1 tl = 14) (htn : (sl s tl)[t]? = some ta) (hta : gk s.1 ta = 9) (hto : gr s.1 34 ta = some ol) (hol : gk s.1 ol = 14) (hcn : (sl s ol).length = cn) (hc : cn < 10) (C : String) (T : u_T) (NN ci : Nat) (hC : gCl ci C T NN) (hca : Cond.castable C "java/lang/Object" ∈ lw_tbl) (hov : gk s.1 o = ci + 1) (hci : ci < 63) (pp qu : Nat) (hh : gr s.1 36 ta = some pp) (hpp : gk s.1 pp = 3) (hpq : gr s.1 17 pp = some qu) (hqu : gk s.1 qu = 4) : gMi X l (HoldP X (Abs X)) M_Ker_enlist 5 2 12 [.ref x, .int (nI t), .ref o] s (nI cn) (sSetR (sPush (sAddL s ol o) qu ta) 36 ta none) := by
  refine gM_intro (by decide) (Nat.le_of_ble_eq_true rfl) (fun K hK => ?_)
  show K 0 [(0, .ref x), (1, .int (nI t)), (2, .ref o)] [] s 2 12
  refine r_aload_n hK d_Ker_enlist_0 rfl 0 rfl ?_
  refine p_getR (f := 2) (v := some tl) hK d_Ker_enlist_1 k_Ker fd_Ker_19_Ker (by decide) rfl rfl (fun g h => h.getR hx (by decide) rfl hxt) ?_
  refine r_iload_n hK d_Ker_enlist_4 rfl 1 rfl ?_
  refine r_callVr (As := [.int (nI t)]) (b := tl) (st := []) hK (cS_at (s := s) tl t ta (htl) htn) d_Ker_enlist_5 ml_Ker_44 cv_AL_get rfl (by decide) (p_recv k_AL (fun g h => h.kd htl (by decide))) (Nat.le_of_ble_eq_true rfl) ?_ rfl
  refine p_cast hK d_Ker_enlist_8 cl_Ker_35 ca_Task_Task (p_recv k_Task (fun g h => h.kd hta (by decide))) ?_
  refine r_astore_n (lv' := [(3, .ref ta), (0, .ref x), (1, .int (nI t)), (2, .ref o)]) hK d_Ker_enlist_11 rfl (by decide) rfl ?_
  refine r_aload_n hK d_Ker_enlist_12 rfl 0 rfl ?_
  refine p_getR (f := 34) (v := some ol) hK d_Ker_enlist_13 k_Task fd_Ker_48_Task (by decide) rfl rfl (fun g h => h.getR hta (by decide) rfl hto) ?_
  refine r_aload_n hK d_Ker_enlist_16 rfl 3 rfl ?_
  refine r_callVi (As := [.ref o]) (b := ol) (st := []) hK (cS_put (s := s) ol o ci NN C T hol (by rw [hcn]; exact hc) hC hca hov hci) d_Ker_enlist_17 ml_Ker_40 cv_AL_add_1 rfl (by decide) (p_recv k_AL (fun g h => h.kd hol (by decide))) (Nat.le_of_ble_eq_true rfl) ?_ rfl
  refine r_pop hK d_Ker_enlist_20 rfl ?_
  refine r_aload_n hK d_Ker_enlist_21 rfl 0 rfl ?_
  refine p_getR (f := 36) (v := some pp) hK d_Ker_enlist_22 k_Task fd_Ker_51_Task (by decide) rfl rfl (fun g h => h.getR (by simp [sSetI, sSetR, sSetA, sSetB, sSetQ, sSetL, sSetT, sNew, sNewA, sNewL, sPush, sBump, sBegL, sPutT, sAddL_g, sAddL_q, sAddL_r, sAddL_l, sq, sl, sr, gSetI, gSetR, gSetA, gSetB, gNew, gNewA, up2, up1, gx, gk, gl, gi, gr, ga, gb, hta]) (by decide) rfl (by simp [sSetI, sSetR, sSetA, sSetB, sSetQ, sSetL, sSetT, sNew, sNewA, sNewL, sPush, sBump, sBegL, sPutT, sAddL_g, sAddL_q, sAddL_r, sAddL_l, sq, sl, sr, gSetI, gSetR, gSetA, gSetB, gNew, gNewA, up2, up1, gx, gk, gl, gi, gr, ga, gb, hh])) ?_
  refine r_ifnull (v := some pp) (tgt := 44) hK d_Ker_enlist_25 (by decide) (fun z => absurd z (by simp)) (fun _ _ => ?_)
  refine r_aload_n hK d_Ker_enlist_28 rfl 0 rfl ?_
  refine p_getR (f := 36) (v := some pp) hK d_Ker_enlist_29 k_Task fd_Ker_51_Task (by decide) rfl rfl (fun g h => h.getR (by simp [sSetI, sSetR, sSetA, sSetB, sSetQ, sSetL, sSetT, sNew, sNewA, sNewL, sPush, sBump, sBegL, sPutT, sAddL_g, sAddL_q, sAddL_r, sAddL_l, sq, sl, sr, gSetI, gSetR, gSetA, gSetB, gNew, gNewA, up2, up1, gx, gk, gl, gi, gr, ga, gb, hta]) (by decide) rfl (by simp [sSetI, sSetR, sSetA, sSetB, sSetQ, sSetL, sSetT, sNew, sNewA, sNewL, sPush, sBump, sBegL, sPutT, sAddL_g, sAddL_q, sAddL_r, sAddL_l, sq, sl, sr, gSetI, gSetR, gSetA, gSetB, gNew, gNewA, up2, up1, gx, gk, gl, gi, gr, ga, gb, hh])) ?_
  refine p_getR (f := 17) (v := some qu) hK d_Ker_enlist_32 k_Processor fd_Ker_55_Processor (by decide) rfl rfl (fun g h => h.getR (by simp [sSetI, sSetR, sSetA, sSetB, sSetQ, sSetL, sSetT, sNew, sNewA, sNewL, sPush, sBump, sBegL, sPutT, sAddL_g, sAddL_q, sAddL_r, sAddL_l, sq, sl, sr, gSetI, gSetR, gSetA, gSetB, gNew, gNewA, up2, up1, gx, gk, gl, gi, gr, ga, gb, hpp]) (by decide) rfl (by simp [sSetI, sSetR, sSetA, sSetB, sSetQ, sSetL, sSetT, sNew, sNewA, sNewL, sPush, sBump, sBegL, sPutT, sAddL_g, sAddL_q, sAddL_r, sAddL_l, sq, sl, sr, gSetI, gSetR, gSetA, gSetB, gNew, gNewA, up2, up1, gx, gk, gl, gi, gr, ga, gb, hpq])) ?_
  refine r_aload_n hK d_Ker_enlist_35 rfl 0 rfl ?_
  refine r_callVv (As := [.ref ta]) (b := qu) (st := []) hK (cS_add (s := sAddL s ol o) qu ta (by simp [sSetI, sSetR, sSetA, sSetB, sSetQ, sSetL, sSetT, sNew, sNewA, sNewL, sPush, sBump, sBegL, sPutT, sAddL_g, sAddL_q, sAddL_r, sAddL_l, sq, sl, sr, gSetI, gSetR, gSetA, gSetB, gNew, gNewA, up2, up1, gx, gk, gl, gi, gr, ga, gb, hqu])) d_Ker_enlist_36 ml_Ker_61 cv_Line_add rfl (by decide) (p_recv k_Line (fun g h => h.kd (by simp [sSetI, sSetR, sSetA, sSetB, sSetQ, sSetL, sSetT, sNew, sNewA, sNewL, sPush, sBump, sBegL, sPutT, sAddL_g, sAddL_q, sAddL_r, sAddL_l, sq, sl, sr, gSetI, gSetR, gSetA, gSetB, gNew, gNewA, up2, up1, gx, gk, gl, gi, gr, ga, gb, hqu]) (by decide))) (Nat.le_of_ble_eq_true rfl) ?_ rfl
  refine r_aload_n hK d_Ker_enlist_39 rfl 0 rfl ?_
  refine r_null hK d_Ker_enlist_40 ?_
  refine p_putR (k := 3) (f := 36) (v := none) hK d_Ker_enlist_41 k_Task fd_Ker_51_Task (by decide) rfl rfl rfl (fun g h => ⟨h.kd (by simp [sSetI, sSetR, sSetA, sSetB, sSetQ, sSetL, sSetT, sNew, sNewA, sNewL, sPush, sBump, sBegL, sPutT, sAddL_g, sAddL_q, sAddL_r, sAddL_l, sq, sl, sr, gSetI, gSetR, gSetA, gSetB, gNew, gNewA, up2, up1, gx, gk, gl, gi, gr, ga, gb, hta]) (by decide), h.setR (nz_of (k := 8) (by simp [sSetI, sSetR, sSetA, sSetB, sSetQ, sSetL, sSetT, sNew, sNewA, sNewL, sPush, sBump, sBegL, sPutT, sAddL_g, sAddL_q, sAddL_r, sAddL_l, sq, sl, sr, gSetI, gSetR, gSetA, gSetB, gNew, gNewA, up2, up1, gx, gk, gl, gi, gr, ga, gb, hta])) rfl⟩) ?_
  refine r_aload_n hK d_Ker_enlist_44 rfl 0 rfl ?_
  refine p_getR (f := 34) (v := some ol) hK d_Ker_enlist_45 k_Task fd_Ker_48_Task (by decide) rfl rfl (fun g h => h.getR (by simp [sSetI, sSetR, sSetA, sSetB, sSetQ, sSetL, sSetT, sNew, sNewA, sNewL, sPush, sBump, sBegL, sPutT, sAddL_g, sAddL_q, sAddL_r, sAddL_l, sq, sl, sr, gSetI, gSetR, gSetA, gSetB, gNew, gNewA, up2, up1, gx, gk, gl, gi, gr, ga, gb, hta]) (by decide) rfl (by simp [sSetI, sSetR, sSetA, sSetB, sSetQ, sSetL, sSetT, sNew, sNewA, sNewL, sPush, sBump, sBegL, sPutT, sAddL_g, sAddL_q, sAddL_r, sAddL_l, sq, sl, sr, gSetI, gSetR, gSetA, gSetB, gNew, gNewA, up2, up1, gx, gk, gl, gi, gr, ga, gb, hto])) ?_
  refine r_callVi (As := []) (b := ol) (st := []) hK (cS_size (s := sSetR (sPush (sAddL s ol o) qu ta) 36 ta none) ol (by simp [sSetI, sSetR, sSetA, sSetB, sSetQ, sSetL, sSetT, sNew, sNewA, sNewL, sPush, sBump, sBegL, sPutT, sAddL_g, sAddL_q, sAddL_r, sAddL_l, sq, sl, sr, gSetI, gSetR, gSetA, gSetB, gNew, gNewA, up2, up1, gx, gk, gl, gi, gr, ga, gb, hol])) d_Ker_enlist_48 ml_Ker_31 cv_AL_size rfl (by decide) (p_recv k_AL (fun g h => h.kd (by simp [sSetI, sSetR, sSetA, sSetB, sSetQ, sSetL, sSetT, sNew, sNewA, sNewL, sPush, sBump, sBegL, sPutT, sAddL_g, sAddL_q, sAddL_r, sAddL_l, sq, sl, sr, gSetI, gSetR, gSetA, gSetB, gNew, gNewA, up2, up1, gx, gk, gl, gi, gr, ga, gb, hol]) (by decide))) (Nat.le_of_ble_eq_true rfl) ?_ rfl
  refine r_tp (b := nI (cn + 1)) (by simp [sSetI, sSetR, sSetA, sSetB, sSetQ, sSetL, sSetT, sNew, sNewA, sNewL, sPush, sBump, sBegL, sPutT, sAddL_g, sAddL_q, sAddL_r, sAddL_l, sq, sl, sr, gSetI, gSetR, gSetA, gSetB, gNew, gNewA, up2, up1, gx, gk, gl, gi, gr, ga, gb, hcn]) ?_
  refine r_iconst (v := nI 1) hK d_Ker_enlist_51 (by decide) ?_
  refine r_isub hK d_Ker_enlist_52 ?_
  refine r_tp (b := nI cn) (nI_pred cn) ?_
  refine r_iret hK d_Ker_enlist_53 rfl (rfl) ?_
  exact ⟨rfl, rfl⟩
set_option maxHeartbeats 1000000 in
theorem c_Ker_thread_bad (X : gCx) (l : Launch) (s : sS) (x : Nat) (pv : Int32) (hx : gk s.1 x = 1) (hpr : gMr X l (HoldP X (Abs X)) M_Ker_processor 0 0 0 [.ref x, .int pv] s none s)  : gMi X l (HoldP X (Abs X)) M_Ker_thread 6 3 17 [.ref x, .int pv] s (-1) s := by
  refine gM_intro (by decide) (Nat.le_of_ble_eq_true rfl) (fun K hK => ?_)
  show K 0 [(0, .ref x), (1, .int pv)] [] s 3 17
  refine r_aload_n hK d_Ker_thread_0 rfl 0 rfl ?_
  refine r_iload_n hK d_Ker_thread_1 rfl 1 rfl ?_
  refine r_callVr (As := [.int pv]) (b := x) (st := []) hK (hpr) d_Ker_thread_2 ml_Ker_27 cv_Ker_processor rfl (by decide) (p_recv k_Ker (fun g h => h.kd hx (by decide))) (Nat.le_of_ble_eq_true rfl) ?_ rfl
  refine r_astore_nN (lv' := [(2, .null), (0, .ref x), (1, .int pv)]) hK d_Ker_thread_5 rfl (by decide) rfl ?_
  refine r_aload_nN hK d_Ker_thread_6 rfl 0 rfl ?_
  refine r_ifnull (v := none) (tgt := 22) hK d_Ker_thread_7 (by decide) (fun _ => ?_) (fun _ z => absurd z (by simp))
  refine r_iconst (v := -1) hK d_Ker_thread_22 (by decide) ?_
  refine r_iret hK d_Ker_thread_23 rfl (rfl) ?_
  exact ⟨rfl, rfl⟩
set_option maxHeartbeats 1000000 in
theorem c_Ker_thread_full (X : gCx) (l : Launch) (s : sS) (x tl pp n : Nat) (pv : Int32) (hx : gk s.1 x = 1) (hxt : gr s.1 2 x = some tl) (htl : gk s.1 tl = 14) (hn : (sl s tl).length = n) (hn8 : 8 ≤ n) (hnb : n < 100) (hpr : gMr X l (HoldP X (Abs X)) M_Ker_processor 0 0 0 [.ref x, .int pv] s (some pp) s)  : gMi X l (HoldP X (Abs X)) M_Ker_thread 6 3 17 [.ref x, .int pv] s (-1) s := by
  refine gM_intro (by decide) (Nat.le_of_ble_eq_true rfl) (fun K hK => ?_)
  show K 0 [(0, .ref x), (1, .int pv)] [] s 3 17
  refine r_aload_n hK d_Ker_thread_0 rfl 0 rfl ?_
  refine r_iload_n hK d_Ker_thread_1 rfl 1 rfl ?_
  refine r_callVr (As := [.int pv]) (b := x) (st := []) hK (hpr) d_Ker_thread_2 ml_Ker_27 cv_Ker_processor rfl (by decide) (p_recv k_Ker (fun g h => h.kd hx (by decide))) (Nat.le_of_ble_eq_true rfl) ?_ rfl
  refine r_astore_n (lv' := [(2, .ref pp), (0, .ref x), (1, .int pv)]) hK d_Ker_thread_5 rfl (by decide) rfl ?_
  refine r_aload_n hK d_Ker_thread_6 rfl 0 rfl ?_
  refine r_ifnull (v := some pp) (tgt := 22) hK d_Ker_thread_7 (by decide) (fun z => absurd z (by simp)) (fun _ _ => ?_)
  refine r_aload_n hK d_Ker_thread_10 rfl 1 rfl ?_
  refine p_getR (f := 2) (v := some tl) hK d_Ker_thread_11 k_Ker fd_Ker_19_Ker (by decide) rfl rfl (fun g h => h.getR hx (by decide) rfl hxt) ?_
  refine r_callVi (As := []) (b := tl) (st := []) hK (cS_size (s := s) tl (htl)) d_Ker_thread_14 ml_Ker_31 cv_AL_size rfl (by decide) (p_recv k_AL (fun g h => h.kd htl (by decide))) (Nat.le_of_ble_eq_true rfl) ?_ rfl
  refine r_tp (b := nI n) (congrArg nI hn) ?_
  refine r_bipush (v := nI 8) hK d_Ker_thread_17 (by decide) ?_
  refine r_ncmp_lt (a := n) (b := 8) (tgt := 24) hK d_Ker_thread_19 (by decide) (by omega) (by omega) (fun z => False.elim (by omega)) (fun c19 => ?_)
  refine r_iconst (v := -1) hK d_Ker_thread_22 (by decide) ?_
  refine r_iret hK d_Ker_thread_23 rfl (rfl) ?_
  exact ⟨rfl, rfl⟩
set_option maxHeartbeats 1000000 in
theorem c_Ker_thread (X : gCx) (l : Launch) (s : sS) (x tl pp n a q : Nat) (pv : Int32) (hx : gk s.1 x = 1) (hxt : gr s.1 2 x = some tl) (htl : gk s.1 tl = 14) (hn : (sl s tl).length = n) (hn8 : n < 8) (ha : gx s.1 = a) (hq2 : a + 1 = q) (n1 : a ≠ q) (n2 : x ≠ a) (n3 : x ≠ q) (n4 : tl ≠ a) (n5 : tl ≠ q) (hpr : gMr X l (HoldP X (Abs X)) M_Ker_processor 0 0 0 [.ref x, .int pv] s (some pp) s)  : gMi X l (HoldP X (Abs X)) M_Ker_thread 6 3 17 [.ref x, .int pv] s (nI n) (sAddL (sSetR (sSetI (sSetR (sBegL (sNewL (sNew s 8)) q) 34 a (some q)) 33 a (nI n)) 36 a (some pp)) tl a) := by
  refine gM_intro (by decide) (Nat.le_of_ble_eq_true rfl) (fun K hK => ?_)
  show K 0 [(0, .ref x), (1, .int pv)] [] s 3 17
  refine r_aload_n hK d_Ker_thread_0 rfl 0 rfl ?_
  refine r_iload_n hK d_Ker_thread_1 rfl 1 rfl ?_
  refine r_callVr (As := [.int pv]) (b := x) (st := []) hK (hpr) d_Ker_thread_2 ml_Ker_27 cv_Ker_processor rfl (by decide) (p_recv k_Ker (fun g h => h.kd hx (by decide))) (Nat.le_of_ble_eq_true rfl) ?_ rfl
  refine r_astore_n (lv' := [(2, .ref pp), (0, .ref x), (1, .int pv)]) hK d_Ker_thread_5 rfl (by decide) rfl ?_
  refine r_aload_n hK d_Ker_thread_6 rfl 0 rfl ?_
  refine r_ifnull (v := some pp) (tgt := 22) hK d_Ker_thread_7 (by decide) (fun z => absurd z (by simp)) (fun _ _ => ?_)
  refine r_aload_n hK d_Ker_thread_10 rfl 1 rfl ?_
  refine p_getR (f := 2) (v := some tl) hK d_Ker_thread_11 k_Ker fd_Ker_19_Ker (by decide) rfl rfl (fun g h => h.getR hx (by decide) rfl hxt) ?_
  refine r_callVi (As := []) (b := tl) (st := []) hK (cS_size (s := s) tl (htl)) d_Ker_thread_14 ml_Ker_31 cv_AL_size rfl (by decide) (p_recv k_AL (fun g h => h.kd htl (by decide))) (Nat.le_of_ble_eq_true rfl) ?_ rfl
  refine r_tp (b := nI n) (congrArg nI hn) ?_
  refine r_bipush (v := nI 8) hK d_Ker_thread_17 (by decide) ?_
  refine r_ncmp_lt (a := n) (b := 8) (tgt := 24) hK d_Ker_thread_19 (by decide) (by omega) (by omega) (fun c19 => ?_) (fun z => False.elim (by omega))
  refine r_aload_n hK d_Ker_thread_24 rfl 1 rfl ?_
  refine p_getR (f := 2) (v := some tl) hK d_Ker_thread_25 k_Ker fd_Ker_19_Ker (by decide) rfl rfl (fun g h => h.getR hx (by decide) rfl hxt) ?_
  refine p_new (ci := 8) (a := a) hK d_Ker_thread_28 k_Task cl_Ker_35 in_Task ii_Task (fun g h => h.new ha (by decide) (by decide)) ?_
  refine r_dup hK d_Ker_thread_31 rfl ?_
  refine r_aload_n hK d_Ker_thread_32 rfl 1 rfl ?_
  refine p_getR (f := 2) (v := some tl) hK d_Ker_thread_33 k_Ker fd_Ker_19_Ker (by decide) rfl rfl (fun g h => h.getR (by simp [sSetI, sSetR, sSetA, sSetB, sSetQ, sSetL, sSetT, sNew, sNewA, sNewL, sPush, sBump, sBegL, sPutT, sAddL_g, sAddL_q, sAddL_r, sAddL_l, sq, sl, sr, gSetI, gSetR, gSetA, gSetB, gNew, gNewA, up2, up1, gx, gk, gl, gi, gr, ga, gb, ha, hq2, n1, n2, n3, n4, n5, hx]) (by decide) rfl (by simp [sSetI, sSetR, sSetA, sSetB, sSetQ, sSetL, sSetT, sNew, sNewA, sNewL, sPush, sBump, sBegL, sPutT, sAddL_g, sAddL_q, sAddL_r, sAddL_l, sq, sl, sr, gSetI, gSetR, gSetA, gSetB, gNew, gNewA, up2, up1, gx, gk, gl, gi, gr, ga, gb, ha, hq2, n1, n2, n3, n4, n5, hxt])) ?_
  refine r_callVi (As := []) (b := tl) (st := [.ref a, .ref a, .ref tl]) hK (cS_size (s := sNew s 8) tl (by simp [sSetI, sSetR, sSetA, sSetB, sSetQ, sSetL, sSetT, sNew, sNewA, sNewL, sPush, sBump, sBegL, sPutT, sAddL_g, sAddL_q, sAddL_r, sAddL_l, sq, sl, sr, gSetI, gSetR, gSetA, gSetB, gNew, gNewA, up2, up1, gx, gk, gl, gi, gr, ga, gb, ha, hq2, n1, n2, n3, n4, n5, htl])) d_Ker_thread_36 ml_Ker_31 cv_AL_size rfl (by decide) (p_recv k_AL (fun g h => h.kd (by simp [sSetI, sSetR, sSetA, sSetB, sSetQ, sSetL, sSetT, sNew, sNewA, sNewL, sPush, sBump, sBegL, sPutT, sAddL_g, sAddL_q, sAddL_r, sAddL_l, sq, sl, sr, gSetI, gSetR, gSetA, gSetB, gNew, gNewA, up2, up1, gx, gk, gl, gi, gr, ga, gb, ha, hq2, n1, n2, n3, n4, n5, htl]) (by decide))) (Nat.le_of_ble_eq_true rfl) ?_ rfl
  refine r_tp (b := nI n) (by simp [sSetI, sSetR, sSetA, sSetB, sSetQ, sSetL, sSetT, sNew, sNewA, sNewL, sPush, sBump, sBegL, sPutT, sAddL_g, sAddL_q, sAddL_r, sAddL_l, sq, sl, sr, gSetI, gSetR, gSetA, gSetB, gNew, gNewA, up2, up1, gx, gk, gl, gi, gr, ga, gb, ha, hq2, n1, n2, n3, n4, n5, hn]) ?_
  refine r_aload_n hK d_Ker_thread_39 rfl 0 rfl ?_
  refine r_callIv (As := [.int (nI n), .ref pp]) (b := a) (st := [.ref a, .ref tl]) hK (c_Task_init X l (sNew s 8) a q pp (nI n) (by simp [sSetI, sSetR, sSetA, sSetB, sSetQ, sSetL, sSetT, sNew, sNewA, sNewL, sPush, sBump, sBegL, sPutT, sAddL_g, sAddL_q, sAddL_r, sAddL_l, sq, sl, sr, gSetI, gSetR, gSetA, gSetB, gNew, gNewA, up2, up1, gx, gk, gl, gi, gr, ga, gb, ha, hq2, n1, n2, n3, n4, n5]) (by simp [sSetI, sSetR, sSetA, sSetB, sSetQ, sSetL, sSetT, sNew, sNewA, sNewL, sPush, sBump, sBegL, sPutT, sAddL_g, sAddL_q, sAddL_r, sAddL_l, sq, sl, sr, gSetI, gSetR, gSetA, gSetB, gNew, gNewA, up2, up1, gx, gk, gl, gi, gr, ga, gb, ha, hq2, n1, n2, n3, n4, n5, hq2]) n1) d_Ker_thread_40 ml_Ker_37 ci_Task_init rfl (by decide) (Nat.le_of_ble_eq_true rfl) ?_ rfl
  have hsl : sl (sSetR (sSetI (sSetR (sBegL (sNewL (sNew s 8)) q) 34 a (some q)) 33 a (nI n)) 36 a (some pp)) tl = sl s tl := by simp [sSetI, sSetR, sSetA, sSetB, sSetQ, sSetL, sSetT, sNew, sNewA, sNewL, sPush, sBump, sBegL, sPutT, sAddL_g, sAddL_q, sAddL_r, sAddL_l, sq, sl, sr, gSetI, gSetR, gSetA, gSetB, gNew, gNewA, up2, up1, gx, gk, gl, gi, gr, ga, gb, ha, hq2, n1, n2, n3, n4, n5]
  refine r_callVi (As := [.ref a]) (b := tl) (st := []) hK (cS_put (s := sSetR (sSetI (sSetR (sBegL (sNewL (sNew s 8)) q) 34 a (some q)) 33 a (nI n)) 36 a (some pp)) tl a 8 _ _ _ (by simp [sSetI, sSetR, sSetA, sSetB, sSetQ, sSetL, sSetT, sNew, sNewA, sNewL, sPush, sBump, sBegL, sPutT, sAddL_g, sAddL_q, sAddL_r, sAddL_l, sq, sl, sr, gSetI, gSetR, gSetA, gSetB, gNew, gNewA, up2, up1, gx, gk, gl, gi, gr, ga, gb, ha, hq2, n1, n2, n3, n4, n5, htl]) (by rw [hsl, hn]; omega) k_Task ca_Task_Obj (by simp [sSetI, sSetR, sSetA, sSetB, sSetQ, sSetL, sSetT, sNew, sNewA, sNewL, sPush, sBump, sBegL, sPutT, sAddL_g, sAddL_q, sAddL_r, sAddL_l, sq, sl, sr, gSetI, gSetR, gSetA, gSetB, gNew, gNewA, up2, up1, gx, gk, gl, gi, gr, ga, gb, ha, hq2, n1, n2, n3, n4, n5]) (by decide)) d_Ker_thread_43 ml_Ker_40 cv_AL_add_1 rfl (by decide) (p_recv k_AL (fun g h => h.kd (by simp [sSetI, sSetR, sSetA, sSetB, sSetQ, sSetL, sSetT, sNew, sNewA, sNewL, sPush, sBump, sBegL, sPutT, sAddL_g, sAddL_q, sAddL_r, sAddL_l, sq, sl, sr, gSetI, gSetR, gSetA, gSetB, gNew, gNewA, up2, up1, gx, gk, gl, gi, gr, ga, gb, ha, hq2, n1, n2, n3, n4, n5, htl]) (by decide))) (Nat.le_of_ble_eq_true rfl) ?_ rfl
  refine r_pop hK d_Ker_thread_46 rfl ?_
  refine r_aload_n hK d_Ker_thread_47 rfl 1 rfl ?_
  refine p_getR (f := 2) (v := some tl) hK d_Ker_thread_48 k_Ker fd_Ker_19_Ker (by decide) rfl rfl (fun g h => h.getR (by simp [sSetI, sSetR, sSetA, sSetB, sSetQ, sSetL, sSetT, sNew, sNewA, sNewL, sPush, sBump, sBegL, sPutT, sAddL_g, sAddL_q, sAddL_r, sAddL_l, sq, sl, sr, gSetI, gSetR, gSetA, gSetB, gNew, gNewA, up2, up1, gx, gk, gl, gi, gr, ga, gb, ha, hq2, n1, n2, n3, n4, n5, hx]) (by decide) rfl (by simp [sSetI, sSetR, sSetA, sSetB, sSetQ, sSetL, sSetT, sNew, sNewA, sNewL, sPush, sBump, sBegL, sPutT, sAddL_g, sAddL_q, sAddL_r, sAddL_l, sq, sl, sr, gSetI, gSetR, gSetA, gSetB, gNew, gNewA, up2, up1, gx, gk, gl, gi, gr, ga, gb, ha, hq2, n1, n2, n3, n4, n5, hxt])) ?_
  refine r_callVi (As := []) (b := tl) (st := []) hK (cS_size (s := sAddL (sSetR (sSetI (sSetR (sBegL (sNewL (sNew s 8)) q) 34 a (some q)) 33 a (nI n)) 36 a (some pp)) tl a) tl (by simp [sSetI, sSetR, sSetA, sSetB, sSetQ, sSetL, sSetT, sNew, sNewA, sNewL, sPush, sBump, sBegL, sPutT, sAddL_g, sAddL_q, sAddL_r, sAddL_l, sq, sl, sr, gSetI, gSetR, gSetA, gSetB, gNew, gNewA, up2, up1, gx, gk, gl, gi, gr, ga, gb, ha, hq2, n1, n2, n3, n4, n5, htl])) d_Ker_thread_51 ml_Ker_31 cv_AL_size rfl (by decide) (p_recv k_AL (fun g h => h.kd (by simp [sSetI, sSetR, sSetA, sSetB, sSetQ, sSetL, sSetT, sNew, sNewA, sNewL, sPush, sBump, sBegL, sPutT, sAddL_g, sAddL_q, sAddL_r, sAddL_l, sq, sl, sr, gSetI, gSetR, gSetA, gSetB, gNew, gNewA, up2, up1, gx, gk, gl, gi, gr, ga, gb, ha, hq2, n1, n2, n3, n4, n5, htl]) (by decide))) (Nat.le_of_ble_eq_true rfl) ?_ rfl
  refine r_tp (b := nI (n + 1)) (by simp [sSetI, sSetR, sSetA, sSetB, sSetQ, sSetL, sSetT, sNew, sNewA, sNewL, sPush, sBump, sBegL, sPutT, sAddL_g, sAddL_q, sAddL_r, sAddL_l, sq, sl, sr, gSetI, gSetR, gSetA, gSetB, gNew, gNewA, up2, up1, gx, gk, gl, gi, gr, ga, gb, ha, hq2, n1, n2, n3, n4, n5, hn]) ?_
  refine r_iconst (v := nI 1) hK d_Ker_thread_54 (by decide) ?_
  refine r_isub hK d_Ker_thread_55 ?_
  refine r_tp (b := nI n) (nI_pred n) ?_
  refine r_iret hK d_Ker_thread_56 rfl (rfl) ?_
  exact ⟨rfl, rfl⟩
