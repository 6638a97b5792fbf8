theorem in_Integer : Cond.instantiable "java/lang/Integer" 1 ∈ gtbl := (gtbl_all 148 (by decide +kernel) rfl)
theorem vb_nI : ∀ f, f < 10 → vb_c (f + 128) = nI f := by decide +kernel
set_option maxHeartbeats 1000000 in
theorem c_Grant_afterWait (X : gCx) (l : Launch) (s : sS) (o : Nat) : gMr X l (HoldP X (Abs X)) M_Grant_afterWait 0 0 0 [.ref o] s (some (cxE X 5)) s := by
  refine gM_intro (by decide) (Nat.le_of_ble_eq_true rfl) (fun K hK => ?_)
  show K 0 [(0, .ref o)] [] s 0 0
  refine p_phase (e0 := 5) hK d_Grant_afterWait_0 rfl fs_Grant_15 ?_
  refine r_aret (v := some (cxE X 5)) hK d_Grant_afterWait_3 rfl (Or.inl ⟨_, rfl⟩) ?_
  exact ⟨rfl, rfl⟩
set_option maxHeartbeats 1000000 in
theorem c_Grant_afterChange (X : gCx) (l : Launch) (s : sS) (o : Nat) : gMr X l (HoldP X (Abs X)) M_Grant_afterChange 0 0 0 [.ref o] s (some (cxE X 10)) s := by
  refine gM_intro (by decide) (Nat.le_of_ble_eq_true rfl) (fun K hK => ?_)
  show K 0 [(0, .ref o)] [] s 0 0
  refine p_phase (e0 := 10) hK d_Grant_afterChange_0 rfl fs_Grant_21 ?_
  refine r_aret (v := some (cxE X 10)) hK d_Grant_afterChange_3 rfl (Or.inl ⟨_, rfl⟩) ?_
  exact ⟨rfl, rfl⟩
set_option maxHeartbeats 1000000 in
theorem c_Revoke_afterWait (X : gCx) (l : Launch) (s : sS) (o : Nat) : gMr X l (HoldP X (Abs X)) M_Revoke_afterWait 0 0 0 [.ref o] s (some (cxE X 6)) s := by
  refine gM_intro (by decide) (Nat.le_of_ble_eq_true rfl) (fun K hK => ?_)
  show K 0 [(0, .ref o)] [] s 0 0
  refine p_phase (e0 := 6) hK d_Revoke_afterWait_0 rfl fs_Revoke_19 ?_
  refine r_aret (v := some (cxE X 6)) hK d_Revoke_afterWait_3 rfl (Or.inl ⟨_, rfl⟩) ?_
  exact ⟨rfl, rfl⟩
set_option maxHeartbeats 1000000 in
theorem c_Revoke_afterChange_0 (X : gCx) (l : Launch) (s : sS) (o : Nat) (ho : gk s.1 o = 12) (hc : gi s.1 44 o = nI 0) : gMr X l (HoldP X (Abs X)) M_Revoke_afterChange 0 0 0 [.ref o] s (some (cxE X 10)) s := by
  refine gM_intro (by decide) (Nat.le_of_ble_eq_true rfl) (fun K hK => ?_)
  show K 0 [(0, .ref o)] [] s 0 0
  refine r_aload_n hK d_Revoke_afterChange_0 rfl 0 rfl ?_
  refine p_getI (f := 44) (v := nI 0) hK d_Revoke_afterChange_1 k_Revoke fd_Revoke_25_Revoke (by decide) rfl rfl (fun g h => h.getI ho (by decide) rfl hc) ?_
  refine r_nif_le (a := 0) (tgt := 13) hK d_Revoke_afterChange_4 (by decide) (by decide) (fun _ => ?_) (fun z => absurd z (by decide))
  refine p_phase (e0 := 10) hK d_Revoke_afterChange_13 rfl fs_Revoke_32 ?_
  refine r_aret (v := some (cxE X 10)) hK d_Revoke_afterChange_16 rfl (Or.inl ⟨_, rfl⟩) ?_
  exact ⟨rfl, rfl⟩
set_option maxHeartbeats 1000000 in
theorem c_Revoke_afterChange_1 (X : gCx) (l : Launch) (s : sS) (o c : Nat) (ho : gk s.1 o = 12) (hc : gi s.1 44 o = nI c) (hc0 : 0 < c) (hc1 : c < 100) : gMr X l (HoldP X (Abs X)) M_Revoke_afterChange 0 0 0 [.ref o] s (some (cxE X 7)) s := by
  refine gM_intro (by decide) (Nat.le_of_ble_eq_true rfl) (fun K hK => ?_)
  show K 0 [(0, .ref o)] [] s 0 0
  refine r_aload_n hK d_Revoke_afterChange_0 rfl 0 rfl ?_
  refine p_getI (f := 44) (v := nI c) hK d_Revoke_afterChange_1 k_Revoke fd_Revoke_25_Revoke (by decide) rfl rfl (fun g h => h.getI ho (by decide) rfl hc) ?_
  refine r_nif_le (a := c) (tgt := 13) hK d_Revoke_afterChange_4 (by decide) (by omega) (fun z => False.elim (by omega)) (fun c4 => ?_)
  refine p_phase (e0 := 7) hK d_Revoke_afterChange_7 rfl fs_Revoke_29 ?_
  refine r_goto (tgt := 16) hK d_Revoke_afterChange_10 (by decide) ?_
  refine r_aret (v := some (cxE X 7)) hK d_Revoke_afterChange_16 rfl (Or.inl ⟨_, rfl⟩) ?_
  exact ⟨rfl, rfl⟩
set_option maxHeartbeats 1000000 in
theorem c_Locked_act_ticket_Grant (X : gCx) (l : Launch) (s : sS) (o m p k : Nat) (ho : gk s.1 o = 11) (hm : gk s.1 m = 2) (hph : gr s.1 39 o = some (cxE X 3)) (hk : gi s.1 9 m = nI k) (n1 : m ≠ o) : gMi X l (HoldP X (Abs X)) M_Locked_act 1 3 10 [.ref o, .ref m, .ref p] s (nI 0) (sSetR (sSetI (sSetI s 46 o (nI k)) 9 m (nI (k + 1))) 39 o (some (cxE X 4))) := by
  refine gM_intro (by decide) (Nat.le_of_ble_eq_true rfl) (fun K hK => ?_)
  show K 0 [(0, .ref o), (1, .ref m), (2, .ref p)] [] s 3 10
  refine r_aload_n hK d_Locked_act_0 rfl 0 rfl ?_
  refine p_getR (f := 39) (v := some (cxE X 3)) hK d_Locked_act_1 k_Grant fd_Locked_22_Grant (by decide) rfl rfl (fun g h => h.getR ho (by decide) rfl hph) ?_
  refine r_callUi (As := []) (b := cxE X 3) (st := []) hK (c_Enum_ordinal X l (HoldP X (Abs X)) s 3 (nI 3) (by decide) (by decide)) d_Locked_act_4 ml_Locked_25 cu_Phase_Phase_Enum_ordinal rfl (by decide) (p_recvE (by decide)) (Nat.le_of_ble_eq_true rfl) ?_ rfl
  refine r_tableIn (off := 45) (tgt := 52) hK d_Locked_act_7 (by decide) (by decide) (by decide) (by decide) ?_
  refine r_aload_n hK d_Locked_act_52 rfl 0 rfl ?_
  refine r_aload_n hK d_Locked_act_53 rfl 1 rfl ?_
  refine p_getI (f := 9) (v := nI k) hK d_Locked_act_54 k_Machine fd_Locked_29_Machine (by decide) rfl rfl (fun g h => h.getI hm (by decide) rfl hk) ?_
  refine p_putI (k := 5) (f := 46) hK d_Locked_act_57 k_Grant fd_Locked_34_Grant (by decide) rfl rfl rfl rfl rfl (fun g h => ⟨h.kd ho (by decide), h.setI (nz_of (k := 10) ho) rfl⟩) ?_
  refine r_aload_n hK d_Locked_act_60 rfl 1 rfl ?_
  refine r_dup hK d_Locked_act_61 rfl ?_
  refine p_getI (f := 9) (v := nI k) hK d_Locked_act_62 k_Machine fd_Locked_29_Machine (by decide) rfl rfl (fun g h => h.getI hm (by decide) rfl (by simp [sSetI, sSetR, sSetA, sSetB, sSetQ, sSetL, sSetT, sNew, sNewA, sNewL, sPush, sBump, sBegL, sPutT, sq, sl, sr, gSetI, gSetR, gSetA, gSetB, gNew, gNewA, up2, up1, gx, gk, gl, gi, gr, ga, gb, n1, hk])) ?_
  refine r_iconst (v := nI 1) hK d_Locked_act_65 (by decide) ?_
  refine r_iadd hK d_Locked_act_66 ?_
  refine r_tp (b := nI (k + 1)) (nI_add _ _) ?_
  refine p_putI (k := 4) (f := 9) hK d_Locked_act_67 k_Machine fd_Locked_29_Machine (by decide) rfl rfl rfl rfl rfl (fun g h => ⟨h.kd hm (by decide), h.setI (nz_of (k := 1) hm) rfl⟩) ?_
  refine r_aload_n hK d_Locked_act_70 rfl 0 rfl ?_
  refine p_phase (e0 := 4) hK d_Locked_act_71 rfl fs_Locked_37 ?_
  refine r_callUi (As := [.ref (cxE X 4)]) (b := o) (st := []) hK (c_Order_go_Grant X l (sSetI (sSetI s 46 o (nI k)) 9 m (nI (k + 1))) o (cxE X 4) ho) d_Locked_act_74 ml_Locked_40 cu_Grant_Locked_Order_go rfl (by decide) (p_recv k_Grant (fun g h => h.kd ho (by decide))) (Nat.le_of_ble_eq_true rfl) ?_ rfl
  refine r_iret hK d_Locked_act_77 rfl (rfl) ?_
  exact ⟨rfl, rfl⟩
set_option maxHeartbeats 1000000 in
theorem c_Locked_act_wait1_Grant (X : gCx) (l : Launch) (s : sS) (o m p : Nat) (tk : Int32) (ho : gk s.1 o = 11) (hm : gk s.1 m = 2) (hph : gr s.1 39 o = some (cxE X 4)) (htk : gi s.1 46 o = tk) (hsv : gi s.1 10 m = tk) : gMi X l (HoldP X (Abs X)) M_Locked_act 1 3 10 [.ref o, .ref m, .ref p] s (nI 0) (sSetR s 39 o (some (cxE X 5))) := by
  refine gM_intro (by decide) (Nat.le_of_ble_eq_true rfl) (fun K hK => ?_)
  show K 0 [(0, .ref o), (1, .ref m), (2, .ref p)] [] s 3 10
  refine r_aload_n hK d_Locked_act_0 rfl 0 rfl ?_
  refine p_getR (f := 39) (v := some (cxE X 4)) hK d_Locked_act_1 k_Grant fd_Locked_22_Grant (by decide) rfl rfl (fun g h => h.getR ho (by decide) rfl hph) ?_
  refine r_callUi (As := []) (b := cxE X 4) (st := []) hK (c_Enum_ordinal X l (HoldP X (Abs X)) s 4 (nI 4) (by decide) (by decide)) d_Locked_act_4 ml_Locked_25 cu_Phase_Phase_Enum_ordinal rfl (by decide) (p_recvE (by decide)) (Nat.le_of_ble_eq_true rfl) ?_ rfl
  refine r_tableIn (off := 71) (tgt := 78) hK d_Locked_act_7 (by decide) (by decide) (by decide) (by decide) ?_
  refine r_aload_n hK d_Locked_act_78 rfl 0 rfl ?_
  refine r_aload_n hK d_Locked_act_79 rfl 0 rfl ?_
  refine p_getI (f := 46) (v := tk) hK d_Locked_act_80 k_Grant fd_Locked_34_Grant (by decide) rfl rfl (fun g h => h.getI ho (by decide) rfl htk) ?_
  refine r_aload_n hK d_Locked_act_83 rfl 1 rfl ?_
  refine p_getI (f := 10) (v := tk) hK d_Locked_act_84 k_Machine fd_Locked_44_Machine (by decide) rfl rfl (fun g h => h.getI hm (by decide) rfl hsv) ?_
  refine r_icmp_ne (tgt := 97) hK d_Locked_act_87 (by decide) (fun z => False.elim (z rfl)) (fun c87 => ?_)
  refine r_aload_n hK d_Locked_act_90 rfl 0 rfl ?_
  refine r_callUr (As := []) (b := o) (st := [.ref o]) hK (c_Grant_afterWait X l s o) d_Locked_act_91 ml_Locked_47 cu_Grant_Locked_Grant_afterWait rfl (by decide) (p_recv k_Grant (fun g h => h.kd ho (by decide))) (Nat.le_of_ble_eq_true rfl) ?_ rfl
  refine r_goto (tgt := 100) hK d_Locked_act_94 (by decide) ?_
  refine r_callUi (As := [.ref (cxE X 5)]) (b := o) (st := []) hK (c_Order_go_Grant X l s o (cxE X 5) ho) d_Locked_act_100 ml_Locked_40 cu_Grant_Locked_Order_go rfl (by decide) (p_recv k_Grant (fun g h => h.kd ho (by decide))) (Nat.le_of_ble_eq_true rfl) ?_ rfl
  refine r_iret hK d_Locked_act_103 rfl (rfl) ?_
  exact ⟨rfl, rfl⟩
set_option maxHeartbeats 1000000 in
theorem c_Locked_act_wait0_Grant (X : gCx) (l : Launch) (s : sS) (o m p : Nat) (tk sv : Int32) (ho : gk s.1 o = 11) (hm : gk s.1 m = 2) (hph : gr s.1 39 o = some (cxE X 4)) (htk : gi s.1 46 o = tk) (hsv : gi s.1 10 m = sv) (hne : tk ≠ sv) : gMi X l (HoldP X (Abs X)) M_Locked_act 1 3 10 [.ref o, .ref m, .ref p] s (nI 0) (sSetR s 39 o (some (cxE X 4))) := by
  refine gM_intro (by decide) (Nat.le_of_ble_eq_true rfl) (fun K hK => ?_)
  show K 0 [(0, .ref o), (1, .ref m), (2, .ref p)] [] s 3 10
  refine r_aload_n hK d_Locked_act_0 rfl 0 rfl ?_
  refine p_getR (f := 39) (v := some (cxE X 4)) hK d_Locked_act_1 k_Grant fd_Locked_22_Grant (by decide) rfl rfl (fun g h => h.getR ho (by decide) rfl hph) ?_
  refine r_callUi (As := []) (b := cxE X 4) (st := []) hK (c_Enum_ordinal X l (HoldP X (Abs X)) s 4 (nI 4) (by decide) (by decide)) d_Locked_act_4 ml_Locked_25 cu_Phase_Phase_Enum_ordinal rfl (by decide) (p_recvE (by decide)) (Nat.le_of_ble_eq_true rfl) ?_ rfl
  refine r_tableIn (off := 71) (tgt := 78) hK d_Locked_act_7 (by decide) (by decide) (by decide) (by decide) ?_
  refine r_aload_n hK d_Locked_act_78 rfl 0 rfl ?_
  refine r_aload_n hK d_Locked_act_79 rfl 0 rfl ?_
  refine p_getI (f := 46) (v := tk) hK d_Locked_act_80 k_Grant fd_Locked_34_Grant (by decide) rfl rfl (fun g h => h.getI ho (by decide) rfl htk) ?_
  refine r_aload_n hK d_Locked_act_83 rfl 1 rfl ?_
  refine p_getI (f := 10) (v := sv) hK d_Locked_act_84 k_Machine fd_Locked_44_Machine (by decide) rfl rfl (fun g h => h.getI hm (by decide) rfl hsv) ?_
  refine r_icmp_ne (tgt := 97) hK d_Locked_act_87 (by decide) (fun c87 => ?_) (fun z => False.elim (hne z))
  refine p_phase (e0 := 4) hK d_Locked_act_97 rfl fs_Locked_37 ?_
  refine r_callUi (As := [.ref (cxE X 4)]) (b := o) (st := []) hK (c_Order_go_Grant X l s o (cxE X 4) ho) d_Locked_act_100 ml_Locked_40 cu_Grant_Locked_Order_go rfl (by decide) (p_recv k_Grant (fun g h => h.kd ho (by decide))) (Nat.le_of_ble_eq_true rfl) ?_ rfl
  refine r_iret hK d_Locked_act_103 rfl (rfl) ?_
  exact ⟨rfl, rfl⟩
set_option maxHeartbeats 1000000 in
theorem c_Locked_act_unlock_Grant (X : gCx) (l : Launch) (s : sS) (o m p k : Nat) (c : Int32) (ho : gk s.1 o = 11) (hm : gk s.1 m = 2) (hph : gr s.1 39 o = some (cxE X 10)) (hc : gi s.1 44 o = c) (hsv : gi s.1 10 m = nI k) (n1 : m ≠ o) : gMi X l (HoldP X (Abs X)) M_Locked_act 1 3 10 [.ref o, .ref m, .ref p] s (nI 1) (sSetI (sSetI s 10 m (nI (k + 1))) 40 o c) := by
  refine gM_intro (by decide) (Nat.le_of_ble_eq_true rfl) (fun K hK => ?_)
  show K 0 [(0, .ref o), (1, .ref m), (2, .ref p)] [] s 3 10
  refine r_aload_n hK d_Locked_act_0 rfl 0 rfl ?_
  refine p_getR (f := 39) (v := some (cxE X 10)) hK d_Locked_act_1 k_Grant fd_Locked_22_Grant (by decide) rfl rfl (fun g h => h.getR ho (by decide) rfl hph) ?_
  refine r_callUi (As := []) (b := cxE X 10) (st := []) hK (c_Enum_ordinal X l (HoldP X (Abs X)) s 10 (nI 10) (by decide) (by decide)) d_Locked_act_4 ml_Locked_25 cu_Phase_Phase_Enum_ordinal rfl (by decide) (p_recvE (by decide)) (Nat.le_of_ble_eq_true rfl) ?_ rfl
  refine r_tableIn (off := 161) (tgt := 168) hK d_Locked_act_7 (by decide) (by decide) (by decide) (by decide) ?_
  refine r_aload_n hK d_Locked_act_168 rfl 1 rfl ?_
  refine r_dup hK d_Locked_act_169 rfl ?_
  refine p_getI (f := 10) (v := nI k) hK d_Locked_act_170 k_Machine fd_Locked_44_Machine (by decide) rfl rfl (fun g h => h.getI hm (by decide) rfl hsv) ?_
  refine r_iconst (v := nI 1) hK d_Locked_act_173 (by decide) ?_
  refine r_iadd hK d_Locked_act_174 ?_
  refine r_tp (b := nI (k + 1)) (nI_add _ _) ?_
  refine p_putI (k := 5) (f := 10) hK d_Locked_act_175 k_Machine fd_Locked_44_Machine (by decide) rfl rfl rfl rfl rfl (fun g h => ⟨h.kd hm (by decide), h.setI (nz_of (k := 1) hm) rfl⟩) ?_
  refine r_aload_n hK d_Locked_act_178 rfl 0 rfl ?_
  refine r_aload_n hK d_Locked_act_179 rfl 0 rfl ?_
  refine p_getI (f := 44) (v := c) hK d_Locked_act_180 k_Grant fd_Locked_58_Grant (by decide) rfl rfl (fun g h => h.getI ho (by decide) rfl (by simp [sSetI, sSetR, sSetA, sSetB, sSetQ, sSetL, sSetT, sNew, sNewA, sNewL, sPush, sBump, sBegL, sPutT, sq, sl, sr, gSetI, gSetR, gSetA, gSetB, gNew, gNewA, up2, up1, gx, gk, gl, gi, gr, ga, gb, n1, hc])) ?_
  refine r_callUi (As := [.int c]) (b := o) (st := []) hK (c_Order_finish_Grant X l (sSetI s 10 m (nI (k + 1))) o c ho) d_Locked_act_183 ml_Locked_67 cu_Grant_Locked_Order_finish rfl (by decide) (p_recv k_Grant (fun g h => h.kd ho (by decide))) (Nat.le_of_ble_eq_true rfl) ?_ rfl
  refine r_iret hK d_Locked_act_186 rfl (rfl) ?_
  exact ⟨rfl, rfl⟩
set_option maxHeartbeats 1000000 in
theorem c_Locked_act_further5_Grant (X : gCx) (l : Launch) (s : sS) (s' : sS) (o m p : Nat) (ho : gk s.1 o = 11) (hm : gk s.1 m = 2) (hph : gr s.1 39 o = some (cxE X 5)) (hfu : gMv X l (HoldP X (Abs X)) M_Grant_further 4 2 5 [.ref o, .ref m, .ref p] s s') : gMi X l (HoldP X (Abs X)) M_Locked_act 5 3 10 [.ref o, .ref m, .ref p] s (nI 0) s' := by
  refine gM_intro (by decide) (Nat.le_of_ble_eq_true rfl) (fun K hK => ?_)
  show K 0 [(0, .ref o), (1, .ref m), (2, .ref p)] [] s 3 10
  refine r_aload_n hK d_Locked_act_0 rfl 0 rfl ?_
  refine p_getR (f := 39) (v := some (cxE X 5)) hK d_Locked_act_1 k_Grant fd_Locked_22_Grant (by decide) rfl rfl (fun g h => h.getR ho (by decide) rfl hph) ?_
  refine r_callUi (As := []) (b := cxE X 5) (st := []) hK (c_Enum_ordinal X l (HoldP X (Abs X)) s 5 (nI 5) (by decide) (by decide)) d_Locked_act_4 ml_Locked_25 cu_Phase_Phase_Enum_ordinal rfl (by decide) (p_recvE (by decide)) (Nat.le_of_ble_eq_true rfl) ?_ rfl
  refine r_tableIn (off := 180) (tgt := 187) hK d_Locked_act_7 (by decide) (by decide) (by decide) (by decide) ?_
  refine r_aload_n hK d_Locked_act_187 rfl 0 rfl ?_
  refine r_aload_n hK d_Locked_act_188 rfl 1 rfl ?_
  refine r_aload_n hK d_Locked_act_189 rfl 2 rfl ?_
  refine r_callUv (As := [.ref m, .ref p]) (b := o) (st := []) hK (hfu) d_Locked_act_190 ml_Locked_71 cu_Grant_Locked_Grant_further rfl (by decide) (p_recv k_Grant (fun g h => h.kd ho (by decide))) (Nat.le_of_ble_eq_true rfl) ?_ rfl
  refine r_iconst (v := nI 0) hK d_Locked_act_193 (by decide) ?_
  refine r_iret hK d_Locked_act_194 rfl (rfl) ?_
  exact ⟨rfl, rfl⟩
set_option maxHeartbeats 1000000 in
theorem c_Locked_act_change00_Grant (X : gCx) (l : Launch) (s : sS) (s1 : sS) (o m p fr aa n c : Nat) (ho : gk s.1 o = 11) (hm : gk s.1 m = 2) (hph : gr s.1 39 o = some (cxE X 6)) (hfr : gi s.1 42 o = nI fr) (hat : gi s.1 45 o = nI aa) (hch : gMi X l (HoldP X (Abs X)) M_Grant_change 3 3 10 [.ref o, .ref m, .ref p, .int (nI (fr + aa))] s (nI 0) s1) (ho1 : gk s1.1 o = 11) (hc1 : gi s1.1 44 o = nI c) (hcb : c < 90) (hat1 : gi s1.1 45 o = nI aa) (hn1 : gi s1.1 43 o = nI n) (hb : aa < 90) (hnb : n < 90) (hln : aa + 1 ≠ n)  : gMi X l (HoldP X (Abs X)) M_Locked_act 4 3 10 [.ref o, .ref m, .ref p] s (nI 0) (sSetR (sSetI s1 45 o (nI (aa + 1))) 39 o (some (cxE X 6))) := by
  refine gM_intro (by decide) (Nat.le_of_ble_eq_true rfl) (fun K hK => ?_)
  show K 0 [(0, .ref o), (1, .ref m), (2, .ref p)] [] s 3 10
  refine r_aload_n hK d_Locked_act_0 rfl 0 rfl ?_
  refine p_getR (f := 39) (v := some (cxE X 6)) hK d_Locked_act_1 k_Grant fd_Locked_22_Grant (by decide) rfl rfl (fun g h => h.getR ho (by decide) rfl hph) ?_
  refine r_callUi (As := []) (b := cxE X 6) (st := []) hK (c_Enum_ordinal X l (HoldP X (Abs X)) s 6 (nI 6) (by decide) (by decide)) d_Locked_act_4 ml_Locked_25 cu_Phase_Phase_Enum_ordinal rfl (by decide) (p_recvE (by decide)) (Nat.le_of_ble_eq_true rfl) ?_ rfl
  refine r_tableIn (off := 97) (tgt := 104) hK d_Locked_act_7 (by decide) (by decide) (by decide) (by decide) ?_
  refine r_aload_n hK d_Locked_act_104 rfl 0 rfl ?_
  refine r_aload_n hK d_Locked_act_105 rfl 1 rfl ?_
  refine r_aload_n hK d_Locked_act_106 rfl 2 rfl ?_
  refine r_aload_n hK d_Locked_act_107 rfl 0 rfl ?_
  refine p_getI (f := 42) (v := nI fr) hK d_Locked_act_108 k_Grant fd_Locked_13_Grant (by decide) rfl rfl (fun g h => h.getI ho (by decide) rfl hfr) ?_
  refine r_aload_n hK d_Locked_act_111 rfl 0 rfl ?_
  refine p_getI (f := 45) (v := nI aa) hK d_Locked_act_112 k_Grant fd_Locked_51_Grant (by decide) rfl rfl (fun g h => h.getI ho (by decide) rfl hat) ?_
  refine r_iadd hK d_Locked_act_115 ?_
  refine r_tp (b := nI (fr + aa)) (nI_add _ _) ?_
  refine r_callUi (As := [.ref m, .ref p, .int (nI (fr + aa))]) (b := o) (st := []) hK (hch) d_Locked_act_116 ml_Locked_54 cu_Grant_Locked_Grant_change rfl (by decide) (p_recv k_Grant (fun g h => h.kd ho (by decide))) (Nat.le_of_ble_eq_true rfl) ?_ rfl
  refine r_nif_eq (a := 0) (tgt := 132) hK d_Locked_act_119 (by decide) (by decide) (fun _ => ?_) (fun z => absurd z (by decide))
  refine r_aload_n hK d_Locked_act_132 rfl 0 rfl ?_
  refine r_dup hK d_Locked_act_133 rfl ?_
  refine p_getI (f := 45) (v := nI aa) hK d_Locked_act_134 k_Grant fd_Locked_51_Grant (by decide) rfl rfl (fun g h => h.getI ho1 (by decide) rfl hat1) ?_
  refine r_iconst (v := nI 1) hK d_Locked_act_137 (by decide) ?_
  refine r_iadd hK d_Locked_act_138 ?_
  refine r_tp (b := nI (aa + 1)) (nI_add _ _) ?_
  refine p_putI (k := 4) (f := 45) hK d_Locked_act_139 k_Grant fd_Locked_51_Grant (by decide) rfl rfl rfl rfl rfl (fun g h => ⟨h.kd ho1 (by decide), h.setI (nz_of (k := 10) ho1) rfl⟩) ?_
  refine r_aload_n hK d_Locked_act_142 rfl 0 rfl ?_
  refine r_aload_n hK d_Locked_act_143 rfl 0 rfl ?_
  refine p_getI (f := 45) (v := nI (aa + 1)) hK d_Locked_act_144 k_Grant fd_Locked_51_Grant (by decide) rfl rfl (fun g h => h.getI ho1 (by decide) rfl (by simp [sSetI, sSetR, sSetA, sSetB, sSetQ, sSetL, sSetT, sNew, sNewA, sNewL, sPush, sBump, sBegL, sPutT, sq, sl, sr, gSetI, gSetR, gSetA, gSetB, gNew, gNewA, up2, up1, gx, gk, gl, gi, gr, ga, gb])) ?_
  refine r_aload_n hK d_Locked_act_147 rfl 0 rfl ?_
  refine p_getI (f := 43) (v := nI n) hK d_Locked_act_148 k_Grant fd_Locked_19_Grant (by decide) rfl rfl (fun g h => h.getI ho1 (by decide) rfl (by simp [sSetI, sSetR, sSetA, sSetB, sSetQ, sSetL, sSetT, sNew, sNewA, sNewL, sPush, sBump, sBegL, sPutT, sq, sl, sr, gSetI, gSetR, gSetA, gSetB, gNew, gNewA, up2, up1, gx, gk, gl, gi, gr, ga, gb, hn1])) ?_
  refine r_ncmp_ne (a := aa + 1) (b := n) (tgt := 161) hK d_Locked_act_151 (by decide) (by omega) (by omega) (fun c151 => ?_) (fun z => False.elim (hln z))
  refine p_phase (e0 := 6) hK d_Locked_act_161 rfl fs_Locked_64 ?_
  refine r_callUi (As := [.ref (cxE X 6)]) (b := o) (st := []) hK (c_Order_go_Grant X l (sSetI s1 45 o (nI (aa + 1))) o (cxE X 6) ho1) d_Locked_act_164 ml_Locked_40 cu_Grant_Locked_Order_go rfl (by decide) (p_recv k_Grant (fun g h => h.kd ho1 (by decide))) (Nat.le_of_ble_eq_true rfl) ?_ rfl
  refine r_iret hK d_Locked_act_167 rfl (rfl) ?_
  exact ⟨rfl, rfl⟩
set_option maxHeartbeats 1000000 in
theorem c_Locked_act_change01_Grant (X : gCx) (l : Launch) (s : sS) (s1 : sS) (o m p fr aa n c : Nat) (ho : gk s.1 o = 11) (hm : gk s.1 m = 2) (hph : gr s.1 39 o = some (cxE X 6)) (hfr : gi s.1 42 o = nI fr) (hat : gi s.1 45 o = nI aa) (hch : gMi X l (HoldP X (Abs X)) M_Grant_change 3 3 10 [.ref o, .ref m, .ref p, .int (nI (fr + aa))] s (nI 0) s1) (ho1 : gk s1.1 o = 11) (hc1 : gi s1.1 44 o = nI c) (hcb : c < 90) (hat1 : gi s1.1 45 o = nI aa) (hn1 : gi s1.1 43 o = nI n) (hb : aa < 90) (hnb : n < 90) (hln : aa + 1 = n)  : gMi X l (HoldP X (Abs X)) M_Locked_act 4 3 10 [.ref o, .ref m, .ref p] s (nI 0) (sSetR (sSetI s1 45 o (nI (aa + 1))) 39 o (some (cxE X 10))) := by
  refine gM_intro (by decide) (Nat.le_of_ble_eq_true rfl) (fun K hK => ?_)
  show K 0 [(0, .ref o), (1, .ref m), (2, .ref p)] [] s 3 10
  refine r_aload_n hK d_Locked_act_0 rfl 0 rfl ?_
  refine p_getR (f := 39) (v := some (cxE X 6)) hK d_Locked_act_1 k_Grant fd_Locked_22_Grant (by decide) rfl rfl (fun g h => h.getR ho (by decide) rfl hph) ?_
  refine r_callUi (As := []) (b := cxE X 6) (st := []) hK (c_Enum_ordinal X l (HoldP X (Abs X)) s 6 (nI 6) (by decide) (by decide)) d_Locked_act_4 ml_Locked_25 cu_Phase_Phase_Enum_ordinal rfl (by decide) (p_recvE (by decide)) (Nat.le_of_ble_eq_true rfl) ?_ rfl
  refine r_tableIn (off := 97) (tgt := 104) hK d_Locked_act_7 (by decide) (by decide) (by decide) (by decide) ?_
  refine r_aload_n hK d_Locked_act_104 rfl 0 rfl ?_
  refine r_aload_n hK d_Locked_act_105 rfl 1 rfl ?_
  refine r_aload_n hK d_Locked_act_106 rfl 2 rfl ?_
  refine r_aload_n hK d_Locked_act_107 rfl 0 rfl ?_
  refine p_getI (f := 42) (v := nI fr) hK d_Locked_act_108 k_Grant fd_Locked_13_Grant (by decide) rfl rfl (fun g h => h.getI ho (by decide) rfl hfr) ?_
  refine r_aload_n hK d_Locked_act_111 rfl 0 rfl ?_
  refine p_getI (f := 45) (v := nI aa) hK d_Locked_act_112 k_Grant fd_Locked_51_Grant (by decide) rfl rfl (fun g h => h.getI ho (by decide) rfl hat) ?_
  refine r_iadd hK d_Locked_act_115 ?_
  refine r_tp (b := nI (fr + aa)) (nI_add _ _) ?_
  refine r_callUi (As := [.ref m, .ref p, .int (nI (fr + aa))]) (b := o) (st := []) hK (hch) d_Locked_act_116 ml_Locked_54 cu_Grant_Locked_Grant_change rfl (by decide) (p_recv k_Grant (fun g h => h.kd ho (by decide))) (Nat.le_of_ble_eq_true rfl) ?_ rfl
  refine r_nif_eq (a := 0) (tgt := 132) hK d_Locked_act_119 (by decide) (by decide) (fun _ => ?_) (fun z => absurd z (by decide))
  refine r_aload_n hK d_Locked_act_132 rfl 0 rfl ?_
  refine r_dup hK d_Locked_act_133 rfl ?_
  refine p_getI (f := 45) (v := nI aa) hK d_Locked_act_134 k_Grant fd_Locked_51_Grant (by decide) rfl rfl (fun g h => h.getI ho1 (by decide) rfl hat1) ?_
  refine r_iconst (v := nI 1) hK d_Locked_act_137 (by decide) ?_
  refine r_iadd hK d_Locked_act_138 ?_
  refine r_tp (b := nI (aa + 1)) (nI_add _ _) ?_
  refine p_putI (k := 4) (f := 45) hK d_Locked_act_139 k_Grant fd_Locked_51_Grant (by decide) rfl rfl rfl rfl rfl (fun g h => ⟨h.kd ho1 (by decide), h.setI (nz_of (k := 10) ho1) rfl⟩) ?_
  refine r_aload_n hK d_Locked_act_142 rfl 0 rfl ?_
  refine r_aload_n hK d_Locked_act_143 rfl 0 rfl ?_
  refine p_getI (f := 45) (v := nI (aa + 1)) hK d_Locked_act_144 k_Grant fd_Locked_51_Grant (by decide) rfl rfl (fun g h => h.getI ho1 (by decide) rfl (by simp [sSetI, sSetR, sSetA, sSetB, sSetQ, sSetL, sSetT, sNew, sNewA, sNewL, sPush, sBump, sBegL, sPutT, sq, sl, sr, gSetI, gSetR, gSetA, gSetB, gNew, gNewA, up2, up1, gx, gk, gl, gi, gr, ga, gb])) ?_
  refine r_aload_n hK d_Locked_act_147 rfl 0 rfl ?_
  refine p_getI (f := 43) (v := nI n) hK d_Locked_act_148 k_Grant fd_Locked_19_Grant (by decide) rfl rfl (fun g h => h.getI ho1 (by decide) rfl (by simp [sSetI, sSetR, sSetA, sSetB, sSetQ, sSetL, sSetT, sNew, sNewA, sNewL, sPush, sBump, sBegL, sPutT, sq, sl, sr, gSetI, gSetR, gSetA, gSetB, gNew, gNewA, up2, up1, gx, gk, gl, gi, gr, ga, gb, hn1])) ?_
  refine r_ncmp_ne (a := aa + 1) (b := n) (tgt := 161) hK d_Locked_act_151 (by decide) (by omega) (by omega) (fun z => False.elim (z hln)) (fun c151 => ?_)
  refine r_aload_n hK d_Locked_act_154 rfl 0 rfl ?_
  refine r_callUr (As := []) (b := o) (st := [.ref o]) hK (c_Grant_afterChange X l (sSetI s1 45 o (nI (aa + 1))) o) d_Locked_act_155 ml_Locked_61 cu_Grant_Locked_Grant_afterChange rfl (by decide) (p_recv k_Grant (fun g h => h.kd ho1 (by decide))) (Nat.le_of_ble_eq_true rfl) ?_ rfl
  refine r_goto (tgt := 164) hK d_Locked_act_158 (by decide) ?_
  refine r_callUi (As := [.ref (cxE X 10)]) (b := o) (st := []) hK (c_Order_go_Grant X l (sSetI s1 45 o (nI (aa + 1))) o (cxE X 10) ho1) d_Locked_act_164 ml_Locked_40 cu_Grant_Locked_Order_go rfl (by decide) (p_recv k_Grant (fun g h => h.kd ho1 (by decide))) (Nat.le_of_ble_eq_true rfl) ?_ rfl
  refine r_iret hK d_Locked_act_167 rfl (rfl) ?_
  exact ⟨rfl, rfl⟩
set_option maxHeartbeats 1000000 in
theorem c_Locked_act_change10_Grant (X : gCx) (l : Launch) (s : sS) (s1 : sS) (o m p fr aa n c : Nat) (ho : gk s.1 o = 11) (hm : gk s.1 m = 2) (hph : gr s.1 39 o = some (cxE X 6)) (hfr : gi s.1 42 o = nI fr) (hat : gi s.1 45 o = nI aa) (hch : gMi X l (HoldP X (Abs X)) M_Grant_change 3 3 10 [.ref o, .ref m, .ref p, .int (nI (fr + aa))] s (nI 1) s1) (ho1 : gk s1.1 o = 11) (hc1 : gi s1.1 44 o = nI c) (hcb : c < 90) (hat1 : gi s1.1 45 o = nI aa) (hn1 : gi s1.1 43 o = nI n) (hb : aa < 90) (hnb : n < 90) (hln : aa + 1 ≠ n)  : gMi X l (HoldP X (Abs X)) M_Locked_act 4 3 10 [.ref o, .ref m, .ref p] s (nI 0) (sSetR (sSetI (sSetI s1 44 o (nI (c + 1))) 45 o (nI (aa + 1))) 39 o (some (cxE X 6))) := by
  refine gM_intro (by decide) (Nat.le_of_ble_eq_true rfl) (fun K hK => ?_)
  show K 0 [(0, .ref o), (1, .ref m), (2, .ref p)] [] s 3 10
  refine r_aload_n hK d_Locked_act_0 rfl 0 rfl ?_
  refine p_getR (f := 39) (v := some (cxE X 6)) hK d_Locked_act_1 k_Grant fd_Locked_22_Grant (by decide) rfl rfl (fun g h => h.getR ho (by decide) rfl hph) ?_
  refine r_callUi (As := []) (b := cxE X 6) (st := []) hK (c_Enum_ordinal X l (HoldP X (Abs X)) s 6 (nI 6) (by decide) (by decide)) d_Locked_act_4 ml_Locked_25 cu_Phase_Phase_Enum_ordinal rfl (by decide) (p_recvE (by decide)) (Nat.le_of_ble_eq_true rfl) ?_ rfl
  refine r_tableIn (off := 97) (tgt := 104) hK d_Locked_act_7 (by decide) (by decide) (by decide) (by decide) ?_
  refine r_aload_n hK d_Locked_act_104 rfl 0 rfl ?_
  refine r_aload_n hK d_Locked_act_105 rfl 1 rfl ?_
  refine r_aload_n hK d_Locked_act_106 rfl 2 rfl ?_
  refine r_aload_n hK d_Locked_act_107 rfl 0 rfl ?_
  refine p_getI (f := 42) (v := nI fr) hK d_Locked_act_108 k_Grant fd_Locked_13_Grant (by decide) rfl rfl (fun g h => h.getI ho (by decide) rfl hfr) ?_
  refine r_aload_n hK d_Locked_act_111 rfl 0 rfl ?_
  refine p_getI (f := 45) (v := nI aa) hK d_Locked_act_112 k_Grant fd_Locked_51_Grant (by decide) rfl rfl (fun g h => h.getI ho (by decide) rfl hat) ?_
  refine r_iadd hK d_Locked_act_115 ?_
  refine r_tp (b := nI (fr + aa)) (nI_add _ _) ?_
  refine r_callUi (As := [.ref m, .ref p, .int (nI (fr + aa))]) (b := o) (st := []) hK (hch) d_Locked_act_116 ml_Locked_54 cu_Grant_Locked_Grant_change rfl (by decide) (p_recv k_Grant (fun g h => h.kd ho (by decide))) (Nat.le_of_ble_eq_true rfl) ?_ rfl
  refine r_nif_eq (a := 1) (tgt := 132) hK d_Locked_act_119 (by decide) (by decide) (fun z => absurd z (by decide)) (fun _ => ?_)
  refine r_aload_n hK d_Locked_act_122 rfl 0 rfl ?_
  refine r_dup hK d_Locked_act_123 rfl ?_
  refine p_getI (f := 44) (v := nI c) hK d_Locked_act_124 k_Grant fd_Locked_58_Grant (by decide) rfl rfl (fun g h => h.getI ho1 (by decide) rfl hc1) ?_
  refine r_iconst (v := nI 1) hK d_Locked_act_127 (by decide) ?_
  refine r_iadd hK d_Locked_act_128 ?_
  refine r_tp (b := nI (c + 1)) (nI_add _ _) ?_
  refine p_putI (k := 3) (f := 44) hK d_Locked_act_129 k_Grant fd_Locked_58_Grant (by decide) rfl rfl rfl rfl rfl (fun g h => ⟨h.kd ho1 (by decide), h.setI (nz_of (k := 10) ho1) rfl⟩) ?_
  refine r_aload_n hK d_Locked_act_132 rfl 0 rfl ?_
  refine r_dup hK d_Locked_act_133 rfl ?_
  refine p_getI (f := 45) (v := nI aa) hK d_Locked_act_134 k_Grant fd_Locked_51_Grant (by decide) rfl rfl (fun g h => h.getI ho1 (by decide) rfl (by simp [sSetI, sSetR, sSetA, sSetB, sSetQ, sSetL, sSetT, sNew, sNewA, sNewL, sPush, sBump, sBegL, sPutT, sq, sl, sr, gSetI, gSetR, gSetA, gSetB, gNew, gNewA, up2, up1, gx, gk, gl, gi, gr, ga, gb, hat1])) ?_
  refine r_iconst (v := nI 1) hK d_Locked_act_137 (by decide) ?_
  refine r_iadd hK d_Locked_act_138 ?_
  refine r_tp (b := nI (aa + 1)) (nI_add _ _) ?_
  refine p_putI (k := 4) (f := 45) hK d_Locked_act_139 k_Grant fd_Locked_51_Grant (by decide) rfl rfl rfl rfl rfl (fun g h => ⟨h.kd ho1 (by decide), h.setI (nz_of (k := 10) ho1) rfl⟩) ?_
  refine r_aload_n hK d_Locked_act_142 rfl 0 rfl ?_
  refine r_aload_n hK d_Locked_act_143 rfl 0 rfl ?_
  refine p_getI (f := 45) (v := nI (aa + 1)) hK d_Locked_act_144 k_Grant fd_Locked_51_Grant (by decide) rfl rfl (fun g h => h.getI ho1 (by decide) rfl (by simp [sSetI, sSetR, sSetA, sSetB, sSetQ, sSetL, sSetT, sNew, sNewA, sNewL, sPush, sBump, sBegL, sPutT, sq, sl, sr, gSetI, gSetR, gSetA, gSetB, gNew, gNewA, up2, up1, gx, gk, gl, gi, gr, ga, gb])) ?_
  refine r_aload_n hK d_Locked_act_147 rfl 0 rfl ?_
  refine p_getI (f := 43) (v := nI n) hK d_Locked_act_148 k_Grant fd_Locked_19_Grant (by decide) rfl rfl (fun g h => h.getI ho1 (by decide) rfl (by simp [sSetI, sSetR, sSetA, sSetB, sSetQ, sSetL, sSetT, sNew, sNewA, sNewL, sPush, sBump, sBegL, sPutT, sq, sl, sr, gSetI, gSetR, gSetA, gSetB, gNew, gNewA, up2, up1, gx, gk, gl, gi, gr, ga, gb, hn1])) ?_
  refine r_ncmp_ne (a := aa + 1) (b := n) (tgt := 161) hK d_Locked_act_151 (by decide) (by omega) (by omega) (fun c151 => ?_) (fun z => False.elim (hln z))
  refine p_phase (e0 := 6) hK d_Locked_act_161 rfl fs_Locked_64 ?_
  refine r_callUi (As := [.ref (cxE X 6)]) (b := o) (st := []) hK (c_Order_go_Grant X l (sSetI (sSetI s1 44 o (nI (c + 1))) 45 o (nI (aa + 1))) o (cxE X 6) ho1) d_Locked_act_164 ml_Locked_40 cu_Grant_Locked_Order_go rfl (by decide) (p_recv k_Grant (fun g h => h.kd ho1 (by decide))) (Nat.le_of_ble_eq_true rfl) ?_ rfl
  refine r_iret hK d_Locked_act_167 rfl (rfl) ?_
  exact ⟨rfl, rfl⟩
set_option maxHeartbeats 1000000 in
theorem c_Locked_act_change11_Grant (X : gCx) (l : Launch) (s : sS) (s1 : sS) (o m p fr aa n c : Nat) (ho : gk s.1 o = 11) (hm : gk s.1 m = 2) (hph : gr s.1 39 o = some (cxE X 6)) (hfr : gi s.1 42 o = nI fr) (hat : gi s.1 45 o = nI aa) (hch : gMi X l (HoldP X (Abs X)) M_Grant_change 3 3 10 [.ref o, .ref m, .ref p, .int (nI (fr + aa))] s (nI 1) s1) (ho1 : gk s1.1 o = 11) (hc1 : gi s1.1 44 o = nI c) (hcb : c < 90) (hat1 : gi s1.1 45 o = nI aa) (hn1 : gi s1.1 43 o = nI n) (hb : aa < 90) (hnb : n < 90) (hln : aa + 1 = n)  : gMi X l (HoldP X (Abs X)) M_Locked_act 4 3 10 [.ref o, .ref m, .ref p] s (nI 0) (sSetR (sSetI (sSetI s1 44 o (nI (c + 1))) 45 o (nI (aa + 1))) 39 o (some (cxE X 10))) := by
  refine gM_intro (by decide) (Nat.le_of_ble_eq_true rfl) (fun K hK => ?_)
  show K 0 [(0, .ref o), (1, .ref m), (2, .ref p)] [] s 3 10
  refine r_aload_n hK d_Locked_act_0 rfl 0 rfl ?_
  refine p_getR (f := 39) (v := some (cxE X 6)) hK d_Locked_act_1 k_Grant fd_Locked_22_Grant (by decide) rfl rfl (fun g h => h.getR ho (by decide) rfl hph) ?_
  refine r_callUi (As := []) (b := cxE X 6) (st := []) hK (c_Enum_ordinal X l (HoldP X (Abs X)) s 6 (nI 6) (by decide) (by decide)) d_Locked_act_4 ml_Locked_25 cu_Phase_Phase_Enum_ordinal rfl (by decide) (p_recvE (by decide)) (Nat.le_of_ble_eq_true rfl) ?_ rfl
  refine r_tableIn (off := 97) (tgt := 104) hK d_Locked_act_7 (by decide) (by decide) (by decide) (by decide) ?_
  refine r_aload_n hK d_Locked_act_104 rfl 0 rfl ?_
  refine r_aload_n hK d_Locked_act_105 rfl 1 rfl ?_
  refine r_aload_n hK d_Locked_act_106 rfl 2 rfl ?_
  refine r_aload_n hK d_Locked_act_107 rfl 0 rfl ?_
  refine p_getI (f := 42) (v := nI fr) hK d_Locked_act_108 k_Grant fd_Locked_13_Grant (by decide) rfl rfl (fun g h => h.getI ho (by decide) rfl hfr) ?_
  refine r_aload_n hK d_Locked_act_111 rfl 0 rfl ?_
  refine p_getI (f := 45) (v := nI aa) hK d_Locked_act_112 k_Grant fd_Locked_51_Grant (by decide) rfl rfl (fun g h => h.getI ho (by decide) rfl hat) ?_
  refine r_iadd hK d_Locked_act_115 ?_
  refine r_tp (b := nI (fr + aa)) (nI_add _ _) ?_
  refine r_callUi (As := [.ref m, .ref p, .int (nI (fr + aa))]) (b := o) (st := []) hK (hch) d_Locked_act_116 ml_Locked_54 cu_Grant_Locked_Grant_change rfl (by decide) (p_recv k_Grant (fun g h => h.kd ho (by decide))) (Nat.le_of_ble_eq_true rfl) ?_ rfl
  refine r_nif_eq (a := 1) (tgt := 132) hK d_Locked_act_119 (by decide) (by decide) (fun z => absurd z (by decide)) (fun _ => ?_)
  refine r_aload_n hK d_Locked_act_122 rfl 0 rfl ?_
  refine r_dup hK d_Locked_act_123 rfl ?_
  refine p_getI (f := 44) (v := nI c) hK d_Locked_act_124 k_Grant fd_Locked_58_Grant (by decide) rfl rfl (fun g h => h.getI ho1 (by decide) rfl hc1) ?_
  refine r_iconst (v := nI 1) hK d_Locked_act_127 (by decide) ?_
  refine r_iadd hK d_Locked_act_128 ?_
  refine r_tp (b := nI (c + 1)) (nI_add _ _) ?_
  refine p_putI (k := 3) (f := 44) hK d_Locked_act_129 k_Grant fd_Locked_58_Grant (by decide) rfl rfl rfl rfl rfl (fun g h => ⟨h.kd ho1 (by decide), h.setI (nz_of (k := 10) ho1) rfl⟩) ?_
  refine r_aload_n hK d_Locked_act_132 rfl 0 rfl ?_
  refine r_dup hK d_Locked_act_133 rfl ?_
  refine p_getI (f := 45) (v := nI aa) hK d_Locked_act_134 k_Grant fd_Locked_51_Grant (by decide) rfl rfl (fun g h => h.getI ho1 (by decide) rfl (by simp [sSetI, sSetR, sSetA, sSetB, sSetQ, sSetL, sSetT, sNew, sNewA, sNewL, sPush, sBump, sBegL, sPutT, sq, sl, sr, gSetI, gSetR, gSetA, gSetB, gNew, gNewA, up2, up1, gx, gk, gl, gi, gr, ga, gb, hat1])) ?_
  refine r_iconst (v := nI 1) hK d_Locked_act_137 (by decide) ?_
  refine r_iadd hK d_Locked_act_138 ?_
  refine r_tp (b := nI (aa + 1)) (nI_add _ _) ?_
  refine p_putI (k := 4) (f := 45) hK d_Locked_act_139 k_Grant fd_Locked_51_Grant (by decide) rfl rfl rfl rfl rfl (fun g h => ⟨h.kd ho1 (by decide), h.setI (nz_of (k := 10) ho1) rfl⟩) ?_
  refine r_aload_n hK d_Locked_act_142 rfl 0 rfl ?_
  refine r_aload_n hK d_Locked_act_143 rfl 0 rfl ?_
  refine p_getI (f := 45) (v := nI (aa + 1)) hK d_Locked_act_144 k_Grant fd_Locked_51_Grant (by decide) rfl rfl (fun g h => h.getI ho1 (by decide) rfl (by simp [sSetI, sSetR, sSetA, sSetB, sSetQ, sSetL, sSetT, sNew, sNewA, sNewL, sPush, sBump, sBegL, sPutT, sq, sl, sr, gSetI, gSetR, gSetA, gSetB, gNew, gNewA, up2, up1, gx, gk, gl, gi, gr, ga, gb])) ?_
  refine r_aload_n hK d_Locked_act_147 rfl 0 rfl ?_
  refine p_getI (f := 43) (v := nI n) hK d_Locked_act_148 k_Grant fd_Locked_19_Grant (by decide) rfl rfl (fun g h => h.getI ho1 (by decide) rfl (by simp [sSetI, sSetR, sSetA, sSetB, sSetQ, sSetL, sSetT, sNew, sNewA, sNewL, sPush, sBump, sBegL, sPutT, sq, sl, sr, gSetI, gSetR, gSetA, gSetB, gNew, gNewA, up2, up1, gx, gk, gl, gi, gr, ga, gb, hn1])) ?_
  refine r_ncmp_ne (a := aa + 1) (b := n) (tgt := 161) hK d_Locked_act_151 (by decide) (by omega) (by omega) (fun z => False.elim (z hln)) (fun c151 => ?_)
  refine r_aload_n hK d_Locked_act_154 rfl 0 rfl ?_
  refine r_callUr (As := []) (b := o) (st := [.ref o]) hK (c_Grant_afterChange X l (sSetI (sSetI s1 44 o (nI (c + 1))) 45 o (nI (aa + 1))) o) d_Locked_act_155 ml_Locked_61 cu_Grant_Locked_Grant_afterChange rfl (by decide) (p_recv k_Grant (fun g h => h.kd ho1 (by decide))) (Nat.le_of_ble_eq_true rfl) ?_ rfl
  refine r_goto (tgt := 164) hK d_Locked_act_158 (by decide) ?_
  refine r_callUi (As := [.ref (cxE X 10)]) (b := o) (st := []) hK (c_Order_go_Grant X l (sSetI (sSetI s1 44 o (nI (c + 1))) 45 o (nI (aa + 1))) o (cxE X 10) ho1) d_Locked_act_164 ml_Locked_40 cu_Grant_Locked_Order_go rfl (by decide) (p_recv k_Grant (fun g h => h.kd ho1 (by decide))) (Nat.le_of_ble_eq_true rfl) ?_ rfl
  refine r_iret hK d_Locked_act_167 rfl (rfl) ?_
  exact ⟨rfl, rfl⟩
set_option maxHeartbeats 1000000 in
theorem c_Locked_act_ticket_Revoke (X : gCx) (l : Launch) (s : sS) (o m p k : Nat) (ho : gk s.1 o = 12) (hm : gk s.1 m = 2) (hph : gr s.1 39 o = some (cxE X 3)) (hk : gi s.1 9 m = nI k) (n1 : m ≠ o) : gMi X l (HoldP X (Abs X)) M_Locked_act 1 3 10 [.ref o, .ref m, .ref p] s (nI 0) (sSetR (sSetI (sSetI s 46 o (nI k)) 9 m (nI (k + 1))) 39 o (some (cxE X 4))) := by
  refine gM_intro (by decide) (Nat.le_of_ble_eq_true rfl) (fun K hK => ?_)
  show K 0 [(0, .ref o), (1, .ref m), (2, .ref p)] [] s 3 10
  refine r_aload_n hK d_Locked_act_0 rfl 0 rfl ?_
  refine p_getR (f := 39) (v := some (cxE X 3)) hK d_Locked_act_1 k_Revoke fd_Locked_22_Revoke (by decide) rfl rfl (fun g h => h.getR ho (by decide) rfl hph) ?_
  refine r_callUi (As := []) (b := cxE X 3) (st := []) hK (c_Enum_ordinal X l (HoldP X (Abs X)) s 3 (nI 3) (by decide) (by decide)) d_Locked_act_4 ml_Locked_25 cu_Phase_Phase_Enum_ordinal rfl (by decide) (p_recvE (by decide)) (Nat.le_of_ble_eq_true rfl) ?_ rfl
  refine r_tableIn (off := 45) (tgt := 52) hK d_Locked_act_7 (by decide) (by decide) (by decide) (by decide) ?_
  refine r_aload_n hK d_Locked_act_52 rfl 0 rfl ?_
  refine r_aload_n hK d_Locked_act_53 rfl 1 rfl ?_
  refine p_getI (f := 9) (v := nI k) hK d_Locked_act_54 k_Machine fd_Locked_29_Machine (by decide) rfl rfl (fun g h => h.getI hm (by decide) rfl hk) ?_
  refine p_putI (k := 10) (f := 46) hK d_Locked_act_57 k_Revoke fd_Locked_34_Revoke (by decide) rfl rfl rfl rfl rfl (fun g h => ⟨h.kd ho (by decide), h.setI (nz_of (k := 11) ho) rfl⟩) ?_
  refine r_aload_n hK d_Locked_act_60 rfl 1 rfl ?_
  refine r_dup hK d_Locked_act_61 rfl ?_
  refine p_getI (f := 9) (v := nI k) hK d_Locked_act_62 k_Machine fd_Locked_29_Machine (by decide) rfl rfl (fun g h => h.getI hm (by decide) rfl (by simp [sSetI, sSetR, sSetA, sSetB, sSetQ, sSetL, sSetT, sNew, sNewA, sNewL, sPush, sBump, sBegL, sPutT, sq, sl, sr, gSetI, gSetR, gSetA, gSetB, gNew, gNewA, up2, up1, gx, gk, gl, gi, gr, ga, gb, n1, hk])) ?_
  refine r_iconst (v := nI 1) hK d_Locked_act_65 (by decide) ?_
  refine r_iadd hK d_Locked_act_66 ?_
  refine r_tp (b := nI (k + 1)) (nI_add _ _) ?_
  refine p_putI (k := 4) (f := 9) hK d_Locked_act_67 k_Machine fd_Locked_29_Machine (by decide) rfl rfl rfl rfl rfl (fun g h => ⟨h.kd hm (by decide), h.setI (nz_of (k := 1) hm) rfl⟩) ?_
  refine r_aload_n hK d_Locked_act_70 rfl 0 rfl ?_
  refine p_phase (e0 := 4) hK d_Locked_act_71 rfl fs_Locked_37 ?_
  refine r_callUi (As := [.ref (cxE X 4)]) (b := o) (st := []) hK (c_Order_go_Revoke X l (sSetI (sSetI s 46 o (nI k)) 9 m (nI (k + 1))) o (cxE X 4) ho) d_Locked_act_74 ml_Locked_40 cu_Revoke_Locked_Order_go rfl (by decide) (p_recv k_Revoke (fun g h => h.kd ho (by decide))) (Nat.le_of_ble_eq_true rfl) ?_ rfl
  refine r_iret hK d_Locked_act_77 rfl (rfl) ?_
  exact ⟨rfl, rfl⟩
set_option maxHeartbeats 1000000 in
theorem c_Locked_act_wait1_Revoke (X : gCx) (l : Launch) (s : sS) (o m p : Nat) (tk : Int32) (ho : gk s.1 o = 12) (hm : gk s.1 m = 2) (hph : gr s.1 39 o = some (cxE X 4)) (htk : gi s.1 46 o = tk) (hsv : gi s.1 10 m = tk) : gMi X l (HoldP X (Abs X)) M_Locked_act 1 3 10 [.ref o, .ref m, .ref p] s (nI 0) (sSetR s 39 o (some (cxE X 6))) := by
  refine gM_intro (by decide) (Nat.le_of_ble_eq_true rfl) (fun K hK => ?_)
  show K 0 [(0, .ref o), (1, .ref m), (2, .ref p)] [] s 3 10
  refine r_aload_n hK d_Locked_act_0 rfl 0 rfl ?_
  refine p_getR (f := 39) (v := some (cxE X 4)) hK d_Locked_act_1 k_Revoke fd_Locked_22_Revoke (by decide) rfl rfl (fun g h => h.getR ho (by decide) rfl hph) ?_
  refine r_callUi (As := []) (b := cxE X 4) (st := []) hK (c_Enum_ordinal X l (HoldP X (Abs X)) s 4 (nI 4) (by decide) (by decide)) d_Locked_act_4 ml_Locked_25 cu_Phase_Phase_Enum_ordinal rfl (by decide) (p_recvE (by decide)) (Nat.le_of_ble_eq_true rfl) ?_ rfl
  refine r_tableIn (off := 71) (tgt := 78) hK d_Locked_act_7 (by decide) (by decide) (by decide) (by decide) ?_
  refine r_aload_n hK d_Locked_act_78 rfl 0 rfl ?_
  refine r_aload_n hK d_Locked_act_79 rfl 0 rfl ?_
  refine p_getI (f := 46) (v := tk) hK d_Locked_act_80 k_Revoke fd_Locked_34_Revoke (by decide) rfl rfl (fun g h => h.getI ho (by decide) rfl htk) ?_
  refine r_aload_n hK d_Locked_act_83 rfl 1 rfl ?_
  refine p_getI (f := 10) (v := tk) hK d_Locked_act_84 k_Machine fd_Locked_44_Machine (by decide) rfl rfl (fun g h => h.getI hm (by decide) rfl hsv) ?_
  refine r_icmp_ne (tgt := 97) hK d_Locked_act_87 (by decide) (fun z => False.elim (z rfl)) (fun c87 => ?_)
  refine r_aload_n hK d_Locked_act_90 rfl 0 rfl ?_
  refine r_callUr (As := []) (b := o) (st := [.ref o]) hK (c_Revoke_afterWait X l s o) d_Locked_act_91 ml_Locked_47 cu_Revoke_Locked_Revoke_afterWait rfl (by decide) (p_recv k_Revoke (fun g h => h.kd ho (by decide))) (Nat.le_of_ble_eq_true rfl) ?_ rfl
  refine r_goto (tgt := 100) hK d_Locked_act_94 (by decide) ?_
  refine r_callUi (As := [.ref (cxE X 6)]) (b := o) (st := []) hK (c_Order_go_Revoke X l s o (cxE X 6) ho) d_Locked_act_100 ml_Locked_40 cu_Revoke_Locked_Order_go rfl (by decide) (p_recv k_Revoke (fun g h => h.kd ho (by decide))) (Nat.le_of_ble_eq_true rfl) ?_ rfl
  refine r_iret hK d_Locked_act_103 rfl (rfl) ?_
  exact ⟨rfl, rfl⟩
set_option maxHeartbeats 1000000 in
theorem c_Locked_act_wait0_Revoke (X : gCx) (l : Launch) (s : sS) (o m p : Nat) (tk sv : Int32) (ho : gk s.1 o = 12) (hm : gk s.1 m = 2) (hph : gr s.1 39 o = some (cxE X 4)) (htk : gi s.1 46 o = tk) (hsv : gi s.1 10 m = sv) (hne : tk ≠ sv) : gMi X l (HoldP X (Abs X)) M_Locked_act 1 3 10 [.ref o, .ref m, .ref p] s (nI 0) (sSetR s 39 o (some (cxE X 4))) := by
  refine gM_intro (by decide) (Nat.le_of_ble_eq_true rfl) (fun K hK => ?_)
  show K 0 [(0, .ref o), (1, .ref m), (2, .ref p)] [] s 3 10
  refine r_aload_n hK d_Locked_act_0 rfl 0 rfl ?_
  refine p_getR (f := 39) (v := some (cxE X 4)) hK d_Locked_act_1 k_Revoke fd_Locked_22_Revoke (by decide) rfl rfl (fun g h => h.getR ho (by decide) rfl hph) ?_
  refine r_callUi (As := []) (b := cxE X 4) (st := []) hK (c_Enum_ordinal X l (HoldP X (Abs X)) s 4 (nI 4) (by decide) (by decide)) d_Locked_act_4 ml_Locked_25 cu_Phase_Phase_Enum_ordinal rfl (by decide) (p_recvE (by decide)) (Nat.le_of_ble_eq_true rfl) ?_ rfl
  refine r_tableIn (off := 71) (tgt := 78) hK d_Locked_act_7 (by decide) (by decide) (by decide) (by decide) ?_
  refine r_aload_n hK d_Locked_act_78 rfl 0 rfl ?_
  refine r_aload_n hK d_Locked_act_79 rfl 0 rfl ?_
  refine p_getI (f := 46) (v := tk) hK d_Locked_act_80 k_Revoke fd_Locked_34_Revoke (by decide) rfl rfl (fun g h => h.getI ho (by decide) rfl htk) ?_
  refine r_aload_n hK d_Locked_act_83 rfl 1 rfl ?_
  refine p_getI (f := 10) (v := sv) hK d_Locked_act_84 k_Machine fd_Locked_44_Machine (by decide) rfl rfl (fun g h => h.getI hm (by decide) rfl hsv) ?_
  refine r_icmp_ne (tgt := 97) hK d_Locked_act_87 (by decide) (fun c87 => ?_) (fun z => False.elim (hne z))
  refine p_phase (e0 := 4) hK d_Locked_act_97 rfl fs_Locked_37 ?_
  refine r_callUi (As := [.ref (cxE X 4)]) (b := o) (st := []) hK (c_Order_go_Revoke X l s o (cxE X 4) ho) d_Locked_act_100 ml_Locked_40 cu_Revoke_Locked_Order_go rfl (by decide) (p_recv k_Revoke (fun g h => h.kd ho (by decide))) (Nat.le_of_ble_eq_true rfl) ?_ rfl
  refine r_iret hK d_Locked_act_103 rfl (rfl) ?_
  exact ⟨rfl, rfl⟩
set_option maxHeartbeats 1000000 in
theorem c_Locked_act_unlock_Revoke (X : gCx) (l : Launch) (s : sS) (o m p k : Nat) (c : Int32) (ho : gk s.1 o = 12) (hm : gk s.1 m = 2) (hph : gr s.1 39 o = some (cxE X 10)) (hc : gi s.1 44 o = c) (hsv : gi s.1 10 m = nI k) (n1 : m ≠ o) : gMi X l (HoldP X (Abs X)) M_Locked_act 1 3 10 [.ref o, .ref m, .ref p] s (nI 1) (sSetI (sSetI s 10 m (nI (k + 1))) 40 o c) := by
  refine gM_intro (by decide) (Nat.le_of_ble_eq_true rfl) (fun K hK => ?_)
  show K 0 [(0, .ref o), (1, .ref m), (2, .ref p)] [] s 3 10
  refine r_aload_n hK d_Locked_act_0 rfl 0 rfl ?_
  refine p_getR (f := 39) (v := some (cxE X 10)) hK d_Locked_act_1 k_Revoke fd_Locked_22_Revoke (by decide) rfl rfl (fun g h => h.getR ho (by decide) rfl hph) ?_
  refine r_callUi (As := []) (b := cxE X 10) (st := []) hK (c_Enum_ordinal X l (HoldP X (Abs X)) s 10 (nI 10) (by decide) (by decide)) d_Locked_act_4 ml_Locked_25 cu_Phase_Phase_Enum_ordinal rfl (by decide) (p_recvE (by decide)) (Nat.le_of_ble_eq_true rfl) ?_ rfl
  refine r_tableIn (off := 161) (tgt := 168) hK d_Locked_act_7 (by decide) (by decide) (by decide) (by decide) ?_
  refine r_aload_n hK d_Locked_act_168 rfl 1 rfl ?_
  refine r_dup hK d_Locked_act_169 rfl ?_
  refine p_getI (f := 10) (v := nI k) hK d_Locked_act_170 k_Machine fd_Locked_44_Machine (by decide) rfl rfl (fun g h => h.getI hm (by decide) rfl hsv) ?_
  refine r_iconst (v := nI 1) hK d_Locked_act_173 (by decide) ?_
  refine r_iadd hK d_Locked_act_174 ?_
  refine r_tp (b := nI (k + 1)) (nI_add _ _) ?_
  refine p_putI (k := 5) (f := 10) hK d_Locked_act_175 k_Machine fd_Locked_44_Machine (by decide) rfl rfl rfl rfl rfl (fun g h => ⟨h.kd hm (by decide), h.setI (nz_of (k := 1) hm) rfl⟩) ?_
  refine r_aload_n hK d_Locked_act_178 rfl 0 rfl ?_
  refine r_aload_n hK d_Locked_act_179 rfl 0 rfl ?_
  refine p_getI (f := 44) (v := c) hK d_Locked_act_180 k_Revoke fd_Locked_58_Revoke (by decide) rfl rfl (fun g h => h.getI ho (by decide) rfl (by simp [sSetI, sSetR, sSetA, sSetB, sSetQ, sSetL, sSetT, sNew, sNewA, sNewL, sPush, sBump, sBegL, sPutT, sq, sl, sr, gSetI, gSetR, gSetA, gSetB, gNew, gNewA, up2, up1, gx, gk, gl, gi, gr, ga, gb, n1, hc])) ?_
  refine r_callUi (As := [.int c]) (b := o) (st := []) hK (c_Order_finish_Revoke X l (sSetI s 10 m (nI (k + 1))) o c ho) d_Locked_act_183 ml_Locked_67 cu_Revoke_Locked_Order_finish rfl (by decide) (p_recv k_Revoke (fun g h => h.kd ho (by decide))) (Nat.le_of_ble_eq_true rfl) ?_ rfl
  refine r_iret hK d_Locked_act_186 rfl (rfl) ?_
  exact ⟨rfl, rfl⟩
set_option maxHeartbeats 1000000 in
theorem c_Locked_act_further7_Revoke (X : gCx) (l : Launch) (s : sS) (s' : sS) (o m p : Nat) (ho : gk s.1 o = 12) (hm : gk s.1 m = 2) (hph : gr s.1 39 o = some (cxE X 7)) (hfu : gMv X l (HoldP X (Abs X)) M_Revoke_further 4 2 5 [.ref o, .ref m, .ref p] s s') : gMi X l (HoldP X (Abs X)) M_Locked_act 5 3 10 [.ref o, .ref m, .ref p] s (nI 0) s' := by
  refine gM_intro (by decide) (Nat.le_of_ble_eq_true rfl) (fun K hK => ?_)
  show K 0 [(0, .ref o), (1, .ref m), (2, .ref p)] [] s 3 10
  refine r_aload_n hK d_Locked_act_0 rfl 0 rfl ?_
  refine p_getR (f := 39) (v := some (cxE X 7)) hK d_Locked_act_1 k_Revoke fd_Locked_22_Revoke (by decide) rfl rfl (fun g h => h.getR ho (by decide) rfl hph) ?_
  refine r_callUi (As := []) (b := cxE X 7) (st := []) hK (c_Enum_ordinal X l (HoldP X (Abs X)) s 7 (nI 7) (by decide) (by decide)) d_Locked_act_4 ml_Locked_25 cu_Phase_Phase_Enum_ordinal rfl (by decide) (p_recvE (by decide)) (Nat.le_of_ble_eq_true rfl) ?_ rfl
  refine r_tableIn (off := 180) (tgt := 187) hK d_Locked_act_7 (by decide) (by decide) (by decide) (by decide) ?_
  refine r_aload_n hK d_Locked_act_187 rfl 0 rfl ?_
  refine r_aload_n hK d_Locked_act_188 rfl 1 rfl ?_
  refine r_aload_n hK d_Locked_act_189 rfl 2 rfl ?_
  refine r_callUv (As := [.ref m, .ref p]) (b := o) (st := []) hK (hfu) d_Locked_act_190 ml_Locked_71 cu_Revoke_Locked_Revoke_further rfl (by decide) (p_recv k_Revoke (fun g h => h.kd ho (by decide))) (Nat.le_of_ble_eq_true rfl) ?_ rfl
  refine r_iconst (v := nI 0) hK d_Locked_act_193 (by decide) ?_
  refine r_iret hK d_Locked_act_194 rfl (rfl) ?_
  exact ⟨rfl, rfl⟩
set_option maxHeartbeats 1000000 in
theorem c_Locked_act_further8_Revoke (X : gCx) (l : Launch) (s : sS) (s' : sS) (o m p : Nat) (ho : gk s.1 o = 12) (hm : gk s.1 m = 2) (hph : gr s.1 39 o = some (cxE X 8)) (hfu : gMv X l (HoldP X (Abs X)) M_Revoke_further 4 2 5 [.ref o, .ref m, .ref p] s s') : gMi X l (HoldP X (Abs X)) M_Locked_act 5 3 10 [.ref o, .ref m, .ref p] s (nI 0) s' := by
  refine gM_intro (by decide) (Nat.le_of_ble_eq_true rfl) (fun K hK => ?_)
  show K 0 [(0, .ref o), (1, .ref m), (2, .ref p)] [] s 3 10
  refine r_aload_n hK d_Locked_act_0 rfl 0 rfl ?_
  refine p_getR (f := 39) (v := some (cxE X 8)) hK d_Locked_act_1 k_Revoke fd_Locked_22_Revoke (by decide) rfl rfl (fun g h => h.getR ho (by decide) rfl hph) ?_
  refine r_callUi (As := []) (b := cxE X 8) (st := []) hK (c_Enum_ordinal X l (HoldP X (Abs X)) s 8 (nI 8) (by decide) (by decide)) d_Locked_act_4 ml_Locked_25 cu_Phase_Phase_Enum_ordinal rfl (by decide) (p_recvE (by decide)) (Nat.le_of_ble_eq_true rfl) ?_ rfl
  refine r_tableIn (off := 180) (tgt := 187) hK d_Locked_act_7 (by decide) (by decide) (by decide) (by decide) ?_
  refine r_aload_n hK d_Locked_act_187 rfl 0 rfl ?_
  refine r_aload_n hK d_Locked_act_188 rfl 1 rfl ?_
  refine r_aload_n hK d_Locked_act_189 rfl 2 rfl ?_
  refine r_callUv (As := [.ref m, .ref p]) (b := o) (st := []) hK (hfu) d_Locked_act_190 ml_Locked_71 cu_Revoke_Locked_Revoke_further rfl (by decide) (p_recv k_Revoke (fun g h => h.kd ho (by decide))) (Nat.le_of_ble_eq_true rfl) ?_ rfl
  refine r_iconst (v := nI 0) hK d_Locked_act_193 (by decide) ?_
  refine r_iret hK d_Locked_act_194 rfl (rfl) ?_
  exact ⟨rfl, rfl⟩
set_option maxHeartbeats 1000000 in
theorem c_Locked_act_further9_Revoke (X : gCx) (l : Launch) (s : sS) (s' : sS) (o m p : Nat) (ho : gk s.1 o = 12) (hm : gk s.1 m = 2) (hph : gr s.1 39 o = some (cxE X 9)) (hfu : gMv X l (HoldP X (Abs X)) M_Revoke_further 4 2 5 [.ref o, .ref m, .ref p] s s') : gMi X l (HoldP X (Abs X)) M_Locked_act 5 3 10 [.ref o, .ref m, .ref p] s (nI 0) s' := by
  refine gM_intro (by decide) (Nat.le_of_ble_eq_true rfl) (fun K hK => ?_)
  show K 0 [(0, .ref o), (1, .ref m), (2, .ref p)] [] s 3 10
  refine r_aload_n hK d_Locked_act_0 rfl 0 rfl ?_
  refine p_getR (f := 39) (v := some (cxE X 9)) hK d_Locked_act_1 k_Revoke fd_Locked_22_Revoke (by decide) rfl rfl (fun g h => h.getR ho (by decide) rfl hph) ?_
  refine r_callUi (As := []) (b := cxE X 9) (st := []) hK (c_Enum_ordinal X l (HoldP X (Abs X)) s 9 (nI 9) (by decide) (by decide)) d_Locked_act_4 ml_Locked_25 cu_Phase_Phase_Enum_ordinal rfl (by decide) (p_recvE (by decide)) (Nat.le_of_ble_eq_true rfl) ?_ rfl
  refine r_tableIn (off := 180) (tgt := 187) hK d_Locked_act_7 (by decide) (by decide) (by decide) (by decide) ?_
  refine r_aload_n hK d_Locked_act_187 rfl 0 rfl ?_
  refine r_aload_n hK d_Locked_act_188 rfl 1 rfl ?_
  refine r_aload_n hK d_Locked_act_189 rfl 2 rfl ?_
  refine r_callUv (As := [.ref m, .ref p]) (b := o) (st := []) hK (hfu) d_Locked_act_190 ml_Locked_71 cu_Revoke_Locked_Revoke_further rfl (by decide) (p_recv k_Revoke (fun g h => h.kd ho (by decide))) (Nat.le_of_ble_eq_true rfl) ?_ rfl
  refine r_iconst (v := nI 0) hK d_Locked_act_193 (by decide) ?_
  refine r_iret hK d_Locked_act_194 rfl (rfl) ?_
  exact ⟨rfl, rfl⟩
set_option maxHeartbeats 1000000 in
theorem c_Locked_act_change00_Revoke (X : gCx) (l : Launch) (s : sS) (s1 : sS) (o m p fr aa n c : Nat) (ho : gk s.1 o = 12) (hm : gk s.1 m = 2) (hph : gr s.1 39 o = some (cxE X 6)) (hfr : gi s.1 42 o = nI fr) (hat : gi s.1 45 o = nI aa) (hch : gMi X l (HoldP X (Abs X)) M_Revoke_change 3 3 10 [.ref o, .ref m, .ref p, .int (nI (fr + aa))] s (nI 0) s1) (ho1 : gk s1.1 o = 12) (hc1 : gi s1.1 44 o = nI c) (hcb : c < 90) (hat1 : gi s1.1 45 o = nI aa) (hn1 : gi s1.1 43 o = nI n) (hb : aa < 90) (hnb : n < 90) (hln : aa + 1 ≠ n)  : gMi X l (HoldP X (Abs X)) M_Locked_act 4 3 10 [.ref o, .ref m, .ref p] s (nI 0) (sSetR (sSetI s1 45 o (nI (aa + 1))) 39 o (some (cxE X 6))) := by
  refine gM_intro (by decide) (Nat.le_of_ble_eq_true rfl) (fun K hK => ?_)
  show K 0 [(0, .ref o), (1, .ref m), (2, .ref p)] [] s 3 10
  refine r_aload_n hK d_Locked_act_0 rfl 0 rfl ?_
  refine p_getR (f := 39) (v := some (cxE X 6)) hK d_Locked_act_1 k_Revoke fd_Locked_22_Revoke (by decide) rfl rfl (fun g h => h.getR ho (by decide) rfl hph) ?_
  refine r_callUi (As := []) (b := cxE X 6) (st := []) hK (c_Enum_ordinal X l (HoldP X (Abs X)) s 6 (nI 6) (by decide) (by decide)) d_Locked_act_4 ml_Locked_25 cu_Phase_Phase_Enum_ordinal rfl (by decide) (p_recvE (by decide)) (Nat.le_of_ble_eq_true rfl) ?_ rfl
  refine r_tableIn (off := 97) (tgt := 104) hK d_Locked_act_7 (by decide) (by decide) (by decide) (by decide) ?_
  refine r_aload_n hK d_Locked_act_104 rfl 0 rfl ?_
  refine r_aload_n hK d_Locked_act_105 rfl 1 rfl ?_
  refine r_aload_n hK d_Locked_act_106 rfl 2 rfl ?_
  refine r_aload_n hK d_Locked_act_107 rfl 0 rfl ?_
  refine p_getI (f := 42) (v := nI fr) hK d_Locked_act_108 k_Revoke fd_Locked_13_Revoke (by decide) rfl rfl (fun g h => h.getI ho (by decide) rfl hfr) ?_
  refine r_aload_n hK d_Locked_act_111 rfl 0 rfl ?_
  refine p_getI (f := 45) (v := nI aa) hK d_Locked_act_112 k_Revoke fd_Locked_51_Revoke (by decide) rfl rfl (fun g h => h.getI ho (by decide) rfl hat) ?_
  refine r_iadd hK d_Locked_act_115 ?_
  refine r_tp (b := nI (fr + aa)) (nI_add _ _) ?_
  refine r_callUi (As := [.ref m, .ref p, .int (nI (fr + aa))]) (b := o) (st := []) hK (hch) d_Locked_act_116 ml_Locked_54 cu_Revoke_Locked_Revoke_change rfl (by decide) (p_recv k_Revoke (fun g h => h.kd ho (by decide))) (Nat.le_of_ble_eq_true rfl) ?_ rfl
  refine r_nif_eq (a := 0) (tgt := 132) hK d_Locked_act_119 (by decide) (by decide) (fun _ => ?_) (fun z => absurd z (by decide))
  refine r_aload_n hK d_Locked_act_132 rfl 0 rfl ?_
  refine r_dup hK d_Locked_act_133 rfl ?_
  refine p_getI (f := 45) (v := nI aa) hK d_Locked_act_134 k_Revoke fd_Locked_51_Revoke (by decide) rfl rfl (fun g h => h.getI ho1 (by decide) rfl hat1) ?_
  refine r_iconst (v := nI 1) hK d_Locked_act_137 (by decide) ?_
  refine r_iadd hK d_Locked_act_138 ?_
  refine r_tp (b := nI (aa + 1)) (nI_add _ _) ?_
  refine p_putI (k := 9) (f := 45) hK d_Locked_act_139 k_Revoke fd_Locked_51_Revoke (by decide) rfl rfl rfl rfl rfl (fun g h => ⟨h.kd ho1 (by decide), h.setI (nz_of (k := 11) ho1) rfl⟩) ?_
  refine r_aload_n hK d_Locked_act_142 rfl 0 rfl ?_
  refine r_aload_n hK d_Locked_act_143 rfl 0 rfl ?_
  refine p_getI (f := 45) (v := nI (aa + 1)) hK d_Locked_act_144 k_Revoke fd_Locked_51_Revoke (by decide) rfl rfl (fun g h => h.getI ho1 (by decide) rfl (by simp [sSetI, sSetR, sSetA, sSetB, sSetQ, sSetL, sSetT, sNew, sNewA, sNewL, sPush, sBump, sBegL, sPutT, sq, sl, sr, gSetI, gSetR, gSetA, gSetB, gNew, gNewA, up2, up1, gx, gk, gl, gi, gr, ga, gb])) ?_
  refine r_aload_n hK d_Locked_act_147 rfl 0 rfl ?_
  refine p_getI (f := 43) (v := nI n) hK d_Locked_act_148 k_Revoke fd_Locked_19_Revoke (by decide) rfl rfl (fun g h => h.getI ho1 (by decide) rfl (by simp [sSetI, sSetR, sSetA, sSetB, sSetQ, sSetL, sSetT, sNew, sNewA, sNewL, sPush, sBump, sBegL, sPutT, sq, sl, sr, gSetI, gSetR, gSetA, gSetB, gNew, gNewA, up2, up1, gx, gk, gl, gi, gr, ga, gb, hn1])) ?_
  refine r_ncmp_ne (a := aa + 1) (b := n) (tgt := 161) hK d_Locked_act_151 (by decide) (by omega) (by omega) (fun c151 => ?_) (fun z => False.elim (hln z))
  refine p_phase (e0 := 6) hK d_Locked_act_161 rfl fs_Locked_64 ?_
  refine r_callUi (As := [.ref (cxE X 6)]) (b := o) (st := []) hK (c_Order_go_Revoke X l (sSetI s1 45 o (nI (aa + 1))) o (cxE X 6) ho1) d_Locked_act_164 ml_Locked_40 cu_Revoke_Locked_Order_go rfl (by decide) (p_recv k_Revoke (fun g h => h.kd ho1 (by decide))) (Nat.le_of_ble_eq_true rfl) ?_ rfl
  refine r_iret hK d_Locked_act_167 rfl (rfl) ?_
  exact ⟨rfl, rfl⟩
set_option maxHeartbeats 1000000 in
theorem c_Locked_act_change01a_Revoke (X : gCx) (l : Launch) (s : sS) (s1 : sS) (o m p fr aa n c : Nat) (ho : gk s.1 o = 12) (hm : gk s.1 m = 2) (hph : gr s.1 39 o = some (cxE X 6)) (hfr : gi s.1 42 o = nI fr) (hat : gi s.1 45 o = nI aa) (hch : gMi X l (HoldP X (Abs X)) M_Revoke_change 3 3 10 [.ref o, .ref m, .ref p, .int (nI (fr + aa))] s (nI 0) s1) (ho1 : gk s1.1 o = 12) (hc1 : gi s1.1 44 o = nI c) (hcb : c < 90) (hc0 : 0 < c) (hat1 : gi s1.1 45 o = nI aa) (hn1 : gi s1.1 43 o = nI n) (hb : aa < 90) (hnb : n < 90) (hln : aa + 1 = n)  : gMi X l (HoldP X (Abs X)) M_Locked_act 4 3 10 [.ref o, .ref m, .ref p] s (nI 0) (sSetR (sSetI s1 45 o (nI (aa + 1))) 39 o (some (cxE X 7))) := by
  refine gM_intro (by decide) (Nat.le_of_ble_eq_true rfl) (fun K hK => ?_)
  show K 0 [(0, .ref o), (1, .ref m), (2, .ref p)] [] s 3 10
  refine r_aload_n hK d_Locked_act_0 rfl 0 rfl ?_
  refine p_getR (f := 39) (v := some (cxE X 6)) hK d_Locked_act_1 k_Revoke fd_Locked_22_Revoke (by decide) rfl rfl (fun g h => h.getR ho (by decide) rfl hph) ?_
  refine r_callUi (As := []) (b := cxE X 6) (st := []) hK (c_Enum_ordinal X l (HoldP X (Abs X)) s 6 (nI 6) (by decide) (by decide)) d_Locked_act_4 ml_Locked_25 cu_Phase_Phase_Enum_ordinal rfl (by decide) (p_recvE (by decide)) (Nat.le_of_ble_eq_true rfl) ?_ rfl
  refine r_tableIn (off := 97) (tgt := 104) hK d_Locked_act_7 (by decide) (by decide) (by decide) (by decide) ?_
  refine r_aload_n hK d_Locked_act_104 rfl 0 rfl ?_
  refine r_aload_n hK d_Locked_act_105 rfl 1 rfl ?_
  refine r_aload_n hK d_Locked_act_106 rfl 2 rfl ?_
  refine r_aload_n hK d_Locked_act_107 rfl 0 rfl ?_
  refine p_getI (f := 42) (v := nI fr) hK d_Locked_act_108 k_Revoke fd_Locked_13_Revoke (by decide) rfl rfl (fun g h => h.getI ho (by decide) rfl hfr) ?_
  refine r_aload_n hK d_Locked_act_111 rfl 0 rfl ?_
  refine p_getI (f := 45) (v := nI aa) hK d_Locked_act_112 k_Revoke fd_Locked_51_Revoke (by decide) rfl rfl (fun g h => h.getI ho (by decide) rfl hat) ?_
  refine r_iadd hK d_Locked_act_115 ?_
  refine r_tp (b := nI (fr + aa)) (nI_add _ _) ?_
  refine r_callUi (As := [.ref m, .ref p, .int (nI (fr + aa))]) (b := o) (st := []) hK (hch) d_Locked_act_116 ml_Locked_54 cu_Revoke_Locked_Revoke_change rfl (by decide) (p_recv k_Revoke (fun g h => h.kd ho (by decide))) (Nat.le_of_ble_eq_true rfl) ?_ rfl
  refine r_nif_eq (a := 0) (tgt := 132) hK d_Locked_act_119 (by decide) (by decide) (fun _ => ?_) (fun z => absurd z (by decide))
  refine r_aload_n hK d_Locked_act_132 rfl 0 rfl ?_
  refine r_dup hK d_Locked_act_133 rfl ?_
  refine p_getI (f := 45) (v := nI aa) hK d_Locked_act_134 k_Revoke fd_Locked_51_Revoke (by decide) rfl rfl (fun g h => h.getI ho1 (by decide) rfl hat1) ?_
  refine r_iconst (v := nI 1) hK d_Locked_act_137 (by decide) ?_
  refine r_iadd hK d_Locked_act_138 ?_
  refine r_tp (b := nI (aa + 1)) (nI_add _ _) ?_
  refine p_putI (k := 9) (f := 45) hK d_Locked_act_139 k_Revoke fd_Locked_51_Revoke (by decide) rfl rfl rfl rfl rfl (fun g h => ⟨h.kd ho1 (by decide), h.setI (nz_of (k := 11) ho1) rfl⟩) ?_
  refine r_aload_n hK d_Locked_act_142 rfl 0 rfl ?_
  refine r_aload_n hK d_Locked_act_143 rfl 0 rfl ?_
  refine p_getI (f := 45) (v := nI (aa + 1)) hK d_Locked_act_144 k_Revoke fd_Locked_51_Revoke (by decide) rfl rfl (fun g h => h.getI ho1 (by decide) rfl (by simp [sSetI, sSetR, sSetA, sSetB, sSetQ, sSetL, sSetT, sNew, sNewA, sNewL, sPush, sBump, sBegL, sPutT, sq, sl, sr, gSetI, gSetR, gSetA, gSetB, gNew, gNewA, up2, up1, gx, gk, gl, gi, gr, ga, gb])) ?_
  refine r_aload_n hK d_Locked_act_147 rfl 0 rfl ?_
  refine p_getI (f := 43) (v := nI n) hK d_Locked_act_148 k_Revoke fd_Locked_19_Revoke (by decide) rfl rfl (fun g h => h.getI ho1 (by decide) rfl (by simp [sSetI, sSetR, sSetA, sSetB, sSetQ, sSetL, sSetT, sNew, sNewA, sNewL, sPush, sBump, sBegL, sPutT, sq, sl, sr, gSetI, gSetR, gSetA, gSetB, gNew, gNewA, up2, up1, gx, gk, gl, gi, gr, ga, gb, hn1])) ?_
  refine r_ncmp_ne (a := aa + 1) (b := n) (tgt := 161) hK d_Locked_act_151 (by decide) (by omega) (by omega) (fun z => False.elim (z hln)) (fun c151 => ?_)
  refine r_aload_n hK d_Locked_act_154 rfl 0 rfl ?_
  refine r_callUr (As := []) (b := o) (st := [.ref o]) hK (c_Revoke_afterChange_1 X l (sSetI s1 45 o (nI (aa + 1))) o c (ho1) (by simp [sSetI, sSetR, sSetA, sSetB, sSetQ, sSetL, sSetT, sNew, sNewA, sNewL, sPush, sBump, sBegL, sPutT, sq, sl, sr, gSetI, gSetR, gSetA, gSetB, gNew, gNewA, up2, up1, gx, gk, gl, gi, gr, ga, gb, hc1]) (by omega) (by omega)) d_Locked_act_155 ml_Locked_61 cu_Revoke_Locked_Revoke_afterChange rfl (by decide) (p_recv k_Revoke (fun g h => h.kd ho1 (by decide))) (Nat.le_of_ble_eq_true rfl) ?_ rfl
  refine r_goto (tgt := 164) hK d_Locked_act_158 (by decide) ?_
  refine r_callUi (As := [.ref (cxE X 7)]) (b := o) (st := []) hK (c_Order_go_Revoke X l (sSetI s1 45 o (nI (aa + 1))) o (cxE X 7) ho1) d_Locked_act_164 ml_Locked_40 cu_Revoke_Locked_Order_go rfl (by decide) (p_recv k_Revoke (fun g h => h.kd ho1 (by decide))) (Nat.le_of_ble_eq_true rfl) ?_ rfl
  refine r_iret hK d_Locked_act_167 rfl (rfl) ?_
  exact ⟨rfl, rfl⟩
set_option maxHeartbeats 1000000 in
theorem c_Locked_act_change01b_Revoke (X : gCx) (l : Launch) (s : sS) (s1 : sS) (o m p fr aa n : Nat) (ho : gk s.1 o = 12) (hm : gk s.1 m = 2) (hph : gr s.1 39 o = some (cxE X 6)) (hfr : gi s.1 42 o = nI fr) (hat : gi s.1 45 o = nI aa) (hch : gMi X l (HoldP X (Abs X)) M_Revoke_change 3 3 10 [.ref o, .ref m, .ref p, .int (nI (fr + aa))] s (nI 0) s1) (ho1 : gk s1.1 o = 12) (hc1 : gi s1.1 44 o = nI 0) (hat1 : gi s1.1 45 o = nI aa) (hn1 : gi s1.1 43 o = nI n) (hb : aa < 90) (hnb : n < 90) (hln : aa + 1 = n)  : gMi X l (HoldP X (Abs X)) M_Locked_act 4 3 10 [.ref o, .ref m, .ref p] s (nI 0) (sSetR (sSetI s1 45 o (nI (aa + 1))) 39 o (some (cxE X 10))) := by
  refine gM_intro (by decide) (Nat.le_of_ble_eq_true rfl) (fun K hK => ?_)
  show K 0 [(0, .ref o), (1, .ref m), (2, .ref p)] [] s 3 10
  refine r_aload_n hK d_Locked_act_0 rfl 0 rfl ?_
  refine p_getR (f := 39) (v := some (cxE X 6)) hK d_Locked_act_1 k_Revoke fd_Locked_22_Revoke (by decide) rfl rfl (fun g h => h.getR ho (by decide) rfl hph) ?_
  refine r_callUi (As := []) (b := cxE X 6) (st := []) hK (c_Enum_ordinal X l (HoldP X (Abs X)) s 6 (nI 6) (by decide) (by decide)) d_Locked_act_4 ml_Locked_25 cu_Phase_Phase_Enum_ordinal rfl (by decide) (p_recvE (by decide)) (Nat.le_of_ble_eq_true rfl) ?_ rfl
  refine r_tableIn (off := 97) (tgt := 104) hK d_Locked_act_7 (by decide) (by decide) (by decide) (by decide) ?_
  refine r_aload_n hK d_Locked_act_104 rfl 0 rfl ?_
  refine r_aload_n hK d_Locked_act_105 rfl 1 rfl ?_
  refine r_aload_n hK d_Locked_act_106 rfl 2 rfl ?_
  refine r_aload_n hK d_Locked_act_107 rfl 0 rfl ?_
  refine p_getI (f := 42) (v := nI fr) hK d_Locked_act_108 k_Revoke fd_Locked_13_Revoke (by decide) rfl rfl (fun g h => h.getI ho (by decide) rfl hfr) ?_
  refine r_aload_n hK d_Locked_act_111 rfl 0 rfl ?_
  refine p_getI (f := 45) (v := nI aa) hK d_Locked_act_112 k_Revoke fd_Locked_51_Revoke (by decide) rfl rfl (fun g h => h.getI ho (by decide) rfl hat) ?_
  refine r_iadd hK d_Locked_act_115 ?_
  refine r_tp (b := nI (fr + aa)) (nI_add _ _) ?_
  refine r_callUi (As := [.ref m, .ref p, .int (nI (fr + aa))]) (b := o) (st := []) hK (hch) d_Locked_act_116 ml_Locked_54 cu_Revoke_Locked_Revoke_change rfl (by decide) (p_recv k_Revoke (fun g h => h.kd ho (by decide))) (Nat.le_of_ble_eq_true rfl) ?_ rfl
  refine r_nif_eq (a := 0) (tgt := 132) hK d_Locked_act_119 (by decide) (by decide) (fun _ => ?_) (fun z => absurd z (by decide))
  refine r_aload_n hK d_Locked_act_132 rfl 0 rfl ?_
  refine r_dup hK d_Locked_act_133 rfl ?_
  refine p_getI (f := 45) (v := nI aa) hK d_Locked_act_134 k_Revoke fd_Locked_51_Revoke (by decide) rfl rfl (fun g h => h.getI ho1 (by decide) rfl hat1) ?_
  refine r_iconst (v := nI 1) hK d_Locked_act_137 (by decide) ?_
  refine r_iadd hK d_Locked_act_138 ?_
  refine r_tp (b := nI (aa + 1)) (nI_add _ _) ?_
  refine p_putI (k := 9) (f := 45) hK d_Locked_act_139 k_Revoke fd_Locked_51_Revoke (by decide) rfl rfl rfl rfl rfl (fun g h => ⟨h.kd ho1 (by decide), h.setI (nz_of (k := 11) ho1) rfl⟩) ?_
  refine r_aload_n hK d_Locked_act_142 rfl 0 rfl ?_
  refine r_aload_n hK d_Locked_act_143 rfl 0 rfl ?_
  refine p_getI (f := 45) (v := nI (aa + 1)) hK d_Locked_act_144 k_Revoke fd_Locked_51_Revoke (by decide) rfl rfl (fun g h => h.getI ho1 (by decide) rfl (by simp [sSetI, sSetR, sSetA, sSetB, sSetQ, sSetL, sSetT, sNew, sNewA, sNewL, sPush, sBump, sBegL, sPutT, sq, sl, sr, gSetI, gSetR, gSetA, gSetB, gNew, gNewA, up2, up1, gx, gk, gl, gi, gr, ga, gb])) ?_
  refine r_aload_n hK d_Locked_act_147 rfl 0 rfl ?_
  refine p_getI (f := 43) (v := nI n) hK d_Locked_act_148 k_Revoke fd_Locked_19_Revoke (by decide) rfl rfl (fun g h => h.getI ho1 (by decide) rfl (by simp [sSetI, sSetR, sSetA, sSetB, sSetQ, sSetL, sSetT, sNew, sNewA, sNewL, sPush, sBump, sBegL, sPutT, sq, sl, sr, gSetI, gSetR, gSetA, gSetB, gNew, gNewA, up2, up1, gx, gk, gl, gi, gr, ga, gb, hn1])) ?_
  refine r_ncmp_ne (a := aa + 1) (b := n) (tgt := 161) hK d_Locked_act_151 (by decide) (by omega) (by omega) (fun z => False.elim (z hln)) (fun c151 => ?_)
  refine r_aload_n hK d_Locked_act_154 rfl 0 rfl ?_
  refine r_callUr (As := []) (b := o) (st := [.ref o]) hK (c_Revoke_afterChange_0 X l (sSetI s1 45 o (nI (aa + 1))) o (ho1) (by simp [sSetI, sSetR, sSetA, sSetB, sSetQ, sSetL, sSetT, sNew, sNewA, sNewL, sPush, sBump, sBegL, sPutT, sq, sl, sr, gSetI, gSetR, gSetA, gSetB, gNew, gNewA, up2, up1, gx, gk, gl, gi, gr, ga, gb, hc1])) d_Locked_act_155 ml_Locked_61 cu_Revoke_Locked_Revoke_afterChange rfl (by decide) (p_recv k_Revoke (fun g h => h.kd ho1 (by decide))) (Nat.le_of_ble_eq_true rfl) ?_ rfl
  refine r_goto (tgt := 164) hK d_Locked_act_158 (by decide) ?_
  refine r_callUi (As := [.ref (cxE X 10)]) (b := o) (st := []) hK (c_Order_go_Revoke X l (sSetI s1 45 o (nI (aa + 1))) o (cxE X 10) ho1) d_Locked_act_164 ml_Locked_40 cu_Revoke_Locked_Order_go rfl (by decide) (p_recv k_Revoke (fun g h => h.kd ho1 (by decide))) (Nat.le_of_ble_eq_true rfl) ?_ rfl
  refine r_iret hK d_Locked_act_167 rfl (rfl) ?_
  exact ⟨rfl, rfl⟩
set_option maxHeartbeats 1000000 in
theorem c_Locked_act_change10_Revoke (X : gCx) (l : Launch) (s : sS) (s1 : sS) (o m p fr aa n c : Nat) (ho : gk s.1 o = 12) (hm : gk s.1 m = 2) (hph : gr s.1 39 o = some (cxE X 6)) (hfr : gi s.1 42 o = nI fr) (hat : gi s.1 45 o = nI aa) (hch : gMi X l (HoldP X (Abs X)) M_Revoke_change 3 3 10 [.ref o, .ref m, .ref p, .int (nI (fr + aa))] s (nI 1) s1) (ho1 : gk s1.1 o = 12) (hc1 : gi s1.1 44 o = nI c) (hcb : c < 90) (hat1 : gi s1.1 45 o = nI aa) (hn1 : gi s1.1 43 o = nI n) (hb : aa < 90) (hnb : n < 90) (hln : aa + 1 ≠ n)  : gMi X l (HoldP X (Abs X)) M_Locked_act 4 3 10 [.ref o, .ref m, .ref p] s (nI 0) (sSetR (sSetI (sSetI s1 44 o (nI (c + 1))) 45 o (nI (aa + 1))) 39 o (some (cxE X 6))) := by
  refine gM_intro (by decide) (Nat.le_of_ble_eq_true rfl) (fun K hK => ?_)
  show K 0 [(0, .ref o), (1, .ref m), (2, .ref p)] [] s 3 10
  refine r_aload_n hK d_Locked_act_0 rfl 0 rfl ?_
  refine p_getR (f := 39) (v := some (cxE X 6)) hK d_Locked_act_1 k_Revoke fd_Locked_22_Revoke (by decide) rfl rfl (fun g h => h.getR ho (by decide) rfl hph) ?_
  refine r_callUi (As := []) (b := cxE X 6) (st := []) hK (c_Enum_ordinal X l (HoldP X (Abs X)) s 6 (nI 6) (by decide) (by decide)) d_Locked_act_4 ml_Locked_25 cu_Phase_Phase_Enum_ordinal rfl (by decide) (p_recvE (by decide)) (Nat.le_of_ble_eq_true rfl) ?_ rfl
  refine r_tableIn (off := 97) (tgt := 104) hK d_Locked_act_7 (by decide) (by decide) (by decide) (by decide) ?_
  refine r_aload_n hK d_Locked_act_104 rfl 0 rfl ?_
  refine r_aload_n hK d_Locked_act_105 rfl 1 rfl ?_
  refine r_aload_n hK d_Locked_act_106 rfl 2 rfl ?_
  refine r_aload_n hK d_Locked_act_107 rfl 0 rfl ?_
  refine p_getI (f := 42) (v := nI fr) hK d_Locked_act_108 k_Revoke fd_Locked_13_Revoke (by decide) rfl rfl (fun g h => h.getI ho (by decide) rfl hfr) ?_
  refine r_aload_n hK d_Locked_act_111 rfl 0 rfl ?_
  refine p_getI (f := 45) (v := nI aa) hK d_Locked_act_112 k_Revoke fd_Locked_51_Revoke (by decide) rfl rfl (fun g h => h.getI ho (by decide) rfl hat) ?_
  refine r_iadd hK d_Locked_act_115 ?_
  refine r_tp (b := nI (fr + aa)) (nI_add _ _) ?_
  refine r_callUi (As := [.ref m, .ref p, .int (nI (fr + aa))]) (b := o) (st := []) hK (hch) d_Locked_act_116 ml_Locked_54 cu_Revoke_Locked_Revoke_change rfl (by decide) (p_recv k_Revoke (fun g h => h.kd ho (by decide))) (Nat.le_of_ble_eq_true rfl) ?_ rfl
  refine r_nif_eq (a := 1) (tgt := 132) hK d_Locked_act_119 (by decide) (by decide) (fun z => absurd z (by decide)) (fun _ => ?_)
  refine r_aload_n hK d_Locked_act_122 rfl 0 rfl ?_
  refine r_dup hK d_Locked_act_123 rfl ?_
  refine p_getI (f := 44) (v := nI c) hK d_Locked_act_124 k_Revoke fd_Locked_58_Revoke (by decide) rfl rfl (fun g h => h.getI ho1 (by decide) rfl hc1) ?_
  refine r_iconst (v := nI 1) hK d_Locked_act_127 (by decide) ?_
  refine r_iadd hK d_Locked_act_128 ?_
  refine r_tp (b := nI (c + 1)) (nI_add _ _) ?_
  refine p_putI (k := 8) (f := 44) hK d_Locked_act_129 k_Revoke fd_Locked_58_Revoke (by decide) rfl rfl rfl rfl rfl (fun g h => ⟨h.kd ho1 (by decide), h.setI (nz_of (k := 11) ho1) rfl⟩) ?_
  refine r_aload_n hK d_Locked_act_132 rfl 0 rfl ?_
  refine r_dup hK d_Locked_act_133 rfl ?_
  refine p_getI (f := 45) (v := nI aa) hK d_Locked_act_134 k_Revoke fd_Locked_51_Revoke (by decide) rfl rfl (fun g h => h.getI ho1 (by decide) rfl (by simp [sSetI, sSetR, sSetA, sSetB, sSetQ, sSetL, sSetT, sNew, sNewA, sNewL, sPush, sBump, sBegL, sPutT, sq, sl, sr, gSetI, gSetR, gSetA, gSetB, gNew, gNewA, up2, up1, gx, gk, gl, gi, gr, ga, gb, hat1])) ?_
  refine r_iconst (v := nI 1) hK d_Locked_act_137 (by decide) ?_
  refine r_iadd hK d_Locked_act_138 ?_
  refine r_tp (b := nI (aa + 1)) (nI_add _ _) ?_
  refine p_putI (k := 9) (f := 45) hK d_Locked_act_139 k_Revoke fd_Locked_51_Revoke (by decide) rfl rfl rfl rfl rfl (fun g h => ⟨h.kd ho1 (by decide), h.setI (nz_of (k := 11) ho1) rfl⟩) ?_
  refine r_aload_n hK d_Locked_act_142 rfl 0 rfl ?_
  refine r_aload_n hK d_Locked_act_143 rfl 0 rfl ?_
  refine p_getI (f := 45) (v := nI (aa + 1)) hK d_Locked_act_144 k_Revoke fd_Locked_51_Revoke (by decide) rfl rfl (fun g h => h.getI ho1 (by decide) rfl (by simp [sSetI, sSetR, sSetA, sSetB, sSetQ, sSetL, sSetT, sNew, sNewA, sNewL, sPush, sBump, sBegL, sPutT, sq, sl, sr, gSetI, gSetR, gSetA, gSetB, gNew, gNewA, up2, up1, gx, gk, gl, gi, gr, ga, gb])) ?_
  refine r_aload_n hK d_Locked_act_147 rfl 0 rfl ?_
  refine p_getI (f := 43) (v := nI n) hK d_Locked_act_148 k_Revoke fd_Locked_19_Revoke (by decide) rfl rfl (fun g h => h.getI ho1 (by decide) rfl (by simp [sSetI, sSetR, sSetA, sSetB, sSetQ, sSetL, sSetT, sNew, sNewA, sNewL, sPush, sBump, sBegL, sPutT, sq, sl, sr, gSetI, gSetR, gSetA, gSetB, gNew, gNewA, up2, up1, gx, gk, gl, gi, gr, ga, gb, hn1])) ?_
  refine r_ncmp_ne (a := aa + 1) (b := n) (tgt := 161) hK d_Locked_act_151 (by decide) (by omega) (by omega) (fun c151 => ?_) (fun z => False.elim (hln z))
  refine p_phase (e0 := 6) hK d_Locked_act_161 rfl fs_Locked_64 ?_
  refine r_callUi (As := [.ref (cxE X 6)]) (b := o) (st := []) hK (c_Order_go_Revoke X l (sSetI (sSetI s1 44 o (nI (c + 1))) 45 o (nI (aa + 1))) o (cxE X 6) ho1) d_Locked_act_164 ml_Locked_40 cu_Revoke_Locked_Order_go rfl (by decide) (p_recv k_Revoke (fun g h => h.kd ho1 (by decide))) (Nat.le_of_ble_eq_true rfl) ?_ rfl
  refine r_iret hK d_Locked_act_167 rfl (rfl) ?_
  exact ⟨rfl, rfl⟩
set_option maxHeartbeats 1000000 in
theorem c_Locked_act_change11a_Revoke (X : gCx) (l : Launch) (s : sS) (s1 : sS) (o m p fr aa n c : Nat) (ho : gk s.1 o = 12) (hm : gk s.1 m = 2) (hph : gr s.1 39 o = some (cxE X 6)) (hfr : gi s.1 42 o = nI fr) (hat : gi s.1 45 o = nI aa) (hch : gMi X l (HoldP X (Abs X)) M_Revoke_change 3 3 10 [.ref o, .ref m, .ref p, .int (nI (fr + aa))] s (nI 1) s1) (ho1 : gk s1.1 o = 12) (hc1 : gi s1.1 44 o = nI c) (hcb : c < 90) (hat1 : gi s1.1 45 o = nI aa) (hn1 : gi s1.1 43 o = nI n) (hb : aa < 90) (hnb : n < 90) (hln : aa + 1 = n)  : gMi X l (HoldP X (Abs X)) M_Locked_act 4 3 10 [.ref o, .ref m, .ref p] s (nI 0) (sSetR (sSetI (sSetI s1 44 o (nI (c + 1))) 45 o (nI (aa + 1))) 39 o (some (cxE X 7))) := by
  refine gM_intro (by decide) (Nat.le_of_ble_eq_true rfl) (fun K hK => ?_)
  show K 0 [(0, .ref o), (1, .ref m), (2, .ref p)] [] s 3 10
  refine r_aload_n hK d_Locked_act_0 rfl 0 rfl ?_
  refine p_getR (f := 39) (v := some (cxE X 6)) hK d_Locked_act_1 k_Revoke fd_Locked_22_Revoke (by decide) rfl rfl (fun g h => h.getR ho (by decide) rfl hph) ?_
  refine r_callUi (As := []) (b := cxE X 6) (st := []) hK (c_Enum_ordinal X l (HoldP X (Abs X)) s 6 (nI 6) (by decide) (by decide)) d_Locked_act_4 ml_Locked_25 cu_Phase_Phase_Enum_ordinal rfl (by decide) (p_recvE (by decide)) (Nat.le_of_ble_eq_true rfl) ?_ rfl
  refine r_tableIn (off := 97) (tgt := 104) hK d_Locked_act_7 (by decide) (by decide) (by decide) (by decide) ?_
  refine r_aload_n hK d_Locked_act_104 rfl 0 rfl ?_
  refine r_aload_n hK d_Locked_act_105 rfl 1 rfl ?_
  refine r_aload_n hK d_Locked_act_106 rfl 2 rfl ?_
  refine r_aload_n hK d_Locked_act_107 rfl 0 rfl ?_
  refine p_getI (f := 42) (v := nI fr) hK d_Locked_act_108 k_Revoke fd_Locked_13_Revoke (by decide) rfl rfl (fun g h => h.getI ho (by decide) rfl hfr) ?_
  refine r_aload_n hK d_Locked_act_111 rfl 0 rfl ?_
  refine p_getI (f := 45) (v := nI aa) hK d_Locked_act_112 k_Revoke fd_Locked_51_Revoke (by decide) rfl rfl (fun g h => h.getI ho (by decide) rfl hat) ?_
  refine r_iadd hK d_Locked_act_115 ?_
  refine r_tp (b := nI (fr + aa)) (nI_add _ _) ?_
  refine r_callUi (As := [.ref m, .ref p, .int (nI (fr + aa))]) (b := o) (st := []) hK (hch) d_Locked_act_116 ml_Locked_54 cu_Revoke_Locked_Revoke_change rfl (by decide) (p_recv k_Revoke (fun g h => h.kd ho (by decide))) (Nat.le_of_ble_eq_true rfl) ?_ rfl
  refine r_nif_eq (a := 1) (tgt := 132) hK d_Locked_act_119 (by decide) (by decide) (fun z => absurd z (by decide)) (fun _ => ?_)
  refine r_aload_n hK d_Locked_act_122 rfl 0 rfl ?_
  refine r_dup hK d_Locked_act_123 rfl ?_
  refine p_getI (f := 44) (v := nI c) hK d_Locked_act_124 k_Revoke fd_Locked_58_Revoke (by decide) rfl rfl (fun g h => h.getI ho1 (by decide) rfl hc1) ?_
  refine r_iconst (v := nI 1) hK d_Locked_act_127 (by decide) ?_
  refine r_iadd hK d_Locked_act_128 ?_
  refine r_tp (b := nI (c + 1)) (nI_add _ _) ?_
  refine p_putI (k := 8) (f := 44) hK d_Locked_act_129 k_Revoke fd_Locked_58_Revoke (by decide) rfl rfl rfl rfl rfl (fun g h => ⟨h.kd ho1 (by decide), h.setI (nz_of (k := 11) ho1) rfl⟩) ?_
  refine r_aload_n hK d_Locked_act_132 rfl 0 rfl ?_
  refine r_dup hK d_Locked_act_133 rfl ?_
  refine p_getI (f := 45) (v := nI aa) hK d_Locked_act_134 k_Revoke fd_Locked_51_Revoke (by decide) rfl rfl (fun g h => h.getI ho1 (by decide) rfl (by simp [sSetI, sSetR, sSetA, sSetB, sSetQ, sSetL, sSetT, sNew, sNewA, sNewL, sPush, sBump, sBegL, sPutT, sq, sl, sr, gSetI, gSetR, gSetA, gSetB, gNew, gNewA, up2, up1, gx, gk, gl, gi, gr, ga, gb, hat1])) ?_
  refine r_iconst (v := nI 1) hK d_Locked_act_137 (by decide) ?_
  refine r_iadd hK d_Locked_act_138 ?_
  refine r_tp (b := nI (aa + 1)) (nI_add _ _) ?_
  refine p_putI (k := 9) (f := 45) hK d_Locked_act_139 k_Revoke fd_Locked_51_Revoke (by decide) rfl rfl rfl rfl rfl (fun g h => ⟨h.kd ho1 (by decide), h.setI (nz_of (k := 11) ho1) rfl⟩) ?_
  refine r_aload_n hK d_Locked_act_142 rfl 0 rfl ?_
  refine r_aload_n hK d_Locked_act_143 rfl 0 rfl ?_
  refine p_getI (f := 45) (v := nI (aa + 1)) hK d_Locked_act_144 k_Revoke fd_Locked_51_Revoke (by decide) rfl rfl (fun g h => h.getI ho1 (by decide) rfl (by simp [sSetI, sSetR, sSetA, sSetB, sSetQ, sSetL, sSetT, sNew, sNewA, sNewL, sPush, sBump, sBegL, sPutT, sq, sl, sr, gSetI, gSetR, gSetA, gSetB, gNew, gNewA, up2, up1, gx, gk, gl, gi, gr, ga, gb])) ?_
  refine r_aload_n hK d_Locked_act_147 rfl 0 rfl ?_
  refine p_getI (f := 43) (v := nI n) hK d_Locked_act_148 k_Revoke fd_Locked_19_Revoke (by decide) rfl rfl (fun g h => h.getI ho1 (by decide) rfl (by simp [sSetI, sSetR, sSetA, sSetB, sSetQ, sSetL, sSetT, sNew, sNewA, sNewL, sPush, sBump, sBegL, sPutT, sq, sl, sr, gSetI, gSetR, gSetA, gSetB, gNew, gNewA, up2, up1, gx, gk, gl, gi, gr, ga, gb, hn1])) ?_
  refine r_ncmp_ne (a := aa + 1) (b := n) (tgt := 161) hK d_Locked_act_151 (by decide) (by omega) (by omega) (fun z => False.elim (z hln)) (fun c151 => ?_)
  refine r_aload_n hK d_Locked_act_154 rfl 0 rfl ?_
  refine r_callUr (As := []) (b := o) (st := [.ref o]) hK (c_Revoke_afterChange_1 X l (sSetI (sSetI s1 44 o (nI (c + 1))) 45 o (nI (aa + 1))) o (c + 1) (ho1) (by simp [sSetI, sSetR, sSetA, sSetB, sSetQ, sSetL, sSetT, sNew, sNewA, sNewL, sPush, sBump, sBegL, sPutT, sq, sl, sr, gSetI, gSetR, gSetA, gSetB, gNew, gNewA, up2, up1, gx, gk, gl, gi, gr, ga, gb]) (by omega) (by omega)) d_Locked_act_155 ml_Locked_61 cu_Revoke_Locked_Revoke_afterChange rfl (by decide) (p_recv k_Revoke (fun g h => h.kd ho1 (by decide))) (Nat.le_of_ble_eq_true rfl) ?_ rfl
  refine r_goto (tgt := 164) hK d_Locked_act_158 (by decide) ?_
  refine r_callUi (As := [.ref (cxE X 7)]) (b := o) (st := []) hK (c_Order_go_Revoke X l (sSetI (sSetI s1 44 o (nI (c + 1))) 45 o (nI (aa + 1))) o (cxE X 7) ho1) d_Locked_act_164 ml_Locked_40 cu_Revoke_Locked_Order_go rfl (by decide) (p_recv k_Revoke (fun g h => h.kd ho1 (by decide))) (Nat.le_of_ble_eq_true rfl) ?_ rfl
  refine r_iret hK d_Locked_act_167 rfl (rfl) ?_
  exact ⟨rfl, rfl⟩
