set_option maxHeartbeats 1000000 in
theorem c_Machine_frame_0 (X : gCx) (l : Launch) (s : sS) (m gp : Nat) (hm : gk s.1 m = 2) (hmg : gr s.1 6 m = some gp) (hgp : gk s.1 gp = 103) (hgl : gl s.1 gp = 4) (pg : Nat) (hpg : pg < 16) (hg0 : gb s.1 gp (pg / 4) = none) : gMi X l (HoldP X (Abs X)) M_Machine_frame 0 0 0 [.ref m, .int (nI pg)] s (-1) s := by
  refine gM_intro (by decide) (Nat.le_of_ble_eq_true rfl) (fun K hK => ?_)
  show K 0 [(0, .ref m), (1, .int (nI pg))] [] s 0 0
  refine r_aload_n hK d_Machine_frame_0 rfl 0 rfl ?_
  refine p_getR (f := 6) (v := some gp) hK d_Machine_frame_1 k_Machine fd_Machine_22_Machine (by decide) rfl rfl (fun g h => h.getR hm (by decide) rfl hmg) ?_
  refine r_iload_n hK d_Machine_frame_4 rfl 1 rfl ?_
  refine r_iconst (v := nI 2) hK d_Machine_frame_5 (by decide) ?_
  refine r_ishr hK d_Machine_frame_6 ?_
  refine r_tp (b := nI (pg / 4)) (pg_shr pg hpg) ?_
  refine p_aald (t := 3) (v := none) hK (pg / 4) 4 d_Machine_frame_7 (by decide) (by decide) rfl rfl (by omega) (fun g h => have e := h.arr (a := gp) (t := 3) (L := 4) (j := (pg / 4)) hgp hgl; ⟨e.1, e.2.1, e.2.2.2.trans hg0⟩) ?_
  refine r_astore_nN (lv' := [(2, .null), (0, .ref m), (1, .int (nI pg))]) hK d_Machine_frame_8 rfl (by decide) rfl ?_
  refine r_aload_nN hK d_Machine_frame_9 rfl 0 rfl ?_
  refine r_ifnonnull (v := none) (tgt := 17) hK d_Machine_frame_10 (by decide) (fun _ z => absurd z (by simp)) (fun _ => ?_)
  refine r_iconst (v := -1) hK d_Machine_frame_13 (by decide) ?_
  refine r_goto (tgt := 25) hK d_Machine_frame_14 (by decide) ?_
  refine r_iret hK d_Machine_frame_25 rfl (rfl) ?_
  exact ⟨rfl, rfl⟩
set_option maxHeartbeats 1000000 in
theorem c_Machine_frame_1 (X : gCx) (l : Launch) (s : sS) (m gp : Nat) (hm : gk s.1 m = 2) (hmg : gr s.1 6 m = some gp) (hgp : gk s.1 gp = 103) (hgl : gl s.1 gp = 4) (pg : Nat) (hpg : pg < 16) (G fa wa : Nat) (hG : gk s.1 G = 8) (hGf : gr s.1 31 G = some fa) (hfa : gk s.1 fa = 100) (hfl : gl s.1 fa = 4) (hGw : gr s.1 32 G = some wa) (hwa : gk s.1 wa = 101) (hwl : gl s.1 wa = 4) (v : Int32) (hg0 : gb s.1 gp (pg / 4) = some G) (hv : ga s.1 fa (pg % 4) = v) : gMi X l (HoldP X (Abs X)) M_Machine_frame 0 0 0 [.ref m, .int (nI pg)] s v s := by
  refine gM_intro (by decide) (Nat.le_of_ble_eq_true rfl) (fun K hK => ?_)
  show K 0 [(0, .ref m), (1, .int (nI pg))] [] s 0 0
  refine r_aload_n hK d_Machine_frame_0 rfl 0 rfl ?_
  refine p_getR (f := 6) (v := some gp) hK d_Machine_frame_1 k_Machine fd_Machine_22_Machine (by decide) rfl rfl (fun g h => h.getR hm (by decide) rfl hmg) ?_
  refine r_iload_n hK d_Machine_frame_4 rfl 1 rfl ?_
  refine r_iconst (v := nI 2) hK d_Machine_frame_5 (by decide) ?_
  refine r_ishr hK d_Machine_frame_6 ?_
  refine r_tp (b := nI (pg / 4)) (pg_shr pg hpg) ?_
  refine p_aald (t := 3) (v := some G) hK (pg / 4) 4 d_Machine_frame_7 (by decide) (by decide) rfl rfl (by omega) (fun g h => have e := h.arr (a := gp) (t := 3) (L := 4) (j := (pg / 4)) hgp hgl; ⟨e.1, e.2.1, e.2.2.2.trans hg0⟩) ?_
  refine r_astore_n (lv' := [(2, .ref G), (0, .ref m), (1, .int (nI pg))]) hK d_Machine_frame_8 rfl (by decide) rfl ?_
  refine r_aload_n hK d_Machine_frame_9 rfl 0 rfl ?_
  refine r_ifnonnull (v := some G) (tgt := 17) hK d_Machine_frame_10 (by decide) (fun _ _ => ?_) (fun z => absurd z (by simp))
  refine r_aload_n hK d_Machine_frame_17 rfl 0 rfl ?_
  refine p_getR (f := 31) (v := some fa) hK d_Machine_frame_18 k_Group fd_Machine_47_Group (by decide) rfl rfl (fun g h => h.getR hG (by decide) rfl hGf) ?_
  refine r_iload_n hK d_Machine_frame_21 rfl 2 rfl ?_
  refine r_iconst (v := nI 3) hK d_Machine_frame_22 (by decide) ?_
  refine r_iand hK d_Machine_frame_23 ?_
  refine r_tp (b := nI (pg % 4)) (pg_and pg hpg) ?_
  refine p_iald (v := v) hK (pg % 4) 4 d_Machine_frame_24 rfl (by omega) (fun g h => have e := h.arr (a := fa) (t := 0) (L := 4) (j := (pg % 4)) hfa hfl; ⟨e.1, e.2.1, e.2.2.1.trans hv⟩) ?_
  refine r_iret hK d_Machine_frame_25 rfl (rfl) ?_
  exact ⟨rfl, rfl⟩
set_option maxHeartbeats 1000000 in
theorem c_Machine_writable_0 (X : gCx) (l : Launch) (s : sS) (m gp : Nat) (hm : gk s.1 m = 2) (hmg : gr s.1 6 m = some gp) (hgp : gk s.1 gp = 103) (hgl : gl s.1 gp = 4) (pg : Nat) (hpg : pg < 16) (hg0 : gb s.1 gp (pg / 4) = none) : gMi X l (HoldP X (Abs X)) M_Machine_writable 0 0 0 [.ref m, .int (nI pg)] s (nI 0) s := by
  refine gM_intro (by decide) (Nat.le_of_ble_eq_true rfl) (fun K hK => ?_)
  show K 0 [(0, .ref m), (1, .int (nI pg))] [] s 0 0
  refine r_aload_n hK d_Machine_writable_0 rfl 0 rfl ?_
  refine p_getR (f := 6) (v := some gp) hK d_Machine_writable_1 k_Machine fd_Machine_22_Machine (by decide) rfl rfl (fun g h => h.getR hm (by decide) rfl hmg) ?_
  refine r_iload_n hK d_Machine_writable_4 rfl 1 rfl ?_
  refine r_iconst (v := nI 2) hK d_Machine_writable_5 (by decide) ?_
  refine r_ishr hK d_Machine_writable_6 ?_
  refine r_tp (b := nI (pg / 4)) (pg_shr pg hpg) ?_
  refine p_aald (t := 3) (v := none) hK (pg / 4) 4 d_Machine_writable_7 (by decide) (by decide) rfl rfl (by omega) (fun g h => have e := h.arr (a := gp) (t := 3) (L := 4) (j := (pg / 4)) hgp hgl; ⟨e.1, e.2.1, e.2.2.2.trans hg0⟩) ?_
  refine r_astore_nN (lv' := [(2, .null), (0, .ref m), (1, .int (nI pg))]) hK d_Machine_writable_8 rfl (by decide) rfl ?_
  refine r_aload_nN hK d_Machine_writable_9 rfl 0 rfl ?_
  refine r_ifnull (v := none) (tgt := 39) hK d_Machine_writable_10 (by decide) (fun _ => ?_) (fun _ z => absurd z (by simp))
  refine r_iconst (v := nI 0) hK d_Machine_writable_39 (by decide) ?_
  refine r_iret hK d_Machine_writable_40 rfl (rfl) ?_
  exact ⟨rfl, rfl⟩
set_option maxHeartbeats 1000000 in
theorem c_Machine_writable_1 (X : gCx) (l : Launch) (s : sS) (m gp : Nat) (hm : gk s.1 m = 2) (hmg : gr s.1 6 m = some gp) (hgp : gk s.1 gp = 103) (hgl : gl s.1 gp = 4) (pg : Nat) (hpg : pg < 16) (G fa wa : Nat) (hG : gk s.1 G = 8) (hGf : gr s.1 31 G = some fa) (hfa : gk s.1 fa = 100) (hfl : gl s.1 fa = 4) (hGw : gr s.1 32 G = some wa) (hwa : gk s.1 wa = 101) (hwl : gl s.1 wa = 4) (hg0 : gb s.1 gp (pg / 4) = some G) (hv : ga s.1 fa (pg % 4) = -1) : gMi X l (HoldP X (Abs X)) M_Machine_writable 0 0 0 [.ref m, .int (nI pg)] s (nI 0) s := by
  refine gM_intro (by decide) (Nat.le_of_ble_eq_true rfl) (fun K hK => ?_)
  show K 0 [(0, .ref m), (1, .int (nI pg))] [] s 0 0
  refine r_aload_n hK d_Machine_writable_0 rfl 0 rfl ?_
  refine p_getR (f := 6) (v := some gp) hK d_Machine_writable_1 k_Machine fd_Machine_22_Machine (by decide) rfl rfl (fun g h => h.getR hm (by decide) rfl hmg) ?_
  refine r_iload_n hK d_Machine_writable_4 rfl 1 rfl ?_
  refine r_iconst (v := nI 2) hK d_Machine_writable_5 (by decide) ?_
  refine r_ishr hK d_Machine_writable_6 ?_
  refine r_tp (b := nI (pg / 4)) (pg_shr pg hpg) ?_
  refine p_aald (t := 3) (v := some G) hK (pg / 4) 4 d_Machine_writable_7 (by decide) (by decide) rfl rfl (by omega) (fun g h => have e := h.arr (a := gp) (t := 3) (L := 4) (j := (pg / 4)) hgp hgl; ⟨e.1, e.2.1, e.2.2.2.trans hg0⟩) ?_
  refine r_astore_n (lv' := [(2, .ref G), (0, .ref m), (1, .int (nI pg))]) hK d_Machine_writable_8 rfl (by decide) rfl ?_
  refine r_aload_n hK d_Machine_writable_9 rfl 0 rfl ?_
  refine r_ifnull (v := some G) (tgt := 39) hK d_Machine_writable_10 (by decide) (fun z => absurd z (by simp)) (fun _ _ => ?_)
  refine r_aload_n hK d_Machine_writable_13 rfl 0 rfl ?_
  refine p_getR (f := 31) (v := some fa) hK d_Machine_writable_14 k_Group fd_Machine_47_Group (by decide) rfl rfl (fun g h => h.getR hG (by decide) rfl hGf) ?_
  refine r_iload_n hK d_Machine_writable_17 rfl 2 rfl ?_
  refine r_iconst (v := nI 3) hK d_Machine_writable_18 (by decide) ?_
  refine r_iand hK d_Machine_writable_19 ?_
  refine r_tp (b := nI (pg % 4)) (pg_and pg hpg) ?_
  refine p_iald (v := -1) hK (pg % 4) 4 d_Machine_writable_20 rfl (by omega) (fun g h => have e := h.arr (a := fa) (t := 0) (L := 4) (j := (pg % 4)) hfa hfl; ⟨e.1, e.2.1, e.2.2.1.trans hv⟩) ?_
  refine r_if_lt (tgt := 39) hK d_Machine_writable_21 (by decide) (fun c21 => ?_) (fun z => False.elim (z (by decide)))
  refine r_iconst (v := nI 0) hK d_Machine_writable_39 (by decide) ?_
  refine r_iret hK d_Machine_writable_40 rfl (rfl) ?_
  exact ⟨rfl, rfl⟩
set_option maxHeartbeats 1000000 in
theorem c_Machine_writable_2 (X : gCx) (l : Launch) (s : sS) (m gp : Nat) (hm : gk s.1 m = 2) (hmg : gr s.1 6 m = some gp) (hgp : gk s.1 gp = 103) (hgl : gl s.1 gp = 4) (pg : Nat) (hpg : pg < 16) (G fa wa : Nat) (hG : gk s.1 G = 8) (hGf : gr s.1 31 G = some fa) (hfa : gk s.1 fa = 100) (hfl : gl s.1 fa = 4) (hGw : gr s.1 32 G = some wa) (hwa : gk s.1 wa = 101) (hwl : gl s.1 wa = 4) (f : Nat) (hf : f < 100) (hg0 : gb s.1 gp (pg / 4) = some G) (hv : ga s.1 fa (pg % 4) = nI f) (hw : ga s.1 wa (pg % 4) = nI 0) : gMi X l (HoldP X (Abs X)) M_Machine_writable 0 0 0 [.ref m, .int (nI pg)] s (nI 0) s := by
  refine gM_intro (by decide) (Nat.le_of_ble_eq_true rfl) (fun K hK => ?_)
  show K 0 [(0, .ref m), (1, .int (nI pg))] [] s 0 0
  refine r_aload_n hK d_Machine_writable_0 rfl 0 rfl ?_
  refine p_getR (f := 6) (v := some gp) hK d_Machine_writable_1 k_Machine fd_Machine_22_Machine (by decide) rfl rfl (fun g h => h.getR hm (by decide) rfl hmg) ?_
  refine r_iload_n hK d_Machine_writable_4 rfl 1 rfl ?_
  refine r_iconst (v := nI 2) hK d_Machine_writable_5 (by decide) ?_
  refine r_ishr hK d_Machine_writable_6 ?_
  refine r_tp (b := nI (pg / 4)) (pg_shr pg hpg) ?_
  refine p_aald (t := 3) (v := some G) hK (pg / 4) 4 d_Machine_writable_7 (by decide) (by decide) rfl rfl (by omega) (fun g h => have e := h.arr (a := gp) (t := 3) (L := 4) (j := (pg / 4)) hgp hgl; ⟨e.1, e.2.1, e.2.2.2.trans hg0⟩) ?_
  refine r_astore_n (lv' := [(2, .ref G), (0, .ref m), (1, .int (nI pg))]) hK d_Machine_writable_8 rfl (by decide) rfl ?_
  refine r_aload_n hK d_Machine_writable_9 rfl 0 rfl ?_
  refine r_ifnull (v := some G) (tgt := 39) hK d_Machine_writable_10 (by decide) (fun z => absurd z (by simp)) (fun _ _ => ?_)
  refine r_aload_n hK d_Machine_writable_13 rfl 0 rfl ?_
  refine p_getR (f := 31) (v := some fa) hK d_Machine_writable_14 k_Group fd_Machine_47_Group (by decide) rfl rfl (fun g h => h.getR hG (by decide) rfl hGf) ?_
  refine r_iload_n hK d_Machine_writable_17 rfl 2 rfl ?_
  refine r_iconst (v := nI 3) hK d_Machine_writable_18 (by decide) ?_
  refine r_iand hK d_Machine_writable_19 ?_
  refine r_tp (b := nI (pg % 4)) (pg_and pg hpg) ?_
  refine p_iald (v := nI f) hK (pg % 4) 4 d_Machine_writable_20 rfl (by omega) (fun g h => have e := h.arr (a := fa) (t := 0) (L := 4) (j := (pg % 4)) hfa hfl; ⟨e.1, e.2.1, e.2.2.1.trans hv⟩) ?_
  refine r_nif_lt (a := f) (tgt := 39) hK d_Machine_writable_21 (by decide) (by omega) ?_
  refine r_aload_n hK d_Machine_writable_24 rfl 0 rfl ?_
  refine p_getR (f := 32) (v := some wa) hK d_Machine_writable_25 k_Group fd_Machine_50_Group (by decide) rfl rfl (fun g h => h.getR hG (by decide) rfl hGw) ?_
  refine r_iload_n hK d_Machine_writable_28 rfl 2 rfl ?_
  refine r_iconst (v := nI 3) hK d_Machine_writable_29 (by decide) ?_
  refine r_iand hK d_Machine_writable_30 ?_
  refine r_tp (b := nI (pg % 4)) (pg_and pg hpg) ?_
  refine p_zald (v := nI 0) hK (pg % 4) 4 d_Machine_writable_31 rfl (by omega) (fun g h => have e := h.arr (a := wa) (t := 1) (L := 4) (j := (pg % 4)) hwa hwl; ⟨e.1, e.2.1, e.2.2.1.trans hw⟩) ?_
  refine r_nif_eq (a := 0) (tgt := 39) hK d_Machine_writable_32 (by decide) (by decide) (fun _ => ?_) (fun z => absurd z (by decide))
  refine r_iconst (v := nI 0) hK d_Machine_writable_39 (by decide) ?_
  refine r_iret hK d_Machine_writable_40 rfl (rfl) ?_
  exact ⟨rfl, rfl⟩
set_option maxHeartbeats 1000000 in
theorem c_Machine_writable_3 (X : gCx) (l : Launch) (s : sS) (m gp : Nat) (hm : gk s.1 m = 2) (hmg : gr s.1 6 m = some gp) (hgp : gk s.1 gp = 103) (hgl : gl s.1 gp = 4) (pg : Nat) (hpg : pg < 16) (G fa wa : Nat) (hG : gk s.1 G = 8) (hGf : gr s.1 31 G = some fa) (hfa : gk s.1 fa = 100) (hfl : gl s.1 fa = 4) (hGw : gr s.1 32 G = some wa) (hwa : gk s.1 wa = 101) (hwl : gl s.1 wa = 4) (f : Nat) (hf : f < 100) (hg0 : gb s.1 gp (pg / 4) = some G) (hv : ga s.1 fa (pg % 4) = nI f) (hw : ga s.1 wa (pg % 4) = nI 1) : gMi X l (HoldP X (Abs X)) M_Machine_writable 0 0 0 [.ref m, .int (nI pg)] s (nI 1) s := by
  refine gM_intro (by decide) (Nat.le_of_ble_eq_true rfl) (fun K hK => ?_)
  show K 0 [(0, .ref m), (1, .int (nI pg))] [] s 0 0
  refine r_aload_n hK d_Machine_writable_0 rfl 0 rfl ?_
  refine p_getR (f := 6) (v := some gp) hK d_Machine_writable_1 k_Machine fd_Machine_22_Machine (by decide) rfl rfl (fun g h => h.getR hm (by decide) rfl hmg) ?_
  refine r_iload_n hK d_Machine_writable_4 rfl 1 rfl ?_
  refine r_iconst (v := nI 2) hK d_Machine_writable_5 (by decide) ?_
  refine r_ishr hK d_Machine_writable_6 ?_
  refine r_tp (b := nI (pg / 4)) (pg_shr pg hpg) ?_
  refine p_aald (t := 3) (v := some G) hK (pg / 4) 4 d_Machine_writable_7 (by decide) (by decide) rfl rfl (by omega) (fun g h => have e := h.arr (a := gp) (t := 3) (L := 4) (j := (pg / 4)) hgp hgl; ⟨e.1, e.2.1, e.2.2.2.trans hg0⟩) ?_
  refine r_astore_n (lv' := [(2, .ref G), (0, .ref m), (1, .int (nI pg))]) hK d_Machine_writable_8 rfl (by decide) rfl ?_
  refine r_aload_n hK d_Machine_writable_9 rfl 0 rfl ?_
  refine r_ifnull (v := some G) (tgt := 39) hK d_Machine_writable_10 (by decide) (fun z => absurd z (by simp)) (fun _ _ => ?_)
  refine r_aload_n hK d_Machine_writable_13 rfl 0 rfl ?_
  refine p_getR (f := 31) (v := some fa) hK d_Machine_writable_14 k_Group fd_Machine_47_Group (by decide) rfl rfl (fun g h => h.getR hG (by decide) rfl hGf) ?_
  refine r_iload_n hK d_Machine_writable_17 rfl 2 rfl ?_
  refine r_iconst (v := nI 3) hK d_Machine_writable_18 (by decide) ?_
  refine r_iand hK d_Machine_writable_19 ?_
  refine r_tp (b := nI (pg % 4)) (pg_and pg hpg) ?_
  refine p_iald (v := nI f) hK (pg % 4) 4 d_Machine_writable_20 rfl (by omega) (fun g h => have e := h.arr (a := fa) (t := 0) (L := 4) (j := (pg % 4)) hfa hfl; ⟨e.1, e.2.1, e.2.2.1.trans hv⟩) ?_
  refine r_nif_lt (a := f) (tgt := 39) hK d_Machine_writable_21 (by decide) (by omega) ?_
  refine r_aload_n hK d_Machine_writable_24 rfl 0 rfl ?_
  refine p_getR (f := 32) (v := some wa) hK d_Machine_writable_25 k_Group fd_Machine_50_Group (by decide) rfl rfl (fun g h => h.getR hG (by decide) rfl hGw) ?_
  refine r_iload_n hK d_Machine_writable_28 rfl 2 rfl ?_
  refine r_iconst (v := nI 3) hK d_Machine_writable_29 (by decide) ?_
  refine r_iand hK d_Machine_writable_30 ?_
  refine r_tp (b := nI (pg % 4)) (pg_and pg hpg) ?_
  refine p_zald (v := nI 1) hK (pg % 4) 4 d_Machine_writable_31 rfl (by omega) (fun g h => have e := h.arr (a := wa) (t := 1) (L := 4) (j := (pg % 4)) hwa hwl; ⟨e.1, e.2.1, e.2.2.1.trans hw⟩) ?_
  refine r_nif_eq (a := 1) (tgt := 39) hK d_Machine_writable_32 (by decide) (by decide) (fun z => absurd z (by decide)) (fun _ => ?_)
  refine r_iconst (v := nI 1) hK d_Machine_writable_35 (by decide) ?_
  refine r_goto (tgt := 40) hK d_Machine_writable_36 (by decide) ?_
  refine r_iret hK d_Machine_writable_40 rfl (rfl) ?_
  exact ⟨rfl, rfl⟩
set_option maxHeartbeats 1000000 in
theorem c_Machine_set_1 (X : gCx) (l : Launch) (s : sS) (m gp : Nat) (hm : gk s.1 m = 2) (hmg : gr s.1 6 m = some gp) (hgp : gk s.1 gp = 103) (hgl : gl s.1 gp = 4) (pg : Nat) (hpg : pg < 16) (G fa wa : Nat) (hG : gk s.1 G = 8) (hGf : gr s.1 31 G = some fa) (hfa : gk s.1 fa = 100) (hfl : gl s.1 fa = 4) (hGw : gr s.1 32 G = some wa) (hwa : gk s.1 wa = 101) (hwl : gl s.1 wa = 4) (v w : Int32) (hw : narrow .boolean (.int w) = .int w) (hw2 : fits .boolean (.int w) = true) (hg0 : gb s.1 gp (pg / 4) = some G) : gMv X l (HoldP X (Abs X)) M_Machine_set 2 3 10 [.ref m, .int (nI pg), .int v, .int w] s (sSetA (sSetA s fa (pg % 4) v) wa (pg % 4) w) := by
  refine gM_intro (by decide) (Nat.le_of_ble_eq_true rfl) (fun K hK => ?_)
  show K 0 [(0, .ref m), (1, .int (nI pg)), (2, .int v), (3, .int w)] [] s 3 10
  refine r_aload_n hK d_Machine_set_0 rfl 0 rfl ?_
  refine p_getR (f := 6) (v := some gp) hK d_Machine_set_1 k_Machine fd_Machine_22_Machine (by decide) rfl rfl (fun g h => h.getR hm (by decide) rfl hmg) ?_
  refine r_iload_n hK d_Machine_set_4 rfl 1 rfl ?_
  refine r_iconst (v := nI 2) hK d_Machine_set_5 (by decide) ?_
  refine r_ishr hK d_Machine_set_6 ?_
  refine r_tp (b := nI (pg / 4)) (pg_shr pg hpg) ?_
  refine p_aald (t := 3) (v := some G) hK (pg / 4) 4 d_Machine_set_7 (by decide) (by decide) rfl rfl (by omega) (fun g h => have e := h.arr (a := gp) (t := 3) (L := 4) (j := (pg / 4)) hgp hgl; ⟨e.1, e.2.1, e.2.2.2.trans hg0⟩) ?_
  refine r_ifnonnull (v := some G) (tgt := 26) hK d_Machine_set_8 (by decide) (fun _ _ => ?_) (fun z => absurd z (by simp))
  refine r_aload_n hK d_Machine_set_26 rfl 0 rfl ?_
  refine p_getR (f := 6) (v := some gp) hK d_Machine_set_27 k_Machine fd_Machine_22_Machine (by decide) rfl rfl (fun g h => h.getR hm (by decide) rfl hmg) ?_
  refine r_iload_n hK d_Machine_set_30 rfl 1 rfl ?_
  refine r_iconst (v := nI 2) hK d_Machine_set_31 (by decide) ?_
  refine r_ishr hK d_Machine_set_32 ?_
  refine r_tp (b := nI (pg / 4)) (pg_shr pg hpg) ?_
  refine p_aald (t := 3) (v := some G) hK (pg / 4) 4 d_Machine_set_33 (by decide) (by decide) rfl rfl (by omega) (fun g h => have e := h.arr (a := gp) (t := 3) (L := 4) (j := (pg / 4)) hgp hgl; ⟨e.1, e.2.1, e.2.2.2.trans hg0⟩) ?_
  refine p_getR (f := 31) (v := some fa) hK d_Machine_set_34 k_Group fd_Machine_47_Group (by decide) rfl rfl (fun g h => h.getR hG (by decide) rfl hGf) ?_
  refine r_iload_n hK d_Machine_set_37 rfl 1 rfl ?_
  refine r_iconst (v := nI 3) hK d_Machine_set_38 (by decide) ?_
  refine r_iand hK d_Machine_set_39 ?_
  refine r_tp (b := nI (pg % 4)) (pg_and pg hpg) ?_
  refine r_iload_n hK d_Machine_set_40 rfl 2 rfl ?_
  refine p_iast hK (pg % 4) 4 d_Machine_set_41 rfl (by omega) (fun g h => have e := h.arr (a := fa) (t := 0) (L := 4) (j := 0) hfa hfl; ⟨e.1, e.2.1, h.setA⟩) ?_
  refine r_aload_n hK d_Machine_set_42 rfl 0 rfl ?_
  refine p_getR (f := 6) (v := some gp) hK d_Machine_set_43 k_Machine fd_Machine_22_Machine (by decide) rfl rfl (fun g h => h.getR hm (by decide) rfl (by simp [sSetI, sSetR, sSetA, sSetB, sSetQ, sSetL, sSetT, sNew, sNewA, sNewL, sPush, sBump, sBegL, sPutT, sq, sl, sr, gSetI, gSetR, gSetA, gSetB, gNew, gNewA, up2, up1, gx, gk, gl, gi, gr, ga, gb, hmg])) ?_
  refine r_iload_n hK d_Machine_set_46 rfl 1 rfl ?_
  refine r_iconst (v := nI 2) hK d_Machine_set_47 (by decide) ?_
  refine r_ishr hK d_Machine_set_48 ?_
  refine r_tp (b := nI (pg / 4)) (pg_shr pg hpg) ?_
  refine p_aald (t := 3) (v := some G) hK (pg / 4) 4 d_Machine_set_49 (by decide) (by decide) rfl rfl (by omega) (fun g h => have e := h.arr (a := gp) (t := 3) (L := 4) (j := (pg / 4)) hgp hgl; ⟨e.1, e.2.1, e.2.2.2.trans (by simp [sSetI, sSetR, sSetA, sSetB, sSetQ, sSetL, sSetT, sNew, sNewA, sNewL, sPush, sBump, sBegL, sPutT, sq, sl, sr, gSetI, gSetR, gSetA, gSetB, gNew, gNewA, up2, up1, gx, gk, gl, gi, gr, ga, gb, hg0])⟩) ?_
  refine p_getR (f := 32) (v := some wa) hK d_Machine_set_50 k_Group fd_Machine_50_Group (by decide) rfl rfl (fun g h => h.getR hG (by decide) rfl (by simp [sSetI, sSetR, sSetA, sSetB, sSetQ, sSetL, sSetT, sNew, sNewA, sNewL, sPush, sBump, sBegL, sPutT, sq, sl, sr, gSetI, gSetR, gSetA, gSetB, gNew, gNewA, up2, up1, gx, gk, gl, gi, gr, ga, gb, hGw])) ?_
  refine r_iload_n hK d_Machine_set_53 rfl 1 rfl ?_
  refine r_iconst (v := nI 3) hK d_Machine_set_54 (by decide) ?_
  refine r_iand hK d_Machine_set_55 ?_
  refine r_tp (b := nI (pg % 4)) (pg_and pg hpg) ?_
  refine r_iload_n hK d_Machine_set_56 rfl 3 rfl ?_
  refine p_zast hK (pg % 4) 4 ((by first | rfl | assumption)) d_Machine_set_57 rfl (by omega) (fun g h => have e := h.arr (a := wa) (t := 1) (L := 4) (j := 0) hwa hwl; ⟨e.1, e.2.1, h.setA⟩) ?_
  refine r_vret hK d_Machine_set_58 rfl ?_
  exact ⟨rfl, rfl⟩
set_option maxHeartbeats 1000000 in
theorem c_Machine_set_0 (X : gCx) (l : Launch) (s : sS) (m gp : Nat) (hm : gk s.1 m = 2) (hmg : gr s.1 6 m = some gp) (hgp : gk s.1 gp = 103) (hgl : gl s.1 gp = 4) (pg : Nat) (hpg : pg < 16) (G fa wa : Nat) (hq : gx s.1 = G) (h1 : G + 1 = fa) (h2 : fa + 1 = wa) (v w : Int32) (hw : narrow .boolean (.int w) = .int w) (hw2 : fits .boolean (.int w) = true) (hg0 : gb s.1 gp (pg / 4) = none) (hlm : m < G) (hlg : gp < G) : gMv X l (HoldP X (Abs X)) M_Machine_set 2 3 10 [.ref m, .int (nI pg), .int v, .int w] s (sSetA (sSetA (sSetB (sSetR (sNewA (sSetR (sSetA (sSetA (sSetA (sSetA (sNewA (sNew s 7) 0 4) fa 0 (-1)) fa 1 (-1)) fa 2 (-1)) fa 3 (-1)) 31 G (some fa)) 1 4) 32 G (some wa)) gp (pg / 4) (some G)) fa (pg % 4) v) wa (pg % 4) w) := by
  refine gM_intro (by decide) (Nat.le_of_ble_eq_true rfl) (fun K hK => ?_)
  show K 0 [(0, .ref m), (1, .int (nI pg)), (2, .int v), (3, .int w)] [] s 3 10
  have n00 : m ≠ G := by omega
  have n01 : m ≠ fa := by omega
  have n02 : m ≠ wa := by omega
  have n10 : gp ≠ G := by omega
  have n11 : gp ≠ fa := by omega
  have n12 : gp ≠ wa := by omega
  have k01 : G ≠ fa := by omega
  have k02 : G ≠ wa := by omega
  have k10 : fa ≠ G := by omega
  have k12 : fa ≠ wa := by omega
  have k20 : wa ≠ G := by omega
  have k21 : wa ≠ fa := by omega
  refine r_aload_n hK d_Machine_set_0 rfl 0 rfl ?_
  refine p_getR (f := 6) (v := some gp) hK d_Machine_set_1 k_Machine fd_Machine_22_Machine (by decide) rfl rfl (fun g h => h.getR hm (by decide) rfl hmg) ?_
  refine r_iload_n hK d_Machine_set_4 rfl 1 rfl ?_
  refine r_iconst (v := nI 2) hK d_Machine_set_5 (by decide) ?_
  refine r_ishr hK d_Machine_set_6 ?_
  refine r_tp (b := nI (pg / 4)) (pg_shr pg hpg) ?_
  refine p_aald (t := 3) (v := none) hK (pg / 4) 4 d_Machine_set_7 (by decide) (by decide) rfl rfl (by omega) (fun g h => have e := h.arr (a := gp) (t := 3) (L := 4) (j := (pg / 4)) hgp hgl; ⟨e.1, e.2.1, e.2.2.2.trans hg0⟩) ?_
  refine r_ifnonnull (v := none) (tgt := 26) hK d_Machine_set_8 (by decide) (fun _ z => absurd z (by simp)) (fun _ => ?_)
  refine r_aload_n hK d_Machine_set_11 rfl 0 rfl ?_
  refine p_getR (f := 6) (v := some gp) hK d_Machine_set_12 k_Machine fd_Machine_22_Machine (by decide) rfl rfl (fun g h => h.getR hm (by decide) rfl hmg) ?_
  refine r_iload_n hK d_Machine_set_15 rfl 1 rfl ?_
  refine r_iconst (v := nI 2) hK d_Machine_set_16 (by decide) ?_
  refine r_ishr hK d_Machine_set_17 ?_
  refine r_tp (b := nI (pg / 4)) (pg_shr pg hpg) ?_
  refine p_new (ci := 7) (a := G) hK d_Machine_set_18 k_Group cl_Machine_20 in_Group ii_Group (fun g h => h.new hq (by decide) (by decide)) ?_
  refine r_dup hK d_Machine_set_21 rfl ?_
  refine r_callNv (As := []) (b := G) (st := [.ref G, .int (nI (pg / 4)), .ref gp]) hK (c_Group_init X l (sNew s 7) G fa wa (by simp [sSetI, sSetR, sSetA, sSetB, sSetQ, sSetL, sSetT, sNew, sNewA, sNewL, sPush, sBump, sBegL, sPutT, sq, sl, sr, gSetI, gSetR, gSetA, gSetB, gNew, gNewA, up2, up1, gx, gk, gl, gi, gr, ga, gb, hq, h1, h2, n00, n01, n02, n10, n11, n12, k01, k02, k12, k10, k20, k21]) (by simp [sSetI, sSetR, sSetA, sSetB, sSetQ, sSetL, sSetT, sNew, sNewA, sNewL, sPush, sBump, sBegL, sPutT, sq, sl, sr, gSetI, gSetR, gSetA, gSetB, gNew, gNewA, up2, up1, gx, gk, gl, gi, gr, ga, gb, hq, h1, h2, n00, n01, n02, n10, n11, n12, k01, k02, k12, k10, k20, k21, h1]) h2 (by omega) (by omega)) d_Machine_set_22 mn_Machine_54 ci_Group_init rfl (by decide) (Nat.le_of_ble_eq_true rfl) ?_ rfl
  refine p_aast (t := 3) hK (pg / 4) 4 d_Machine_set_25 (by decide) (by decide) rfl rfl (by omega) (p_recv k_Group (fun g h => h.kd (by simp [sSetI, sSetR, sSetA, sSetB, sSetQ, sSetL, sSetT, sNew, sNewA, sNewL, sPush, sBump, sBegL, sPutT, sq, sl, sr, gSetI, gSetR, gSetA, gSetB, gNew, gNewA, up2, up1, gx, gk, gl, gi, gr, ga, gb, hq, h1, h2, n00, n01, n02, n10, n11, n12, k01, k02, k12, k10, k20, k21]) (by decide))) (Or.inl rfl) (fun g h => have e := h.arr (a := gp) (t := 3) (L := 4) (j := 0) (by simp [sSetI, sSetR, sSetA, sSetB, sSetQ, sSetL, sSetT, sNew, sNewA, sNewL, sPush, sBump, sBegL, sPutT, sq, sl, sr, gSetI, gSetR, gSetA, gSetB, gNew, gNewA, up2, up1, gx, gk, gl, gi, gr, ga, gb, hq, h1, h2, n00, n01, n02, n10, n11, n12, k01, k02, k12, k10, k20, k21, hgp]) (by simp [sSetI, sSetR, sSetA, sSetB, sSetQ, sSetL, sSetT, sNew, sNewA, sNewL, sPush, sBump, sBegL, sPutT, sq, sl, sr, gSetI, gSetR, gSetA, gSetB, gNew, gNewA, up2, up1, gx, gk, gl, gi, gr, ga, gb, hq, h1, h2, n00, n01, n02, n10, n11, n12, k01, k02, k12, k10, k20, k21, hgl]); ⟨e.1, e.2.1, h.setB (nzA (t := 3) (by simp [sSetI, sSetR, sSetA, sSetB, sSetQ, sSetL, sSetT, sNew, sNewA, sNewL, sPush, sBump, sBegL, sPutT, sq, sl, sr, gSetI, gSetR, gSetA, gSetB, gNew, gNewA, up2, up1, gx, gk, gl, gi, gr, ga, gb, hq, h1, h2, n00, n01, n02, n10, n11, n12, k01, k02, k12, k10, k20, k21, hgp]))⟩) ?_
  refine r_aload_n hK d_Machine_set_26 rfl 0 rfl ?_
  refine p_getR (f := 6) (v := some gp) hK d_Machine_set_27 k_Machine fd_Machine_22_Machine (by decide) rfl rfl (fun g h => h.getR (by simp [sSetI, sSetR, sSetA, sSetB, sSetQ, sSetL, sSetT, sNew, sNewA, sNewL, sPush, sBump, sBegL, sPutT, sq, sl, sr, gSetI, gSetR, gSetA, gSetB, gNew, gNewA, up2, up1, gx, gk, gl, gi, gr, ga, gb, hq, h1, h2, n00, n01, n02, n10, n11, n12, k01, k02, k12, k10, k20, k21, hm]) (by decide) rfl (by simp [sSetI, sSetR, sSetA, sSetB, sSetQ, sSetL, sSetT, sNew, sNewA, sNewL, sPush, sBump, sBegL, sPutT, sq, sl, sr, gSetI, gSetR, gSetA, gSetB, gNew, gNewA, up2, up1, gx, gk, gl, gi, gr, ga, gb, hq, h1, h2, n00, n01, n02, n10, n11, n12, k01, k02, k12, k10, k20, k21, hmg])) ?_
  refine r_iload_n hK d_Machine_set_30 rfl 1 rfl ?_
  refine r_iconst (v := nI 2) hK d_Machine_set_31 (by decide) ?_
  refine r_ishr hK d_Machine_set_32 ?_
  refine r_tp (b := nI (pg / 4)) (pg_shr pg hpg) ?_
  refine p_aald (t := 3) (v := some G) hK (pg / 4) 4 d_Machine_set_33 (by decide) (by decide) rfl rfl (by omega) (fun g h => have e := h.arr (a := gp) (t := 3) (L := 4) (j := (pg / 4)) (by simp [sSetI, sSetR, sSetA, sSetB, sSetQ, sSetL, sSetT, sNew, sNewA, sNewL, sPush, sBump, sBegL, sPutT, sq, sl, sr, gSetI, gSetR, gSetA, gSetB, gNew, gNewA, up2, up1, gx, gk, gl, gi, gr, ga, gb, hq, h1, h2, n00, n01, n02, n10, n11, n12, k01, k02, k12, k10, k20, k21, hgp]) (by simp [sSetI, sSetR, sSetA, sSetB, sSetQ, sSetL, sSetT, sNew, sNewA, sNewL, sPush, sBump, sBegL, sPutT, sq, sl, sr, gSetI, gSetR, gSetA, gSetB, gNew, gNewA, up2, up1, gx, gk, gl, gi, gr, ga, gb, hq, h1, h2, n00, n01, n02, n10, n11, n12, k01, k02, k12, k10, k20, k21, hgl]); ⟨e.1, e.2.1, e.2.2.2.trans (by simp [sSetI, sSetR, sSetA, sSetB, sSetQ, sSetL, sSetT, sNew, sNewA, sNewL, sPush, sBump, sBegL, sPutT, sq, sl, sr, gSetI, gSetR, gSetA, gSetB, gNew, gNewA, up2, up1, gx, gk, gl, gi, gr, ga, gb, hq, h1, h2, n00, n01, n02, n10, n11, n12, k01, k02, k12, k10, k20, k21])⟩) ?_
  refine p_getR (f := 31) (v := some fa) hK d_Machine_set_34 k_Group fd_Machine_47_Group (by decide) rfl rfl (fun g h => h.getR (by simp [sSetI, sSetR, sSetA, sSetB, sSetQ, sSetL, sSetT, sNew, sNewA, sNewL, sPush, sBump, sBegL, sPutT, sq, sl, sr, gSetI, gSetR, gSetA, gSetB, gNew, gNewA, up2, up1, gx, gk, gl, gi, gr, ga, gb, hq, h1, h2, n00, n01, n02, n10, n11, n12, k01, k02, k12, k10, k20, k21]) (by decide) rfl (by simp [sSetI, sSetR, sSetA, sSetB, sSetQ, sSetL, sSetT, sNew, sNewA, sNewL, sPush, sBump, sBegL, sPutT, sq, sl, sr, gSetI, gSetR, gSetA, gSetB, gNew, gNewA, up2, up1, gx, gk, gl, gi, gr, ga, gb, hq, h1, h2, n00, n01, n02, n10, n11, n12, k01, k02, k12, k10, k20, k21])) ?_
  refine r_iload_n hK d_Machine_set_37 rfl 1 rfl ?_
  refine r_iconst (v := nI 3) hK d_Machine_set_38 (by decide) ?_
  refine r_iand hK d_Machine_set_39 ?_
  refine r_tp (b := nI (pg % 4)) (pg_and pg hpg) ?_
  refine r_iload_n hK d_Machine_set_40 rfl 2 rfl ?_
  refine p_iast hK (pg % 4) 4 d_Machine_set_41 rfl (by omega) (fun g h => have e := h.arr (a := fa) (t := 0) (L := 4) (j := 0) (by simp [sSetI, sSetR, sSetA, sSetB, sSetQ, sSetL, sSetT, sNew, sNewA, sNewL, sPush, sBump, sBegL, sPutT, sq, sl, sr, gSetI, gSetR, gSetA, gSetB, gNew, gNewA, up2, up1, gx, gk, gl, gi, gr, ga, gb, hq, h1, h2, n00, n01, n02, n10, n11, n12, k01, k02, k12, k10, k20, k21]) (by simp [sSetI, sSetR, sSetA, sSetB, sSetQ, sSetL, sSetT, sNew, sNewA, sNewL, sPush, sBump, sBegL, sPutT, sq, sl, sr, gSetI, gSetR, gSetA, gSetB, gNew, gNewA, up2, up1, gx, gk, gl, gi, gr, ga, gb, hq, h1, h2, n00, n01, n02, n10, n11, n12, k01, k02, k12, k10, k20, k21]); ⟨e.1, e.2.1, h.setA⟩) ?_
  refine r_aload_n hK d_Machine_set_42 rfl 0 rfl ?_
  refine p_getR (f := 6) (v := some gp) hK d_Machine_set_43 k_Machine fd_Machine_22_Machine (by decide) rfl rfl (fun g h => h.getR (by simp [sSetI, sSetR, sSetA, sSetB, sSetQ, sSetL, sSetT, sNew, sNewA, sNewL, sPush, sBump, sBegL, sPutT, sq, sl, sr, gSetI, gSetR, gSetA, gSetB, gNew, gNewA, up2, up1, gx, gk, gl, gi, gr, ga, gb, hq, h1, h2, n00, n01, n02, n10, n11, n12, k01, k02, k12, k10, k20, k21, hm]) (by decide) rfl (by simp [sSetI, sSetR, sSetA, sSetB, sSetQ, sSetL, sSetT, sNew, sNewA, sNewL, sPush, sBump, sBegL, sPutT, sq, sl, sr, gSetI, gSetR, gSetA, gSetB, gNew, gNewA, up2, up1, gx, gk, gl, gi, gr, ga, gb, hq, h1, h2, n00, n01, n02, n10, n11, n12, k01, k02, k12, k10, k20, k21, hmg])) ?_
  refine r_iload_n hK d_Machine_set_46 rfl 1 rfl ?_
  refine r_iconst (v := nI 2) hK d_Machine_set_47 (by decide) ?_
  refine r_ishr hK d_Machine_set_48 ?_
  refine r_tp (b := nI (pg / 4)) (pg_shr pg hpg) ?_
  refine p_aald (t := 3) (v := some G) hK (pg / 4) 4 d_Machine_set_49 (by decide) (by decide) rfl rfl (by omega) (fun g h => have e := h.arr (a := gp) (t := 3) (L := 4) (j := (pg / 4)) (by simp [sSetI, sSetR, sSetA, sSetB, sSetQ, sSetL, sSetT, sNew, sNewA, sNewL, sPush, sBump, sBegL, sPutT, sq, sl, sr, gSetI, gSetR, gSetA, gSetB, gNew, gNewA, up2, up1, gx, gk, gl, gi, gr, ga, gb, hq, h1, h2, n00, n01, n02, n10, n11, n12, k01, k02, k12, k10, k20, k21, hgp]) (by simp [sSetI, sSetR, sSetA, sSetB, sSetQ, sSetL, sSetT, sNew, sNewA, sNewL, sPush, sBump, sBegL, sPutT, sq, sl, sr, gSetI, gSetR, gSetA, gSetB, gNew, gNewA, up2, up1, gx, gk, gl, gi, gr, ga, gb, hq, h1, h2, n00, n01, n02, n10, n11, n12, k01, k02, k12, k10, k20, k21, hgl]); ⟨e.1, e.2.1, e.2.2.2.trans (by simp [sSetI, sSetR, sSetA, sSetB, sSetQ, sSetL, sSetT, sNew, sNewA, sNewL, sPush, sBump, sBegL, sPutT, sq, sl, sr, gSetI, gSetR, gSetA, gSetB, gNew, gNewA, up2, up1, gx, gk, gl, gi, gr, ga, gb, hq, h1, h2, n00, n01, n02, n10, n11, n12, k01, k02, k12, k10, k20, k21])⟩) ?_
  refine p_getR (f := 32) (v := some wa) hK d_Machine_set_50 k_Group fd_Machine_50_Group (by decide) rfl rfl (fun g h => h.getR (by simp [sSetI, sSetR, sSetA, sSetB, sSetQ, sSetL, sSetT, sNew, sNewA, sNewL, sPush, sBump, sBegL, sPutT, sq, sl, sr, gSetI, gSetR, gSetA, gSetB, gNew, gNewA, up2, up1, gx, gk, gl, gi, gr, ga, gb, hq, h1, h2, n00, n01, n02, n10, n11, n12, k01, k02, k12, k10, k20, k21]) (by decide) rfl (by simp [sSetI, sSetR, sSetA, sSetB, sSetQ, sSetL, sSetT, sNew, sNewA, sNewL, sPush, sBump, sBegL, sPutT, sq, sl, sr, gSetI, gSetR, gSetA, gSetB, gNew, gNewA, up2, up1, gx, gk, gl, gi, gr, ga, gb, hq, h1, h2, n00, n01, n02, n10, n11, n12, k01, k02, k12, k10, k20, k21])) ?_
  refine r_iload_n hK d_Machine_set_53 rfl 1 rfl ?_
  refine r_iconst (v := nI 3) hK d_Machine_set_54 (by decide) ?_
  refine r_iand hK d_Machine_set_55 ?_
  refine r_tp (b := nI (pg % 4)) (pg_and pg hpg) ?_
  refine r_iload_n hK d_Machine_set_56 rfl 3 rfl ?_
  refine p_zast hK (pg % 4) 4 ((by first | rfl | assumption)) d_Machine_set_57 rfl (by omega) (fun g h => have e := h.arr (a := wa) (t := 1) (L := 4) (j := 0) (by simp [sSetI, sSetR, sSetA, sSetB, sSetQ, sSetL, sSetT, sNew, sNewA, sNewL, sPush, sBump, sBegL, sPutT, sq, sl, sr, gSetI, gSetR, gSetA, gSetB, gNew, gNewA, up2, up1, gx, gk, gl, gi, gr, ga, gb, hq, h1, h2, n00, n01, n02, n10, n11, n12, k01, k02, k12, k10, k20, k21]) (by simp [sSetI, sSetR, sSetA, sSetB, sSetQ, sSetL, sSetT, sNew, sNewA, sNewL, sPush, sBump, sBegL, sPutT, sq, sl, sr, gSetI, gSetR, gSetA, gSetB, gNew, gNewA, up2, up1, gx, gk, gl, gi, gr, ga, gb, hq, h1, h2, n00, n01, n02, n10, n11, n12, k01, k02, k12, k10, k20, k21]); ⟨e.1, e.2.1, h.setA⟩) ?_
  refine r_vret hK d_Machine_set_58 rfl ?_
  exact ⟨rfl, rfl⟩
