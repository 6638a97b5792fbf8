set_option maxHeartbeats 1000000 in
theorem c_Grant_further_1 (X : gCx) (l : Launch) (s : sS) (o m p pl rm fr n : Nat) (F : Nat → Int32) (ho : gk s.1 o = 11) (hm : gk s.1 m = 2) (hp : gk s.1 p = 3) (hpl : gk s.1 pl = 4) (hrm : gi s.1 15 p = nI rm) (hmp : gr s.1 7 m = some pl) (hn : gi s.1 43 o = nI n) (hfr : gi s.1 42 o = nI fr) (hrb : rm < 100) (hpb : (sq s pl).length < 100) (hnb : n < 100) (hfb : fr < 100) (hF : ∀ pg, fr ≤ pg → pg < fr + n → gMi X l (HoldP X (Abs X)) M_Machine_frame 0 0 0 [.ref m, .int (nI pg)] s (F pg) s) (hfree : n ≤ rm + (sq s pl).length) (hFm : ∀ pg, fr ≤ pg → pg < fr + n → F pg = -1) : gMv X l (HoldP X (Abs X)) M_Grant_further 4 2 5 [.ref o, .ref m, .ref p] s (sSetR (sSetI s 44 o (nI 0)) 39 o (some (cxE X 6))) := by
  refine gM_intro (by decide) (Nat.le_of_ble_eq_true rfl) (fun K hK => ?_)
  have key : ∀ (k pg : Nat), fr + n < pg + k → fr ≤ pg → pg ≤ fr + n → K 31 [(0, .ref o), (1, .ref m), (2, .ref p), (3, .int (nI 1)), (4, .int (nI pg))] [] s 2 5 := by
    intro k
    induction k with
    | zero => intro pg h1 h2 hle; exact absurd h1 (by omega)
    | succ k ih =>
      intro pg h1 h2 hle
      refine r_iload hK d_Grant_further_31 4 rfl ?_
      refine r_aload_n hK d_Grant_further_33 rfl 0 rfl ?_
      refine p_getI (f := 42) (v := nI fr) hK d_Grant_further_34 k_Grant fd_Grant_44_Grant (by decide) rfl rfl (fun g h => h.getI ho (by decide) rfl hfr) ?_
      refine r_aload_n hK d_Grant_further_37 rfl 0 rfl ?_
      refine p_getI (f := 43) (v := nI n) hK d_Grant_further_38 k_Grant fd_Grant_41_Grant (by decide) rfl rfl (fun g h => h.getI ho (by decide) rfl hn) ?_
      refine r_iadd hK d_Grant_further_41 ?_
      refine r_tp (b := nI (fr + n)) (nI_add _ _) ?_
      refine r_ncmp_ge (a := pg) (b := fr + n) (tgt := 71) hK d_Grant_further_42 (by decide) (by omega) (by omega) (fun c42 => ?_) (fun c42 => ?_)
      · refine r_aload_n hK d_Grant_further_71 rfl 0 rfl ?_
        refine r_iload_n hK d_Grant_further_72 rfl 3 rfl ?_
        refine r_nif_eq (a := 1) (tgt := 80) hK d_Grant_further_73 (by decide) (by decide) (fun z => absurd z (by decide)) (fun _ => ?_)
        refine r_iconst (v := nI 0) hK d_Grant_further_76 (by decide) ?_
        refine r_goto (tgt := 82) hK d_Grant_further_77 (by decide) ?_
        refine p_putI (k := 3) (f := 44) hK d_Grant_further_82 k_Grant fd_Grant_51_Grant (by decide) rfl rfl rfl rfl rfl (fun g h => ⟨h.kd ho (by decide), h.setI (nz_of (k := 10) ho) rfl⟩) ?_
        refine r_aload_n hK d_Grant_further_85 rfl 0 rfl ?_
        refine r_iload_n hK d_Grant_further_86 rfl 3 rfl ?_
        refine r_nif_eq (a := 1) (tgt := 96) hK d_Grant_further_87 (by decide) (by decide) (fun z => absurd z (by decide)) (fun _ => ?_)
        refine p_phase (e0 := 6) hK d_Grant_further_90 rfl fs_Grant_54 ?_
        refine r_goto (tgt := 99) hK d_Grant_further_93 (by decide) ?_
        refine r_callUi (As := [.ref (cxE X 6)]) (b := o) (st := []) hK (c_Order_go_Grant X l (sSetI s 44 o (nI 0)) o (cxE X 6) ho) d_Grant_further_99 ml_Grant_57 cu_Grant_Grant_Order_go rfl (by decide) (p_recv k_Grant (fun g h => h.kd ho (by decide))) (Nat.le_of_ble_eq_true rfl) ?_ rfl
        refine r_pop hK d_Grant_further_102 rfl ?_
        refine r_vret hK d_Grant_further_103 rfl ?_
        exact ⟨rfl, rfl⟩
      · refine r_iload_n hK d_Grant_further_45 rfl 3 rfl ?_
        refine r_nif_eq (a := 1) (tgt := 63) hK d_Grant_further_46 (by decide) (by decide) (fun z => absurd z (by decide)) (fun _ => ?_)
        refine r_aload_n hK d_Grant_further_49 rfl 1 rfl ?_
        refine r_iload hK d_Grant_further_50 4 rfl ?_
        refine r_callVi (As := [.int (nI pg)]) (b := m) (st := []) hK (hF pg (by omega) (by omega)) d_Grant_further_52 ml_Grant_47 cv_Machine_frame rfl (by decide) (p_recv k_Machine (fun g h => h.kd hm (by decide))) (Nat.le_of_ble_eq_true rfl) ?_ rfl
        refine r_iconst (v := -1) hK d_Grant_further_55 (by decide) ?_
        refine r_icmp_ne (tgt := 63) hK d_Grant_further_56 (by decide) (fun z => False.elim (z (hFm pg h2 c42))) (fun c56 => ?_)
        refine r_iconst (v := nI 1) hK d_Grant_further_59 (by decide) ?_
        refine r_goto (tgt := 64) hK d_Grant_further_60 (by decide) ?_
        refine r_istore_n (lv' := [(3, .int (nI 1)), (0, .ref o), (1, .ref m), (2, .ref p), (4, .int (nI pg))]) hK d_Grant_further_64 rfl (by decide) rfl ?_
        refine r_iinc (w := nI (pg + 1)) (lv' := [(4, .int (nI (pg + 1))), (3, .int (nI 1)), (0, .ref o), (1, .ref m), (2, .ref p)]) hK d_Grant_further_65 4 rfl (nI_add _ 1) (by decide) rfl ?_
        refine r_goto (tgt := 31) hK d_Grant_further_68 (by decide) ?_
        exact r_loc hK [2, 3, 4, 1, 0] rfl (ih (pg + 1) (by omega) (by omega) (by omega))
  show K 0 [(0, .ref o), (1, .ref m), (2, .ref p)] [] s 2 5
  refine r_aload_n hK d_Grant_further_0 rfl 2 rfl ?_
  refine p_getI (f := 15) (v := nI rm) hK d_Grant_further_1 k_Processor fd_Grant_24_Processor (by decide) rfl rfl (fun g h => h.getI hp (by decide) rfl hrm) ?_
  refine r_aload_n hK d_Grant_further_4 rfl 1 rfl ?_
  refine p_getR (f := 7) (v := some pl) hK d_Grant_further_5 k_Machine fd_Grant_30_Machine (by decide) rfl rfl (fun g h => h.getR hm (by decide) rfl hmp) ?_
  refine p_getI (f := 21) (v := nI (sq s pl).length) hK d_Grant_further_8 k_Line fd_Grant_36_Line (by decide) rfl rfl (fun g h => h.size hpl) ?_
  refine r_iadd hK d_Grant_further_11 ?_
  refine r_tp (b := nI (rm + (sq s pl).length)) (nI_add _ _) ?_
  refine r_aload_n hK d_Grant_further_12 rfl 0 rfl ?_
  refine p_getI (f := 43) (v := nI n) hK d_Grant_further_13 k_Grant fd_Grant_41_Grant (by decide) rfl rfl (fun g h => h.getI ho (by decide) rfl hn) ?_
  refine r_ncmp_lt (a := rm + (sq s pl).length) (b := n) (tgt := 23) hK d_Grant_further_16 (by decide) (by omega) (by omega) (fun z => False.elim (by omega)) (fun c16 => ?_)
  refine r_iconst (v := nI 1) hK d_Grant_further_19 (by decide) ?_
  refine r_goto (tgt := 24) hK d_Grant_further_20 (by decide) ?_
  refine r_istore_n (lv' := [(3, .int (nI 1)), (0, .ref o), (1, .ref m), (2, .ref p)]) hK d_Grant_further_24 rfl (by decide) rfl ?_
  refine r_aload_n hK d_Grant_further_25 rfl 1 rfl ?_
  refine p_getI (f := 42) (v := nI fr) hK d_Grant_further_26 k_Grant fd_Grant_44_Grant (by decide) rfl rfl (fun g h => h.getI ho (by decide) rfl hfr) ?_
  refine r_istore (lv' := [(4, .int (nI fr)), (3, .int (nI 1)), (0, .ref o), (1, .ref m), (2, .ref p)]) hK d_Grant_further_29 (by decide) rfl ?_
  exact r_loc hK [2, 3, 4, 1, 0] rfl (key (n + 1) fr (by omega) (by omega) (by omega))
set_option maxHeartbeats 1000000 in
theorem c_Grant_further_0 (X : gCx) (l : Launch) (s : sS) (o m p pl rm fr n : Nat) (F : Nat → Int32) (ho : gk s.1 o = 11) (hm : gk s.1 m = 2) (hp : gk s.1 p = 3) (hpl : gk s.1 pl = 4) (hrm : gi s.1 15 p = nI rm) (hmp : gr s.1 7 m = some pl) (hn : gi s.1 43 o = nI n) (hfr : gi s.1 42 o = nI fr) (hrb : rm < 100) (hpb : (sq s pl).length < 100) (hnb : n < 100) (hfb : fr < 100) (hF : ∀ pg, fr ≤ pg → pg < fr + n → gMi X l (HoldP X (Abs X)) M_Machine_frame 0 0 0 [.ref m, .int (nI pg)] s (F pg) s) (hno : n ≤ rm + (sq s pl).length → ∃ pg, fr ≤ pg ∧ pg < fr + n ∧ F pg ≠ -1) : gMv X l (HoldP X (Abs X)) M_Grant_further 4 2 5 [.ref o, .ref m, .ref p] s (sSetR (sSetI s 44 o (-3)) 39 o (some (cxE X 10))) := by
  refine gM_intro (by decide) (Nat.le_of_ble_eq_true rfl) (fun K hK => ?_)
  have key0 : ∀ (k pg : Nat), fr + n < pg + k → fr ≤ pg → pg ≤ fr + n → K 31 [(0, .ref o), (1, .ref m), (2, .ref p), (3, .int (nI 0)), (4, .int (nI pg))] [] s 2 5 := by
    intro k
    induction k with
    | zero => intro pg h1 h2 hle; exact absurd h1 (by omega)
    | succ k ih0 =>
      intro pg h1 h2 hle
      refine r_iload hK d_Grant_further_31 4 rfl ?_
      refine r_aload_n hK d_Grant_further_33 rfl 0 rfl ?_
      refine p_getI (f := 42) (v := nI fr) hK d_Grant_further_34 k_Grant fd_Grant_44_Grant (by decide) rfl rfl (fun g h => h.getI ho (by decide) rfl hfr) ?_
      refine r_aload_n hK d_Grant_further_37 rfl 0 rfl ?_
      refine p_getI (f := 43) (v := nI n) hK d_Grant_further_38 k_Grant fd_Grant_41_Grant (by decide) rfl rfl (fun g h => h.getI ho (by decide) rfl hn) ?_
      refine r_iadd hK d_Grant_further_41 ?_
      refine r_tp (b := nI (fr + n)) (nI_add _ _) ?_
      refine r_ncmp_ge (a := pg) (b := fr + n) (tgt := 71) hK d_Grant_further_42 (by decide) (by omega) (by omega) (fun c42 => ?_) (fun c42 => ?_)
      · refine r_aload_n hK d_Grant_further_71 rfl 0 rfl ?_
        refine r_iload_n hK d_Grant_further_72 rfl 3 rfl ?_
        refine r_nif_eq (a := 0) (tgt := 80) hK d_Grant_further_73 (by decide) (by decide) (fun _ => ?_) (fun z => absurd z (by decide))
        refine r_bipush (v := -3) hK d_Grant_further_80 (by decide) ?_
        refine p_putI (k := 3) (f := 44) hK d_Grant_further_82 k_Grant fd_Grant_51_Grant (by decide) rfl rfl rfl rfl rfl (fun g h => ⟨h.kd ho (by decide), h.setI (nz_of (k := 10) ho) rfl⟩) ?_
        refine r_aload_n hK d_Grant_further_85 rfl 0 rfl ?_
        refine r_iload_n hK d_Grant_further_86 rfl 3 rfl ?_
        refine r_nif_eq (a := 0) (tgt := 96) hK d_Grant_further_87 (by decide) (by decide) (fun _ => ?_) (fun z => absurd z (by decide))
        refine p_phase (e0 := 10) hK d_Grant_further_96 rfl fs_Grant_21 ?_
        refine r_callUi (As := [.ref (cxE X 10)]) (b := o) (st := []) hK (c_Order_go_Grant X l (sSetI s 44 o (-3)) o (cxE X 10) ho) d_Grant_further_99 ml_Grant_57 cu_Grant_Grant_Order_go rfl (by decide) (p_recv k_Grant (fun g h => h.kd ho (by decide))) (Nat.le_of_ble_eq_true rfl) ?_ rfl
        refine r_pop hK d_Grant_further_102 rfl ?_
        refine r_vret hK d_Grant_further_103 rfl ?_
        exact ⟨rfl, rfl⟩
      · refine r_iload_n hK d_Grant_further_45 rfl 3 rfl ?_
        refine r_nif_eq (a := 0) (tgt := 63) hK d_Grant_further_46 (by decide) (by decide) (fun _ => ?_) (fun z => absurd z (by decide))
        refine r_iconst (v := nI 0) hK d_Grant_further_63 (by decide) ?_
        refine r_istore_n (lv' := [(3, .int (nI 0)), (0, .ref o), (1, .ref m), (2, .ref p), (4, .int (nI pg))]) hK d_Grant_further_64 rfl (by decide) rfl ?_
        refine r_iinc (w := nI (pg + 1)) (lv' := [(4, .int (nI (pg + 1))), (3, .int (nI 0)), (0, .ref o), (1, .ref m), (2, .ref p)]) hK d_Grant_further_65 4 rfl (nI_add _ 1) (by decide) rfl ?_
        refine r_goto (tgt := 31) hK d_Grant_further_68 (by decide) ?_
        exact r_loc hK [2, 3, 4, 1, 0] rfl (ih0 (pg + 1) (by omega) (by omega) (by omega))
  have key : ∀ (k pg : Nat), fr + n < pg + k → fr ≤ pg → pg ≤ fr + n → (∃ y, pg ≤ y ∧ y < fr + n ∧ F y ≠ -1) → K 31 [(0, .ref o), (1, .ref m), (2, .ref p), (3, .int (nI 1)), (4, .int (nI pg))] [] s 2 5 := by
    intro k
    induction k with
    | zero => intro pg h1 h2 hle hex; exact absurd h1 (by omega)
    | succ k ih =>
      intro pg h1 h2 hle hex
      refine r_iload hK d_Grant_further_31 4 rfl ?_
      refine r_aload_n hK d_Grant_further_33 rfl 0 rfl ?_
      refine p_getI (f := 42) (v := nI fr) hK d_Grant_further_34 k_Grant fd_Grant_44_Grant (by decide) rfl rfl (fun g h => h.getI ho (by decide) rfl hfr) ?_
      refine r_aload_n hK d_Grant_further_37 rfl 0 rfl ?_
      refine p_getI (f := 43) (v := nI n) hK d_Grant_further_38 k_Grant fd_Grant_41_Grant (by decide) rfl rfl (fun g h => h.getI ho (by decide) rfl hn) ?_
      refine r_iadd hK d_Grant_further_41 ?_
      refine r_tp (b := nI (fr + n)) (nI_add _ _) ?_
      refine r_ncmp_ge (a := pg) (b := fr + n) (tgt := 71) hK d_Grant_further_42 (by decide) (by omega) (by omega) (fun z => False.elim (by obtain ⟨y, y1, y2, y3⟩ := hex; omega)) (fun c42 => ?_)
      refine r_iload_n hK d_Grant_further_45 rfl 3 rfl ?_
      refine r_nif_eq (a := 1) (tgt := 63) hK d_Grant_further_46 (by decide) (by decide) (fun z => absurd z (by decide)) (fun _ => ?_)
      refine r_aload_n hK d_Grant_further_49 rfl 1 rfl ?_
      refine r_iload hK d_Grant_further_50 4 rfl ?_
      refine r_callVi (As := [.int (nI pg)]) (b := m) (st := []) hK (hF pg (by omega) (by omega)) d_Grant_further_52 ml_Grant_47 cv_Machine_frame rfl (by decide) (p_recv k_Machine (fun g h => h.kd hm (by decide))) (Nat.le_of_ble_eq_true rfl) ?_ rfl
      refine r_iconst (v := -1) hK d_Grant_further_55 (by decide) ?_
      refine r_icmp_ne (tgt := 63) hK d_Grant_further_56 (by decide) (fun c56 => ?_) (fun c56 => ?_)
      · refine r_iconst (v := nI 0) hK d_Grant_further_63 (by decide) ?_
        refine r_istore_n (lv' := [(3, .int (nI 0)), (0, .ref o), (1, .ref m), (2, .ref p), (4, .int (nI pg))]) hK d_Grant_further_64 rfl (by decide) rfl ?_
        refine r_iinc (w := nI (pg + 1)) (lv' := [(4, .int (nI (pg + 1))), (3, .int (nI 0)), (0, .ref o), (1, .ref m), (2, .ref p)]) hK d_Grant_further_65 4 rfl (nI_add _ 1) (by decide) rfl ?_
        refine r_goto (tgt := 31) hK d_Grant_further_68 (by decide) ?_
        exact r_loc hK [2, 3, 4, 1, 0] rfl (key0 (fr + n + 1) (pg + 1) (by omega) (by omega) (by omega))
      · refine r_iconst (v := nI 1) hK d_Grant_further_59 (by decide) ?_
        refine r_goto (tgt := 64) hK d_Grant_further_60 (by decide) ?_
        refine r_istore_n (lv' := [(3, .int (nI 1)), (0, .ref o), (1, .ref m), (2, .ref p), (4, .int (nI pg))]) hK d_Grant_further_64 rfl (by decide) rfl ?_
        refine r_iinc (w := nI (pg + 1)) (lv' := [(4, .int (nI (pg + 1))), (3, .int (nI 1)), (0, .ref o), (1, .ref m), (2, .ref p)]) hK d_Grant_further_65 4 rfl (nI_add _ 1) (by decide) rfl ?_
        refine r_goto (tgt := 31) hK d_Grant_further_68 (by decide) ?_
        exact r_loc hK [2, 3, 4, 1, 0] rfl (ih (pg + 1) (by omega) (by omega) (by omega) (by obtain ⟨y, y1, y2, y3⟩ := hex; exact ⟨y, by rcases Nat.lt_or_eq_of_le y1 with z | z; exact z; exact absurd (by rw [← z]; exact c56) y3, y2, y3⟩))
  show K 0 [(0, .ref o), (1, .ref m), (2, .ref p)] [] s 2 5
  refine r_aload_n hK d_Grant_further_0 rfl 2 rfl ?_
  refine p_getI (f := 15) (v := nI rm) hK d_Grant_further_1 k_Processor fd_Grant_24_Processor (by decide) rfl rfl (fun g h => h.getI hp (by decide) rfl hrm) ?_
  refine r_aload_n hK d_Grant_further_4 rfl 1 rfl ?_
  refine p_getR (f := 7) (v := some pl) hK d_Grant_further_5 k_Machine fd_Grant_30_Machine (by decide) rfl rfl (fun g h => h.getR hm (by decide) rfl hmp) ?_
  refine p_getI (f := 21) (v := nI (sq s pl).length) hK d_Grant_further_8 k_Line fd_Grant_36_Line (by decide) rfl rfl (fun g h => h.size hpl) ?_
  refine r_iadd hK d_Grant_further_11 ?_
  refine r_tp (b := nI (rm + (sq s pl).length)) (nI_add _ _) ?_
  refine r_aload_n hK d_Grant_further_12 rfl 0 rfl ?_
  refine p_getI (f := 43) (v := nI n) hK d_Grant_further_13 k_Grant fd_Grant_41_Grant (by decide) rfl rfl (fun g h => h.getI ho (by decide) rfl hn) ?_
  refine r_ncmp_lt (a := rm + (sq s pl).length) (b := n) (tgt := 23) hK d_Grant_further_16 (by decide) (by omega) (by omega) (fun c16 => ?_) (fun c16 => ?_)
  · refine r_iconst (v := nI 0) hK d_Grant_further_23 (by decide) ?_
    refine r_istore_n (lv' := [(3, .int (nI 0)), (0, .ref o), (1, .ref m), (2, .ref p)]) hK d_Grant_further_24 rfl (by decide) rfl ?_
    refine r_aload_n hK d_Grant_further_25 rfl 1 rfl ?_
    refine p_getI (f := 42) (v := nI fr) hK d_Grant_further_26 k_Grant fd_Grant_44_Grant (by decide) rfl rfl (fun g h => h.getI ho (by decide) rfl hfr) ?_
    refine r_istore (lv' := [(4, .int (nI fr)), (3, .int (nI 0)), (0, .ref o), (1, .ref m), (2, .ref p)]) hK d_Grant_further_29 (by decide) rfl ?_
    exact r_loc hK [2, 3, 4, 1, 0] rfl (key0 (n + 1) fr (by omega) (by omega) (by omega))
  · refine r_iconst (v := nI 1) hK d_Grant_further_19 (by decide) ?_
    refine r_goto (tgt := 24) hK d_Grant_further_20 (by decide) ?_
    refine r_istore_n (lv' := [(3, .int (nI 1)), (0, .ref o), (1, .ref m), (2, .ref p)]) hK d_Grant_further_24 rfl (by decide) rfl ?_
    refine r_aload_n hK d_Grant_further_25 rfl 1 rfl ?_
    refine p_getI (f := 42) (v := nI fr) hK d_Grant_further_26 k_Grant fd_Grant_44_Grant (by decide) rfl rfl (fun g h => h.getI ho (by decide) rfl hfr) ?_
    refine r_istore (lv' := [(4, .int (nI fr)), (3, .int (nI 1)), (0, .ref o), (1, .ref m), (2, .ref p)]) hK d_Grant_further_29 (by decide) rfl ?_
    exact r_loc hK [2, 3, 4, 1, 0] rfl (key (n + 1) fr (by omega) (by omega) (by omega) (hno c16))
