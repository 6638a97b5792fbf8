set_option maxHeartbeats 1000000 in
theorem c_Mod_run (X : gCx) (l : Launch) (h nx : Nat) (N : tS) (sch : Int32) (n : Nat) (hn : 1 ≤ n ∧ n ≤ 16) (J : Nat → tS → Nat → Prop) (h0 : J 0 N 0) (hs : ∀ j, j < n → ∀ N' c, J j N' c → c ≤ j → ∃ r N2, gMi X l (HoldT X h nx) M_Mod_step 4 0 0 [.ref h, .int ((sch >>> ((nI (2 * j)) &&& 31)) &&& (nI 3))] N' r N2 ∧ J (j + 1) N2 (if r < nI 16 then c + 0 else c + 1)) : gM X l (HoldT X h nx) M_Mod_run 5 0 0 [.ref h, .int sch, .int (nI n)] N (fun r z => ∃ c, r = some (.int (nI c)) ∧ J n z c) := by
  refine gM_intro (by decide) (Nat.le_of_ble_eq_true rfl) (fun K hK => ?_)
  have key : ∀ (m k : Nat), n < k + m → k ≤ n → ∀ (N1 : tS) (c : Nat), J k N1 c → c ≤ k → K 18 [(0, .ref h), (1, .int sch), (2, .int (nI n)), (3, .int (nI c)), (4, .int (nI k))] [] N1 0 0 := by
    intro m
    induction m with
    | zero => intro k h1 h2; exact absurd h1 (by omega)
    | succ m ih =>
      intro k h1 h2 N1 c hJ hck
      refine r_iload hK d_Mod_run_18 4 rfl ?_
      refine r_iload_n hK d_Mod_run_20 rfl 2 rfl ?_
      refine r_ncmp_ge (a := k) (b := n) (tgt := 59) hK d_Mod_run_21 (by decide) (by omega) (by omega) (fun c21 => ?_) (fun c21 => ?_)
      · refine r_iload_n hK d_Mod_run_59 rfl 3 rfl ?_
        refine r_iret hK d_Mod_run_60 rfl (rfl) ?_
        have hkn : k = n := by omega
        subst hkn
        exact ⟨c, rfl, hJ⟩
      · refine r_aload_n hK d_Mod_run_24 rfl 0 rfl ?_
        refine r_iload_n hK d_Mod_run_25 rfl 1 rfl ?_
        refine r_iconst (v := nI 2) hK d_Mod_run_26 (by decide) ?_
        refine r_iload hK d_Mod_run_27 4 rfl ?_
        refine r_imul hK d_Mod_run_29 ?_
        refine r_tp (b := nI (2 * k)) (pk_mul _ _) ?_
        refine r_ishr hK d_Mod_run_30 ?_
        refine r_iconst (v := nI 3) hK d_Mod_run_31 (by decide) ?_
        refine r_iand hK d_Mod_run_32 ?_
        obtain ⟨r, N2, hst, hJ2⟩ := hs k (by omega) N1 c hJ hck
        refine r_callVi (As := [.int ((sch >>> ((nI (2 * k)) &&& 31)) &&& (nI 3))]) (b := h) (st := []) hK (hst) d_Mod_run_33 ml_Mod_158 cv_Mod_step rfl (by decide) w_recv (Nat.le_of_ble_eq_true rfl) ?_ rfl
        refine r_istore (lv' := [(5, .int r), (0, .ref h), (1, .int sch), (2, .int (nI n)), (3, .int (nI c)), (4, .int (nI k))]) hK d_Mod_run_36 (by decide) rfl ?_
        refine r_iload_n hK d_Mod_run_38 rfl 4 rfl ?_
        refine r_iload hK d_Mod_run_39 0 rfl ?_
        refine r_bipush (v := nI 16) hK d_Mod_run_41 (by decide) ?_
        refine r_icmp_lt (tgt := 50) hK d_Mod_run_43 (by decide) (fun c43 => ?_) (fun c43 => ?_)
        · refine r_iconst (v := nI 0) hK d_Mod_run_50 (by decide) ?_
          refine r_iadd hK d_Mod_run_51 ?_
          refine r_tp (b := nI (c + 0)) (nI_add _ _) ?_
          refine r_istore_n (lv' := [(3, .int (nI (c + 0))), (5, .int r), (0, .ref h), (1, .int sch), (2, .int (nI n)), (4, .int (nI k))]) hK d_Mod_run_52 rfl (by decide) rfl ?_
          refine r_iinc (w := nI (k + 1)) (lv' := [(4, .int (nI (k + 1))), (3, .int (nI (c + 0))), (5, .int r), (0, .ref h), (1, .int sch), (2, .int (nI n))]) hK d_Mod_run_53 5 rfl (nI_add _ 1) (by decide) rfl ?_
          refine r_goto (tgt := 18) hK d_Mod_run_56 (by decide) ?_
          rw [if_pos c43] at hJ2
          exact r_loc hK [3, 4, 5, 1, 0] rfl (ih (k + 1) (by omega) (by omega) N2 _ hJ2 (by omega))
        · refine r_iconst (v := nI 1) hK d_Mod_run_46 (by decide) ?_
          refine r_goto (tgt := 51) hK d_Mod_run_47 (by decide) ?_
          refine r_iadd hK d_Mod_run_51 ?_
          refine r_tp (b := nI (c + 1)) (nI_add _ _) ?_
          refine r_istore_n (lv' := [(3, .int (nI (c + 1))), (5, .int r), (0, .ref h), (1, .int sch), (2, .int (nI n)), (4, .int (nI k))]) hK d_Mod_run_52 rfl (by decide) rfl ?_
          refine r_iinc (w := nI (k + 1)) (lv' := [(4, .int (nI (k + 1))), (3, .int (nI (c + 1))), (5, .int r), (0, .ref h), (1, .int sch), (2, .int (nI n))]) hK d_Mod_run_53 5 rfl (nI_add _ 1) (by decide) rfl ?_
          refine r_goto (tgt := 18) hK d_Mod_run_56 (by decide) ?_
          rw [if_neg c43] at hJ2
          exact r_loc hK [3, 4, 5, 1, 0] rfl (ih (k + 1) (by omega) (by omega) N2 _ hJ2 (by omega))
  show K 0 [(0, .ref h), (1, .int sch), (2, .int (nI n))] [] N 0 0
  refine r_iload_n hK d_Mod_run_0 rfl 2 rfl ?_
  refine r_iconst (v := nI 1) hK d_Mod_run_1 (by decide) ?_
  refine r_ncmp_lt (a := n) (b := 1) (tgt := 11) hK d_Mod_run_2 (by decide) (by omega) (by omega) (fun z => False.elim (by omega)) (fun c2 => ?_)
  refine r_iload_n hK d_Mod_run_5 rfl 2 rfl ?_
  refine r_bipush (v := nI 16) hK d_Mod_run_6 (by decide) ?_
  refine r_ncmp_le (a := n) (b := 16) (tgt := 13) hK d_Mod_run_8 (by decide) (by omega) (by omega) (fun c8 => ?_) (fun z => False.elim (by omega))
  refine r_iconst (v := nI 0) hK d_Mod_run_13 (by decide) ?_
  refine r_istore_n (lv' := [(3, .int (nI 0)), (0, .ref h), (1, .int sch), (2, .int (nI n))]) hK d_Mod_run_14 rfl (by decide) rfl ?_
  refine r_iconst (v := nI 0) hK d_Mod_run_15 (by decide) ?_
  refine r_istore (lv' := [(4, .int (nI 0)), (3, .int (nI 0)), (0, .ref h), (1, .int sch), (2, .int (nI n))]) hK d_Mod_run_16 (by decide) rfl ?_
  exact r_loc hK [2, 3, 4, 1, 0] rfl (key (n + 1) 0 (by omega) (by omega) N 0 h0 (by omega))
set_option maxHeartbeats 1000000 in
theorem c_Mod_run_lo (X : gCx) (l : Launch) (h nx : Nat) (N : tS) (sch n : Int32) (hb : n < nI 1) : gMi X l (HoldT X h nx) M_Mod_run 5 0 0 [.ref h, .int sch, .int n] N (-1) N := by
  refine gM_intro (by decide) (Nat.le_of_ble_eq_true rfl) (fun K hK => ?_)
  show K 0 [(0, .ref h), (1, .int sch), (2, .int n)] [] N 0 0
  refine r_iload_n hK d_Mod_run_0 rfl 2 rfl ?_
  refine r_iconst (v := nI 1) hK d_Mod_run_1 (by decide) ?_
  refine r_icmp_lt (tgt := 11) hK d_Mod_run_2 (by decide) (fun c2 => ?_) (fun z => False.elim (z hb))
  refine r_iconst (v := -1) hK d_Mod_run_11 (by decide) ?_
  refine r_iret hK d_Mod_run_12 rfl (rfl) ?_
  exact ⟨rfl, rfl⟩
set_option maxHeartbeats 1000000 in
theorem c_Mod_run_hi (X : gCx) (l : Launch) (h nx : Nat) (N : tS) (sch n : Int32) (ha : ¬ n < nI 1) (hb : ¬ n ≤ nI 16) : gMi X l (HoldT X h nx) M_Mod_run 5 0 0 [.ref h, .int sch, .int n] N (-1) N := by
  refine gM_intro (by decide) (Nat.le_of_ble_eq_true rfl) (fun K hK => ?_)
  show K 0 [(0, .ref h), (1, .int sch), (2, .int n)] [] N 0 0
  refine r_iload_n hK d_Mod_run_0 rfl 2 rfl ?_
  refine r_iconst (v := nI 1) hK d_Mod_run_1 (by decide) ?_
  refine r_icmp_lt (tgt := 11) hK d_Mod_run_2 (by decide) (fun z => False.elim (ha z)) (fun c2 => ?_)
  refine r_iload_n hK d_Mod_run_5 rfl 2 rfl ?_
  refine r_bipush (v := nI 16) hK d_Mod_run_6 (by decide) ?_
  refine r_icmp_le (tgt := 13) hK d_Mod_run_8 (by decide) (fun z => False.elim (hb z)) (fun c8 => ?_)
  refine r_iconst (v := -1) hK d_Mod_run_11 (by decide) ?_
  refine r_iret hK d_Mod_run_12 rfl (rfl) ?_
  exact ⟨rfl, rfl⟩
theorem noPg_ok {p : Nat} (hp : p < 16) : s_Mod_noPage (nI p) = nI 0 := by
  have : p = 0 ∨ p = 1 ∨ p = 2 ∨ p = 3 ∨ p = 4 ∨ p = 5 ∨ p = 6 ∨ p = 7 ∨ p = 8 ∨ p = 9 ∨ p = 10 ∨ p = 11 ∨ p = 12 ∨ p = 13 ∨ p = 14 ∨ p = 15 := by omega
  rcases this with rfl | rfl | rfl | rfl | rfl | rfl | rfl | rfl | rfl | rfl | rfl | rfl | rfl | rfl | rfl | rfl <;> decide
set_option maxHeartbeats 1000000 in
theorem c_Mod_thread_bad (X : gCx) (l : Launch) (h nx : Nat) (N : tS) (p : Int32) (hb : s_Mod_noProcessor p ≠ 0) : gMi X l (HoldT X h nx) M_Mod_thread 1 0 0 [.ref h, .int p] N (-1) N := by
  refine gM_intro (by decide) (Nat.le_of_ble_eq_true rfl) (fun K hK => ?_)
  show K 0 [(0, .ref h), (1, .int p)] [] N 0 0
  refine r_iload_n hK d_Mod_thread_0 rfl 1 rfl ?_
  refine r_callSi (As := [.int p]) (st := []) hK (c_Mod_noProcessor X l h nx N p) d_Mod_thread_1 ml_Mod_102 cs_Mod_noProcessor rfl (by decide) (Nat.le_of_ble_eq_true rfl) ?_ rfl
  refine r_if_ne (tgt := 16) hK d_Mod_thread_4 (by decide) (fun c4 => ?_) (fun z => False.elim (hb z))
  refine r_iconst (v := -1) hK d_Mod_thread_16 (by decide) ?_
  refine r_iret hK d_Mod_thread_17 rfl (rfl) ?_
  exact ⟨rfl, rfl⟩
set_option maxHeartbeats 1000000 in
theorem c_Mod_thread_full (X : gCx) (l : Launch) (h nx : Nat) (N : tS) (p : Nat) (hp : p < 4) (hn : N 30 0 = nI 8) : gMi X l (HoldT X h nx) M_Mod_thread 1 0 0 [.ref h, .int (nI p)] N (-1) N := by
  refine gM_intro (by decide) (Nat.le_of_ble_eq_true rfl) (fun K hK => ?_)
  show K 0 [(0, .ref h), (1, .int (nI p))] [] N 0 0
  refine r_iload_n hK d_Mod_thread_0 rfl 1 rfl ?_
  refine r_callSi (As := [.int (nI p)]) (st := []) hK (c_Mod_noProcessor X l h nx N (nI p)) d_Mod_thread_1 ml_Mod_102 cs_Mod_noProcessor rfl (by decide) (Nat.le_of_ble_eq_true rfl) ?_ rfl
  refine r_tp (b := nI 0) (noP_ok hp) ?_
  refine r_nif_ne (a := 0) (tgt := 16) hK d_Mod_thread_4 (by decide) (by decide) (fun z => absurd z (by decide)) (fun z => ?_)
  refine r_aload_n hK d_Mod_thread_7 rfl 0 rfl ?_
  refine w_threads hK d_Mod_thread_8 rfl (v := nI 8) (hn) ?_
  refine r_bipush (v := nI 8) hK d_Mod_thread_11 (by decide) ?_
  refine r_ncmp_ne (a := 8) (b := 8) (tgt := 18) hK d_Mod_thread_13 (by decide) (by decide) (by decide) (fun z => absurd z (by decide)) (fun z => ?_)
  refine r_iconst (v := -1) hK d_Mod_thread_16 (by decide) ?_
  refine r_iret hK d_Mod_thread_17 rfl (rfl) ?_
  exact ⟨rfl, rfl⟩
set_option maxHeartbeats 1000000 in
theorem c_Mod_thread (X : gCx) (l : Launch) (h nx : Nat) (N : tS) (p n : Nat) (hp : p < 4) (hn : N 30 0 = nI n) (hn8 : n < 8) : gMi X l (HoldT X h nx) M_Mod_thread 1 0 0 [.ref h, .int (nI p)] N (nI n) (tset (tset (tset N 7 n (nI p)) 8 n (nI 0)) 30 0 (nI (n + 1))) := by
  refine gM_intro (by decide) (Nat.le_of_ble_eq_true rfl) (fun K hK => ?_)
  show K 0 [(0, .ref h), (1, .int (nI p))] [] N 0 0
  refine r_iload_n hK d_Mod_thread_0 rfl 1 rfl ?_
  refine r_callSi (As := [.int (nI p)]) (st := []) hK (c_Mod_noProcessor X l h nx N (nI p)) d_Mod_thread_1 ml_Mod_102 cs_Mod_noProcessor rfl (by decide) (Nat.le_of_ble_eq_true rfl) ?_ rfl
  refine r_tp (b := nI 0) (noP_ok hp) ?_
  refine r_nif_ne (a := 0) (tgt := 16) hK d_Mod_thread_4 (by decide) (by decide) (fun z => absurd z (by decide)) (fun z => ?_)
  refine r_aload_n hK d_Mod_thread_7 rfl 0 rfl ?_
  refine w_threads hK d_Mod_thread_8 rfl (v := nI n) (hn) ?_
  refine r_bipush (v := nI 8) hK d_Mod_thread_11 (by decide) ?_
  refine r_ncmp_ne (a := n) (b := 8) (tgt := 18) hK d_Mod_thread_13 (by decide) (by omega) (by omega) (fun c13 => ?_) (fun z => False.elim (by omega))
  refine r_aload_n hK d_Mod_thread_18 rfl 0 rfl ?_
  refine w_where hK d_Mod_thread_19 rfl ?_
  refine r_aload_n hK d_Mod_thread_22 rfl 0 rfl ?_
  refine w_threads hK d_Mod_thread_23 rfl (v := nI n) (hn) ?_
  refine r_iload_n hK d_Mod_thread_26 rfl 1 rfl ?_
  refine w_iast (n := 7) (L := 8) hK d_Mod_thread_27 (by decide) rfl rfl n rfl (by omega) ?_
  refine r_aload_n hK d_Mod_thread_28 rfl 0 rfl ?_
  refine w_how hK d_Mod_thread_29 rfl ?_
  refine r_aload_n hK d_Mod_thread_32 rfl 0 rfl ?_
  refine w_threads hK d_Mod_thread_33 rfl (v := nI n) (by simp [tset, hn]) ?_
  refine r_iconst (v := nI 0) hK d_Mod_thread_36 (by decide) ?_
  refine w_iast (n := 8) (L := 8) hK d_Mod_thread_37 (by decide) rfl rfl n rfl (by omega) ?_
  refine r_aload_n hK d_Mod_thread_38 rfl 0 rfl ?_
  refine r_dup hK d_Mod_thread_39 rfl ?_
  refine w_threads hK d_Mod_thread_40 rfl (v := nI n) (by simp [tset, hn]) ?_
  refine r_iconst (v := nI 1) hK d_Mod_thread_43 (by decide) ?_
  refine r_iadd hK d_Mod_thread_44 ?_
  refine r_tp (b := nI (n + 1)) (nI_add _ _) ?_
  refine w_put_threads hK d_Mod_thread_45 rfl ?_
  refine r_aload_n hK d_Mod_thread_48 rfl 0 rfl ?_
  refine w_threads hK d_Mod_thread_49 rfl (v := nI (n + 1)) (by simp [tset]) ?_
  refine r_iconst (v := nI 1) hK d_Mod_thread_52 (by decide) ?_
  refine r_isub hK d_Mod_thread_53 ?_
  refine r_tp (b := nI n) (nI_pred n) ?_
  refine r_iret hK d_Mod_thread_54 rfl (rfl) ?_
  exact ⟨rfl, rfl⟩
set_option maxHeartbeats 1000000 in
theorem c_Mod_order_neg (X : gCx) (l : Launch) (h nx : Nat) (N : tS) (thr pg m v : Int32) (wh : Nat) (hb : thr < 0) : gMi X l (HoldT X h nx) M_Mod_order 1 0 0 [.ref h, .int thr, .int (nI wh), .int pg, .int m, .int v] N (-1) N := by
  refine gM_intro (by decide) (Nat.le_of_ble_eq_true rfl) (fun K hK => ?_)
  show K 0 [(0, .ref h), (1, .int thr), (2, .int (nI wh)), (3, .int pg), (4, .int m), (5, .int v)] [] N 0 0
  refine r_iload_n hK d_Mod_order_0 rfl 1 rfl ?_
  refine r_if_lt (tgt := 23) hK d_Mod_order_1 (by decide) (fun c1 => ?_) (fun z => False.elim (z hb))
  refine r_iconst (v := -1) hK d_Mod_order_23 (by decide) ?_
  refine r_iret hK d_Mod_order_24 rfl (rfl) ?_
  exact ⟨rfl, rfl⟩
set_option maxHeartbeats 1000000 in
theorem c_Mod_order_ge (X : gCx) (l : Launch) (h nx : Nat) (N : tS) (thr pg m v : Int32) (wh n : Nat) (hn : N 30 0 = nI n) (ha : ¬ thr < 0) (hb : nI n ≤ thr) : gMi X l (HoldT X h nx) M_Mod_order 1 0 0 [.ref h, .int thr, .int (nI wh), .int pg, .int m, .int v] N (-1) N := by
  refine gM_intro (by decide) (Nat.le_of_ble_eq_true rfl) (fun K hK => ?_)
  show K 0 [(0, .ref h), (1, .int thr), (2, .int (nI wh)), (3, .int pg), (4, .int m), (5, .int v)] [] N 0 0
  refine r_iload_n hK d_Mod_order_0 rfl 1 rfl ?_
  refine r_if_lt (tgt := 23) hK d_Mod_order_1 (by decide) (fun z => False.elim (ha z)) (fun c1 => ?_)
  refine r_iload_n hK d_Mod_order_4 rfl 1 rfl ?_
  refine r_aload_n hK d_Mod_order_5 rfl 0 rfl ?_
  refine w_threads hK d_Mod_order_6 rfl (v := nI n) (hn) ?_
  refine r_icmp_ge (tgt := 23) hK d_Mod_order_9 (by decide) (fun c9 => ?_) (fun z => False.elim (z hb))
  refine r_iconst (v := -1) hK d_Mod_order_23 (by decide) ?_
  refine r_iret hK d_Mod_order_24 rfl (rfl) ?_
  exact ⟨rfl, rfl⟩
set_option maxHeartbeats 1000000 in
theorem c_Mod_order_full (X : gCx) (l : Launch) (h nx : Nat) (N : tS) (pg m v : Int32) (wh t n : Nat) (hn : N 30 0 = nI n) (hn8 : n ≤ 8) (htn : t < n) (hcn : N 0 t = nI 10) : gMi X l (HoldT X h nx) M_Mod_order 1 0 0 [.ref h, .int (nI t), .int (nI wh), .int pg, .int m, .int v] N (-1) N := by
  refine gM_intro (by decide) (Nat.le_of_ble_eq_true rfl) (fun K hK => ?_)
  show K 0 [(0, .ref h), (1, .int (nI t)), (2, .int (nI wh)), (3, .int pg), (4, .int m), (5, .int v)] [] N 0 0
  refine r_iload_n hK d_Mod_order_0 rfl 1 rfl ?_
  refine r_nif_lt (a := t) (tgt := 23) hK d_Mod_order_1 (by decide) (by omega) ?_
  refine r_iload_n hK d_Mod_order_4 rfl 1 rfl ?_
  refine r_aload_n hK d_Mod_order_5 rfl 0 rfl ?_
  refine w_threads hK d_Mod_order_6 rfl (v := nI n) (hn) ?_
  refine r_ncmp_ge (a := t) (b := n) (tgt := 23) hK d_Mod_order_9 (by decide) (by omega) (by omega) (fun z => False.elim (by omega)) (fun c9 => ?_)
  refine r_aload_n hK d_Mod_order_12 rfl 0 rfl ?_
  refine w_count hK d_Mod_order_13 rfl ?_
  refine r_iload_n hK d_Mod_order_16 rfl 1 rfl ?_
  refine w_iald (n := 0) (L := 8) hK d_Mod_order_17 (by decide) rfl rfl t rfl (by omega) (v := nI 10) (hcn) ?_
  refine r_bipush (v := nI 10) hK d_Mod_order_18 (by decide) ?_
  refine r_ncmp_ne (a := 10) (b := 10) (tgt := 25) hK d_Mod_order_20 (by decide) (by decide) (by decide) (fun z => absurd z (by decide)) (fun z => ?_)
  refine r_iconst (v := -1) hK d_Mod_order_23 (by decide) ?_
  refine r_iret hK d_Mod_order_24 rfl (rfl) ?_
  exact ⟨rfl, rfl⟩
def s_Mod_order (N : tS) (wh t cn : Nat) (pg m v : Int32) : Int32 × tS :=
  if N 8 t = 0 then (nI cn, tset (tset (tset (tset (tset (tset (tset (tset (tset (tset (tset (tset (tset (tset N 2 (10 * t + cn) (nI wh)) 3 (10 * t + cn) pg) 4 (10 * t + cn) m) 5 (10 * t + cn) v) 0 t (nI (cn + 1))) 8 t (nI 1)) 31 0 ((N 31 0) + nI 1)) 9 t ((N 31 0) + nI 1)) 10 t ((s_ph (nI wh)))) 12 t (nI 0)) 13 t (nI 0)) 14 t (nI 0)) 17 t (nI 0)) 15 t (nI 0))
  else (nI cn, tset (tset (tset (tset (tset N 2 (10 * t + cn) (nI wh)) 3 (10 * t + cn) pg) 4 (10 * t + cn) m) 5 (10 * t + cn) v) 0 t (nI (cn + 1)))
set_option maxHeartbeats 1000000 in
theorem c_Mod_order (X : gCx) (l : Launch) (h nx : Nat) (N : tS)  (wh t cn : Nat) (pg m v : Int32) (n : Nat) (hn : N 30 0 = nI n) (hn8 : n ≤ 8) (htn : t < n) (hcn : N 0 t = nI cn) (hcn2 : cn < 10) (hpk : N 8 t = 0 → N 1 t = nI cn) : gMi X l (HoldT X h nx) M_Mod_order 1 0 0 [.ref h, .int (nI t), .int (nI wh), .int pg, .int m, .int v] N ((s_Mod_order N wh t cn pg m v).1) ((s_Mod_order N wh t cn pg m v).2) := by
  refine gM_intro (by decide) (Nat.le_of_ble_eq_true rfl) (fun K hK => ?_)
  show K 0 [(0, .ref h), (1, .int (nI t)), (2, .int (nI wh)), (3, .int pg), (4, .int m), (5, .int v)] [] N 0 0
  refine r_iload_n hK d_Mod_order_0 rfl 1 rfl ?_
  refine r_nif_lt (a := t) (tgt := 23) hK d_Mod_order_1 (by decide) (by omega) ?_
  refine r_iload_n hK d_Mod_order_4 rfl 1 rfl ?_
  refine r_aload_n hK d_Mod_order_5 rfl 0 rfl ?_
  refine w_threads hK d_Mod_order_6 rfl (v := nI n) (hn) ?_
  refine r_ncmp_ge (a := t) (b := n) (tgt := 23) hK d_Mod_order_9 (by decide) (by omega) (by omega) (fun z => False.elim (by omega)) (fun c9 => ?_)
  refine r_aload_n hK d_Mod_order_12 rfl 0 rfl ?_
  refine w_count hK d_Mod_order_13 rfl ?_
  refine r_iload_n hK d_Mod_order_16 rfl 1 rfl ?_
  refine w_iald (n := 0) (L := 8) hK d_Mod_order_17 (by decide) rfl rfl t rfl (by omega) (v := nI cn) (hcn) ?_
  refine r_bipush (v := nI 10) hK d_Mod_order_18 (by decide) ?_
  refine r_ncmp_ne (a := cn) (b := 10) (tgt := 25) hK d_Mod_order_20 (by decide) (by omega) (by omega) (fun c20 => ?_) (fun z => False.elim (by omega))
  refine r_bipush (v := nI 10) hK d_Mod_order_25 (by decide) ?_
  refine r_iload_n hK d_Mod_order_27 rfl 1 rfl ?_
  refine r_imul hK d_Mod_order_28 ?_
  refine r_tp (b := nI (10 * t)) (pk_mul _ _) ?_
  refine r_aload_n hK d_Mod_order_29 rfl 0 rfl ?_
  refine w_count hK d_Mod_order_30 rfl ?_
  refine r_iload_n hK d_Mod_order_33 rfl 1 rfl ?_
  refine w_iald (n := 0) (L := 8) hK d_Mod_order_34 (by decide) rfl rfl t rfl (by omega) (v := nI cn) (hcn) ?_
  refine r_iadd hK d_Mod_order_35 ?_
  refine r_tp (b := nI (10 * t + cn)) (nI_add _ _) ?_
  refine r_istore (lv' := [(6, .int (nI (10 * t + cn))), (0, .ref h), (1, .int (nI t)), (2, .int (nI wh)), (3, .int pg), (4, .int m), (5, .int v)]) hK d_Mod_order_36 (by decide) rfl ?_
  refine r_aload_n hK d_Mod_order_38 rfl 1 rfl ?_
  refine w_kind hK d_Mod_order_39 rfl ?_
  refine r_iload hK d_Mod_order_42 0 rfl ?_
  refine r_iload_n hK d_Mod_order_44 rfl 3 rfl ?_
  refine w_iast (n := 2) (L := 80) hK d_Mod_order_45 (by decide) rfl rfl (10 * t + cn) rfl (by omega) ?_
  refine r_aload_n hK d_Mod_order_46 rfl 1 rfl ?_
  refine w_first hK d_Mod_order_47 rfl ?_
  refine r_iload hK d_Mod_order_50 0 rfl ?_
  refine r_iload_n hK d_Mod_order_52 rfl 4 rfl ?_
  refine w_iast (n := 3) (L := 80) hK d_Mod_order_53 (by decide) rfl rfl (10 * t + cn) rfl (by omega) ?_
  refine r_aload_n hK d_Mod_order_54 rfl 1 rfl ?_
  refine w_many hK d_Mod_order_55 rfl ?_
  refine r_iload hK d_Mod_order_58 0 rfl ?_
  refine r_iload hK d_Mod_order_60 5 rfl ?_
  refine w_iast (n := 4) (L := 80) hK d_Mod_order_62 (by decide) rfl rfl (10 * t + cn) rfl (by omega) ?_
  refine r_aload_n hK d_Mod_order_63 rfl 1 rfl ?_
  refine w_value hK d_Mod_order_64 rfl ?_
  refine r_iload hK d_Mod_order_67 0 rfl ?_
  refine r_iload hK d_Mod_order_69 6 rfl ?_
  refine w_iast (n := 5) (L := 80) hK d_Mod_order_71 (by decide) rfl rfl (10 * t + cn) rfl (by omega) ?_
  refine r_aload_n hK d_Mod_order_72 rfl 1 rfl ?_
  refine w_count hK d_Mod_order_73 rfl ?_
  refine r_iload_n hK d_Mod_order_76 rfl 2 rfl ?_
  refine r_dup2 hK d_Mod_order_77 rfl rfl ?_
  refine w_iald (n := 0) (L := 8) hK d_Mod_order_78 (by decide) rfl rfl t rfl (by omega) (v := nI cn) (by simp [tset, hcn]) ?_
  refine r_iconst (v := nI 1) hK d_Mod_order_79 (by decide) ?_
  refine r_iadd hK d_Mod_order_80 ?_
  refine r_tp (b := nI (cn + 1)) (nI_add _ _) ?_
  refine w_iast (n := 0) (L := 8) hK d_Mod_order_81 (by decide) rfl rfl t rfl (by omega) ?_
  refine r_aload_n hK d_Mod_order_82 rfl 1 rfl ?_
  refine w_how hK d_Mod_order_83 rfl ?_
  refine r_iload_n hK d_Mod_order_86 rfl 2 rfl ?_
  refine w_iald (n := 8) (L := 8) hK d_Mod_order_87 (by decide) rfl rfl t rfl (by omega) (v := N 8 t) (by simp [tset]) ?_
  refine r_if_ne (tgt := 113) hK d_Mod_order_88 (by decide) (fun c88 => ?_) (fun c88 => ?_)
  · refine r_aload_n hK d_Mod_order_113 rfl 1 rfl ?_
    refine w_count hK d_Mod_order_114 rfl ?_
    refine r_iload_n hK d_Mod_order_117 rfl 2 rfl ?_
    refine w_iald (n := 0) (L := 8) hK d_Mod_order_118 (by decide) rfl rfl t rfl (by omega) (v := nI (cn + 1)) (by simp [tset]) ?_
    refine r_iconst (v := nI 1) hK d_Mod_order_119 (by decide) ?_
    refine r_isub hK d_Mod_order_120 ?_
    refine r_tp (b := nI cn) (nI_pred cn) ?_
    refine r_iret hK d_Mod_order_121 rfl (rfl) ?_
    have hs : s_Mod_order N wh t cn pg m v = (nI cn, tset (tset (tset (tset (tset N 2 (10 * t + cn) (nI wh)) 3 (10 * t + cn) pg) 4 (10 * t + cn) m) 5 (10 * t + cn) v) 0 t (nI (cn + 1))) := by unfold s_Mod_order; rw [if_neg c88]
    exact ⟨by rw [hs], by rw [hs]⟩
  · refine r_aload_n hK d_Mod_order_91 rfl 1 rfl ?_
    refine w_how hK d_Mod_order_92 rfl ?_
    refine r_iload_n hK d_Mod_order_95 rfl 2 rfl ?_
    refine r_iconst (v := nI 1) hK d_Mod_order_96 (by decide) ?_
    refine w_iast (n := 8) (L := 8) hK d_Mod_order_97 (by decide) rfl rfl t rfl (by omega) ?_
    refine r_aload_n hK d_Mod_order_98 rfl 1 rfl ?_
    refine w_since hK d_Mod_order_99 rfl ?_
    refine r_iload_n hK d_Mod_order_102 rfl 2 rfl ?_
    refine r_aload_n hK d_Mod_order_103 rfl 1 rfl ?_
    refine r_callVi (As := []) (b := h) (st := [.int (nI t), .ref (h + 1 + 9)]) hK (c_Mod_tick X l h nx (tset (tset (tset (tset (tset (tset N 2 (10 * t + cn) (nI wh)) 3 (10 * t + cn) pg) 4 (10 * t + cn) m) 5 (10 * t + cn) v) 0 t (nI (cn + 1))) 8 t (nI 1)) (N 31 0) (by simp [tset])) d_Mod_order_104 ml_Mod_109 cv_Mod_tick rfl (by decide) w_recv (Nat.le_of_ble_eq_true rfl) ?_ rfl
    refine w_iast (n := 9) (L := 8) hK d_Mod_order_107 (by decide) rfl rfl t rfl (by omega) ?_
    refine r_aload_n hK d_Mod_order_108 rfl 1 rfl ?_
    refine r_iload_n hK d_Mod_order_109 rfl 2 rfl ?_
    refine r_callVv (As := [.int (nI t)]) (b := h) (st := []) hK (c_Mod_begin X l h nx (tset (tset (tset (tset (tset (tset (tset (tset N 2 (10 * t + cn) (nI wh)) 3 (10 * t + cn) pg) 4 (10 * t + cn) m) 5 (10 * t + cn) v) 0 t (nI (cn + 1))) 8 t (nI 1)) 31 0 ((N 31 0) + nI 1)) 9 t ((N 31 0) + nI 1)) t cn (nI wh) (by omega) (by simp [tset, hpk c88]) (by omega) (by simp [tset])) d_Mod_order_110 ml_Mod_113 cv_Mod_begin rfl (by decide) w_recv (Nat.le_of_ble_eq_true rfl) ?_ rfl
    refine r_aload_n hK d_Mod_order_113 rfl 1 rfl ?_
    refine w_count hK d_Mod_order_114 rfl ?_
    refine r_iload_n hK d_Mod_order_117 rfl 2 rfl ?_
    refine w_iald (n := 0) (L := 8) hK d_Mod_order_118 (by decide) rfl rfl t rfl (by omega) (v := nI (cn + 1)) (by simp [tset]) ?_
    refine r_iconst (v := nI 1) hK d_Mod_order_119 (by decide) ?_
    refine r_isub hK d_Mod_order_120 ?_
    refine r_tp (b := nI cn) (nI_pred cn) ?_
    refine r_iret hK d_Mod_order_121 rfl (rfl) ?_
    have hs : s_Mod_order N wh t cn pg m v = (nI cn, tset (tset (tset (tset (tset (tset (tset (tset (tset (tset (tset (tset (tset (tset N 2 (10 * t + cn) (nI wh)) 3 (10 * t + cn) pg) 4 (10 * t + cn) m) 5 (10 * t + cn) v) 0 t (nI (cn + 1))) 8 t (nI 1)) 31 0 ((N 31 0) + nI 1)) 9 t ((N 31 0) + nI 1)) 10 t ((s_ph (nI wh)))) 12 t (nI 0)) 13 t (nI 0)) 14 t (nI 0)) 17 t (nI 0)) 15 t (nI 0)) := by unfold s_Mod_order; rw [if_pos c88]
    exact ⟨by rw [hs], by rw [hs]⟩
set_option maxHeartbeats 1000000 in
theorem c_Mod_load_bad (X : gCx) (l : Launch) (h nx : Nat) (N : tS) (thr pg : Int32) (hb : s_Mod_noPage pg ≠ 0) : gMi X l (HoldT X h nx) M_Mod_load 2 0 0 [.ref h, .int thr, .int pg] N (-1) N := by
  refine gM_intro (by decide) (Nat.le_of_ble_eq_true rfl) (fun K hK => ?_)
  show K 0 [(0, .ref h), (1, .int thr), (2, .int pg)] [] N 0 0
  refine r_iload_n hK d_Mod_load_0 rfl 2 rfl ?_
  refine r_callSi (As := [.int pg]) (st := []) hK (c_Mod_noPage X l h nx N pg) d_Mod_load_1 ml_Mod_117 cs_Mod_noPage rfl (by decide) (Nat.le_of_ble_eq_true rfl) ?_ rfl
  refine r_if_eq (tgt := 11) hK d_Mod_load_4 (by decide) (fun z => False.elim (hb z)) (fun c4 => ?_)
  refine r_iconst (v := -1) hK d_Mod_load_7 (by decide) ?_
  refine r_goto (tgt := 20) hK d_Mod_load_8 (by decide) ?_
  refine r_iret hK d_Mod_load_20 rfl (rfl) ?_
  exact ⟨rfl, rfl⟩
set_option maxHeartbeats 1000000 in
theorem c_Mod_load (X : gCx) (l : Launch) (h nx : Nat) (N : tS) (thr : Int32) (pg : Nat) (hpg : pg < 16) (r : Int32) (N2 : tS) (ho : gMi X l (HoldT X h nx) M_Mod_order 1 0 0 [.ref h, .int thr, .int (nI 0), .int (nI pg), .int (nI 1), .int (nI 0)] N r N2) : gMi X l (HoldT X h nx) M_Mod_load 2 0 0 [.ref h, .int thr, .int (nI pg)] N r N2 := by
  refine gM_intro (by decide) (Nat.le_of_ble_eq_true rfl) (fun K hK => ?_)
  show K 0 [(0, .ref h), (1, .int thr), (2, .int (nI pg))] [] N 0 0
  refine r_iload_n hK d_Mod_load_0 rfl 2 rfl ?_
  refine r_callSi (As := [.int (nI pg)]) (st := []) hK (c_Mod_noPage X l h nx N (nI pg)) d_Mod_load_1 ml_Mod_117 cs_Mod_noPage rfl (by decide) (Nat.le_of_ble_eq_true rfl) ?_ rfl
  refine r_tp (b := nI 0) (noPg_ok hpg) ?_
  refine r_nif_eq (a := 0) (tgt := 11) hK d_Mod_load_4 (by decide) (by decide) (fun z => ?_) (fun z => absurd z (by decide))
  refine r_aload_n hK d_Mod_load_11 rfl 0 rfl ?_
  refine r_iload_n hK d_Mod_load_12 rfl 1 rfl ?_
  refine r_iconst (v := nI 0) hK d_Mod_load_13 (by decide) ?_
  refine r_iload_n hK d_Mod_load_14 rfl 2 rfl ?_
  refine r_iconst (v := nI 1) hK d_Mod_load_15 (by decide) ?_
  refine r_iconst (v := nI 0) hK d_Mod_load_16 (by decide) ?_
  refine r_callVi (As := [.int thr, .int (nI 0), .int (nI pg), .int (nI 1), .int (nI 0)]) (b := h) (st := []) hK (ho) d_Mod_load_17 ml_Mod_120 cv_Mod_order rfl (by decide) w_recv (Nat.le_of_ble_eq_true rfl) ?_ rfl
  refine r_iret hK d_Mod_load_20 rfl (rfl) ?_
  exact ⟨rfl, rfl⟩
set_option maxHeartbeats 1000000 in
theorem c_Mod_store_bad (X : gCx) (l : Launch) (h nx : Nat) (N : tS) (thr pg v : Int32) (hb : s_Mod_noPage pg ≠ 0) : gMi X l (HoldT X h nx) M_Mod_store 2 0 0 [.ref h, .int thr, .int pg, .int v] N (-1) N := by
  refine gM_intro (by decide) (Nat.le_of_ble_eq_true rfl) (fun K hK => ?_)
  show K 0 [(0, .ref h), (1, .int thr), (2, .int pg), (3, .int v)] [] N 0 0
  refine r_iload_n hK d_Mod_store_0 rfl 2 rfl ?_
  refine r_callSi (As := [.int pg]) (st := []) hK (c_Mod_noPage X l h nx N pg) d_Mod_store_1 ml_Mod_117 cs_Mod_noPage rfl (by decide) (Nat.le_of_ble_eq_true rfl) ?_ rfl
  refine r_if_ne (tgt := 18) hK d_Mod_store_4 (by decide) (fun c4 => ?_) (fun z => False.elim (hb z))
  refine r_iconst (v := -1) hK d_Mod_store_18 (by decide) ?_
  refine r_goto (tgt := 31) hK d_Mod_store_19 (by decide) ?_
  refine r_iret hK d_Mod_store_31 rfl (rfl) ?_
  exact ⟨rfl, rfl⟩
set_option maxHeartbeats 1000000 in
theorem c_Mod_store_neg (X : gCx) (l : Launch) (h nx : Nat) (N : tS) (thr v : Int32) (pg : Nat) (hpg : pg < 16) (hv : v < 0) : gMi X l (HoldT X h nx) M_Mod_store 2 0 0 [.ref h, .int thr, .int (nI pg), .int v] N (-1) N := by
  refine gM_intro (by decide) (Nat.le_of_ble_eq_true rfl) (fun K hK => ?_)
  show K 0 [(0, .ref h), (1, .int thr), (2, .int (nI pg)), (3, .int v)] [] N 0 0
  refine r_iload_n hK d_Mod_store_0 rfl 2 rfl ?_
  refine r_callSi (As := [.int (nI pg)]) (st := []) hK (c_Mod_noPage X l h nx N (nI pg)) d_Mod_store_1 ml_Mod_117 cs_Mod_noPage rfl (by decide) (Nat.le_of_ble_eq_true rfl) ?_ rfl
  refine r_tp (b := nI 0) (noPg_ok hpg) ?_
  refine r_nif_ne (a := 0) (tgt := 18) hK d_Mod_store_4 (by decide) (by decide) (fun z => absurd z (by decide)) (fun z => ?_)
  refine r_iload_n hK d_Mod_store_7 rfl 3 rfl ?_
  refine r_if_lt (tgt := 18) hK d_Mod_store_8 (by decide) (fun c8 => ?_) (fun z => False.elim (z hv))
  refine r_iconst (v := -1) hK d_Mod_store_18 (by decide) ?_
  refine r_goto (tgt := 31) hK d_Mod_store_19 (by decide) ?_
  refine r_iret hK d_Mod_store_31 rfl (rfl) ?_
  exact ⟨rfl, rfl⟩
set_option maxHeartbeats 1000000 in
theorem c_Mod_store_big (X : gCx) (l : Launch) (h nx : Nat) (N : tS) (thr v : Int32) (pg : Nat) (hpg : pg < 16) (hv0 : ¬ v < 0) (hv : ¬ v ≤ nI 999) : gMi X l (HoldT X h nx) M_Mod_store 2 0 0 [.ref h, .int thr, .int (nI pg), .int v] N (-1) N := by
  refine gM_intro (by decide) (Nat.le_of_ble_eq_true rfl) (fun K hK => ?_)
  show K 0 [(0, .ref h), (1, .int thr), (2, .int (nI pg)), (3, .int v)] [] N 0 0
  refine r_iload_n hK d_Mod_store_0 rfl 2 rfl ?_
  refine r_callSi (As := [.int (nI pg)]) (st := []) hK (c_Mod_noPage X l h nx N (nI pg)) d_Mod_store_1 ml_Mod_117 cs_Mod_noPage rfl (by decide) (Nat.le_of_ble_eq_true rfl) ?_ rfl
  refine r_tp (b := nI 0) (noPg_ok hpg) ?_
  refine r_nif_ne (a := 0) (tgt := 18) hK d_Mod_store_4 (by decide) (by decide) (fun z => absurd z (by decide)) (fun z => ?_)
  refine r_iload_n hK d_Mod_store_7 rfl 3 rfl ?_
  refine r_if_lt (tgt := 18) hK d_Mod_store_8 (by decide) (fun z => False.elim (hv0 z)) (fun c8 => ?_)
  refine r_iload_n hK d_Mod_store_11 rfl 3 rfl ?_
  refine r_sipush (v := nI 999) hK d_Mod_store_12 (by decide) ?_
  refine r_icmp_le (tgt := 22) hK d_Mod_store_15 (by decide) (fun z => False.elim (hv z)) (fun c15 => ?_)
  refine r_iconst (v := -1) hK d_Mod_store_18 (by decide) ?_
  refine r_goto (tgt := 31) hK d_Mod_store_19 (by decide) ?_
  refine r_iret hK d_Mod_store_31 rfl (rfl) ?_
  exact ⟨rfl, rfl⟩
set_option maxHeartbeats 1000000 in
theorem c_Mod_store (X : gCx) (l : Launch) (h nx : Nat) (N : tS) (thr v : Int32) (pg : Nat) (hpg : pg < 16) (hv0 : ¬ v < 0) (hv : v ≤ nI 999) (r : Int32) (N2 : tS) (ho : gMi X l (HoldT X h nx) M_Mod_order 1 0 0 [.ref h, .int thr, .int (nI 1), .int (nI pg), .int (nI 1), .int v] N r N2) : gMi X l (HoldT X h nx) M_Mod_store 2 0 0 [.ref h, .int thr, .int (nI pg), .int v] N r N2 := by
  refine gM_intro (by decide) (Nat.le_of_ble_eq_true rfl) (fun K hK => ?_)
  show K 0 [(0, .ref h), (1, .int thr), (2, .int (nI pg)), (3, .int v)] [] N 0 0
  refine r_iload_n hK d_Mod_store_0 rfl 2 rfl ?_
  refine r_callSi (As := [.int (nI pg)]) (st := []) hK (c_Mod_noPage X l h nx N (nI pg)) d_Mod_store_1 ml_Mod_117 cs_Mod_noPage rfl (by decide) (Nat.le_of_ble_eq_true rfl) ?_ rfl
  refine r_tp (b := nI 0) (noPg_ok hpg) ?_
  refine r_nif_ne (a := 0) (tgt := 18) hK d_Mod_store_4 (by decide) (by decide) (fun z => absurd z (by decide)) (fun z => ?_)
  refine r_iload_n hK d_Mod_store_7 rfl 3 rfl ?_
  refine r_if_lt (tgt := 18) hK d_Mod_store_8 (by decide) (fun z => False.elim (hv0 z)) (fun c8 => ?_)
  refine r_iload_n hK d_Mod_store_11 rfl 3 rfl ?_
  refine r_sipush (v := nI 999) hK d_Mod_store_12 (by decide) ?_
  refine r_icmp_le (tgt := 22) hK d_Mod_store_15 (by decide) (fun c15 => ?_) (fun z => False.elim (z hv))
  refine r_aload_n hK d_Mod_store_22 rfl 0 rfl ?_
  refine r_iload_n hK d_Mod_store_23 rfl 1 rfl ?_
  refine r_iconst (v := nI 1) hK d_Mod_store_24 (by decide) ?_
  refine r_iload_n hK d_Mod_store_25 rfl 2 rfl ?_
  refine r_iconst (v := nI 1) hK d_Mod_store_26 (by decide) ?_
  refine r_iload_n hK d_Mod_store_27 rfl 3 rfl ?_
  refine r_callVi (As := [.int thr, .int (nI 1), .int (nI pg), .int (nI 1), .int v]) (b := h) (st := []) hK (ho) d_Mod_store_28 ml_Mod_120 cv_Mod_order rfl (by decide) w_recv (Nat.le_of_ble_eq_true rfl) ?_ rfl
  refine r_iret hK d_Mod_store_31 rfl (rfl) ?_
  exact ⟨rfl, rfl⟩
theorem noRg_ok {p n : Int32} (h : s_Mod_noRange p n = nI 0 ∨ s_Mod_noRange p n = nI 1) : True := trivial
set_option maxHeartbeats 1000000 in
theorem c_Mod_map_bad (X : gCx) (l : Launch) (h nx : Nat) (N : tS) (thr pg m wr : Int32) (hb : s_Mod_noRange pg m ≠ 0) : gMi X l (HoldT X h nx) M_Mod_map 2 0 0 [.ref h, .int thr, .int pg, .int m, .int wr] N (-1) N := by
  refine gM_intro (by decide) (Nat.le_of_ble_eq_true rfl) (fun K hK => ?_)
  show K 0 [(0, .ref h), (1, .int thr), (2, .int pg), (3, .int m), (4, .int wr)] [] N 0 0
  refine r_iload_n hK d_Mod_map_0 rfl 2 rfl ?_
  refine r_iload_n hK d_Mod_map_1 rfl 3 rfl ?_
  refine r_callSi (As := [.int pg, .int m]) (st := []) hK (c_Mod_noRange X l h nx N pg m) d_Mod_map_2 ml_Mod_124 cs_Mod_noRange rfl (by decide) (Nat.le_of_ble_eq_true rfl) ?_ rfl
  refine r_if_eq (tgt := 12) hK d_Mod_map_5 (by decide) (fun z => False.elim (hb z)) (fun c5 => ?_)
  refine r_iconst (v := -1) hK d_Mod_map_8 (by decide) ?_
  refine r_goto (tgt := 30) hK d_Mod_map_9 (by decide) ?_
  refine r_iret hK d_Mod_map_30 rfl (rfl) ?_
  exact ⟨rfl, rfl⟩
set_option maxHeartbeats 1000000 in
theorem c_Mod_map_0 (X : gCx) (l : Launch) (h nx : Nat) (N : tS) (thr pg m wr : Int32) (hb : s_Mod_noRange pg m = 0) (hwr : wr = 0) (r : Int32) (N2 : tS) (ho : gMi X l (HoldT X h nx) M_Mod_order 1 0 0 [.ref h, .int thr, .int (nI 2), .int pg, .int m, .int (nI 0)] N r N2) : gMi X l (HoldT X h nx) M_Mod_map 2 0 0 [.ref h, .int thr, .int pg, .int m, .int wr] N r N2 := by
  refine gM_intro (by decide) (Nat.le_of_ble_eq_true rfl) (fun K hK => ?_)
  show K 0 [(0, .ref h), (1, .int thr), (2, .int pg), (3, .int m), (4, .int wr)] [] N 0 0
  refine r_iload_n hK d_Mod_map_0 rfl 2 rfl ?_
  refine r_iload_n hK d_Mod_map_1 rfl 3 rfl ?_
  refine r_callSi (As := [.int pg, .int m]) (st := []) hK (c_Mod_noRange X l h nx N pg m) d_Mod_map_2 ml_Mod_124 cs_Mod_noRange rfl (by decide) (Nat.le_of_ble_eq_true rfl) ?_ rfl
  refine r_if_eq (tgt := 12) hK d_Mod_map_5 (by decide) (fun c5 => ?_) (fun z => False.elim (z hb))
  refine r_aload_n hK d_Mod_map_12 rfl 0 rfl ?_
  refine r_iload_n hK d_Mod_map_13 rfl 1 rfl ?_
  refine r_iconst (v := nI 2) hK d_Mod_map_14 (by decide) ?_
  refine r_iload_n hK d_Mod_map_15 rfl 2 rfl ?_
  refine r_iload_n hK d_Mod_map_16 rfl 3 rfl ?_
  refine r_iload hK d_Mod_map_17 4 rfl ?_
  refine r_if_eq (tgt := 26) hK d_Mod_map_19 (by decide) (fun c19 => ?_) (fun z => False.elim (z hwr))
  refine r_iconst (v := nI 0) hK d_Mod_map_26 (by decide) ?_
  refine r_callVi (As := [.int thr, .int (nI 2), .int pg, .int m, .int (nI 0)]) (b := h) (st := []) hK (ho) d_Mod_map_27 ml_Mod_120 cv_Mod_order rfl (by decide) w_recv (Nat.le_of_ble_eq_true rfl) ?_ rfl
  refine r_iret hK d_Mod_map_30 rfl (rfl) ?_
  exact ⟨rfl, rfl⟩
set_option maxHeartbeats 1000000 in
theorem c_Mod_map_1 (X : gCx) (l : Launch) (h nx : Nat) (N : tS) (thr pg m wr : Int32) (hb : s_Mod_noRange pg m = 0) (hwr : ¬ wr = 0) (r : Int32) (N2 : tS) (ho : gMi X l (HoldT X h nx) M_Mod_order 1 0 0 [.ref h, .int thr, .int (nI 2), .int pg, .int m, .int (nI 1)] N r N2) : gMi X l (HoldT X h nx) M_Mod_map 2 0 0 [.ref h, .int thr, .int pg, .int m, .int wr] N r N2 := by
  refine gM_intro (by decide) (Nat.le_of_ble_eq_true rfl) (fun K hK => ?_)
  show K 0 [(0, .ref h), (1, .int thr), (2, .int pg), (3, .int m), (4, .int wr)] [] N 0 0
  refine r_iload_n hK d_Mod_map_0 rfl 2 rfl ?_
  refine r_iload_n hK d_Mod_map_1 rfl 3 rfl ?_
  refine r_callSi (As := [.int pg, .int m]) (st := []) hK (c_Mod_noRange X l h nx N pg m) d_Mod_map_2 ml_Mod_124 cs_Mod_noRange rfl (by decide) (Nat.le_of_ble_eq_true rfl) ?_ rfl
  refine r_if_eq (tgt := 12) hK d_Mod_map_5 (by decide) (fun c5 => ?_) (fun z => False.elim (z hb))
  refine r_aload_n hK d_Mod_map_12 rfl 0 rfl ?_
  refine r_iload_n hK d_Mod_map_13 rfl 1 rfl ?_
  refine r_iconst (v := nI 2) hK d_Mod_map_14 (by decide) ?_
  refine r_iload_n hK d_Mod_map_15 rfl 2 rfl ?_
  refine r_iload_n hK d_Mod_map_16 rfl 3 rfl ?_
  refine r_iload hK d_Mod_map_17 4 rfl ?_
  refine r_if_eq (tgt := 26) hK d_Mod_map_19 (by decide) (fun z => False.elim (hwr z)) (fun c19 => ?_)
  refine r_iconst (v := nI 1) hK d_Mod_map_22 (by decide) ?_
  refine r_goto (tgt := 27) hK d_Mod_map_23 (by decide) ?_
  refine r_callVi (As := [.int thr, .int (nI 2), .int pg, .int m, .int (nI 1)]) (b := h) (st := []) hK (ho) d_Mod_map_27 ml_Mod_120 cv_Mod_order rfl (by decide) w_recv (Nat.le_of_ble_eq_true rfl) ?_ rfl
  refine r_iret hK d_Mod_map_30 rfl (rfl) ?_
  exact ⟨rfl, rfl⟩
set_option maxHeartbeats 1000000 in
theorem c_Mod_unmap_bad (X : gCx) (l : Launch) (h nx : Nat) (N : tS) (thr pg m : Int32) (hb : s_Mod_noRange pg m ≠ 0) : gMi X l (HoldT X h nx) M_Mod_unmap 2 0 0 [.ref h, .int thr, .int pg, .int m] N (-1) N := by
  refine gM_intro (by decide) (Nat.le_of_ble_eq_true rfl) (fun K hK => ?_)
  show K 0 [(0, .ref h), (1, .int thr), (2, .int pg), (3, .int m)] [] N 0 0
  refine r_iload_n hK d_Mod_unmap_0 rfl 2 rfl ?_
  refine r_iload_n hK d_Mod_unmap_1 rfl 3 rfl ?_
  refine r_callSi (As := [.int pg, .int m]) (st := []) hK (c_Mod_noRange X l h nx N pg m) d_Mod_unmap_2 ml_Mod_124 cs_Mod_noRange rfl (by decide) (Nat.le_of_ble_eq_true rfl) ?_ rfl
  refine r_if_eq (tgt := 12) hK d_Mod_unmap_5 (by decide) (fun z => False.elim (hb z)) (fun c5 => ?_)
  refine r_iconst (v := -1) hK d_Mod_unmap_8 (by decide) ?_
  refine r_goto (tgt := 21) hK d_Mod_unmap_9 (by decide) ?_
  refine r_iret hK d_Mod_unmap_21 rfl (rfl) ?_
  exact ⟨rfl, rfl⟩
set_option maxHeartbeats 1000000 in
theorem c_Mod_unmap (X : gCx) (l : Launch) (h nx : Nat) (N : tS) (thr pg m : Int32) (hb : s_Mod_noRange pg m = 0) (r : Int32) (N2 : tS) (ho : gMi X l (HoldT X h nx) M_Mod_order 1 0 0 [.ref h, .int thr, .int (nI 3), .int pg, .int m, .int (nI 0)] N r N2) : gMi X l (HoldT X h nx) M_Mod_unmap 2 0 0 [.ref h, .int thr, .int pg, .int m] N r N2 := by
  refine gM_intro (by decide) (Nat.le_of_ble_eq_true rfl) (fun K hK => ?_)
  show K 0 [(0, .ref h), (1, .int thr), (2, .int pg), (3, .int m)] [] N 0 0
  refine r_iload_n hK d_Mod_unmap_0 rfl 2 rfl ?_
  refine r_iload_n hK d_Mod_unmap_1 rfl 3 rfl ?_
  refine r_callSi (As := [.int pg, .int m]) (st := []) hK (c_Mod_noRange X l h nx N pg m) d_Mod_unmap_2 ml_Mod_124 cs_Mod_noRange rfl (by decide) (Nat.le_of_ble_eq_true rfl) ?_ rfl
  refine r_if_eq (tgt := 12) hK d_Mod_unmap_5 (by decide) (fun c5 => ?_) (fun z => False.elim (z hb))
  refine r_aload_n hK d_Mod_unmap_12 rfl 0 rfl ?_
  refine r_iload_n hK d_Mod_unmap_13 rfl 1 rfl ?_
  refine r_iconst (v := nI 3) hK d_Mod_unmap_14 (by decide) ?_
  refine r_iload_n hK d_Mod_unmap_15 rfl 2 rfl ?_
  refine r_iload_n hK d_Mod_unmap_16 rfl 3 rfl ?_
  refine r_iconst (v := nI 0) hK d_Mod_unmap_17 (by decide) ?_
  refine r_callVi (As := [.int thr, .int (nI 3), .int pg, .int m, .int (nI 0)]) (b := h) (st := []) hK (ho) d_Mod_unmap_18 ml_Mod_120 cv_Mod_order rfl (by decide) w_recv (Nat.le_of_ble_eq_true rfl) ?_ rfl
  refine r_iret hK d_Mod_unmap_21 rfl (rfl) ?_
  exact ⟨rfl, rfl⟩
set_option maxHeartbeats 1000000 in
theorem c_Mod_protect_bad (X : gCx) (l : Launch) (h nx : Nat) (N : tS) (thr pg m : Int32) (hb : s_Mod_noRange pg m ≠ 0) : gMi X l (HoldT X h nx) M_Mod_protect 2 0 0 [.ref h, .int thr, .int pg, .int m] N (-1) N := by
  refine gM_intro (by decide) (Nat.le_of_ble_eq_true rfl) (fun K hK => ?_)
  show K 0 [(0, .ref h), (1, .int thr), (2, .int pg), (3, .int m)] [] N 0 0
  refine r_iload_n hK d_Mod_protect_0 rfl 2 rfl ?_
  refine r_iload_n hK d_Mod_protect_1 rfl 3 rfl ?_
  refine r_callSi (As := [.int pg, .int m]) (st := []) hK (c_Mod_noRange X l h nx N pg m) d_Mod_protect_2 ml_Mod_124 cs_Mod_noRange rfl (by decide) (Nat.le_of_ble_eq_true rfl) ?_ rfl
  refine r_if_eq (tgt := 12) hK d_Mod_protect_5 (by decide) (fun z => False.elim (hb z)) (fun c5 => ?_)
  refine r_iconst (v := -1) hK d_Mod_protect_8 (by decide) ?_
  refine r_goto (tgt := 21) hK d_Mod_protect_9 (by decide) ?_
  refine r_iret hK d_Mod_protect_21 rfl (rfl) ?_
  exact ⟨rfl, rfl⟩
set_option maxHeartbeats 1000000 in
theorem c_Mod_protect (X : gCx) (l : Launch) (h nx : Nat) (N : tS) (thr pg m : Int32) (hb : s_Mod_noRange pg m = 0) (r : Int32) (N2 : tS) (ho : gMi X l (HoldT X h nx) M_Mod_order 1 0 0 [.ref h, .int thr, .int (nI 4), .int pg, .int m, .int (nI 0)] N r N2) : gMi X l (HoldT X h nx) M_Mod_protect 2 0 0 [.ref h, .int thr, .int pg, .int m] N r N2 := by
  refine gM_intro (by decide) (Nat.le_of_ble_eq_true rfl) (fun K hK => ?_)
  show K 0 [(0, .ref h), (1, .int thr), (2, .int pg), (3, .int m)] [] N 0 0
  refine r_iload_n hK d_Mod_protect_0 rfl 2 rfl ?_
  refine r_iload_n hK d_Mod_protect_1 rfl 3 rfl ?_
  refine r_callSi (As := [.int pg, .int m]) (st := []) hK (c_Mod_noRange X l h nx N pg m) d_Mod_protect_2 ml_Mod_124 cs_Mod_noRange rfl (by decide) (Nat.le_of_ble_eq_true rfl) ?_ rfl
  refine r_if_eq (tgt := 12) hK d_Mod_protect_5 (by decide) (fun c5 => ?_) (fun z => False.elim (z hb))
  refine r_aload_n hK d_Mod_protect_12 rfl 0 rfl ?_
  refine r_iload_n hK d_Mod_protect_13 rfl 1 rfl ?_
  refine r_iconst (v := nI 4) hK d_Mod_protect_14 (by decide) ?_
  refine r_iload_n hK d_Mod_protect_15 rfl 2 rfl ?_
  refine r_iload_n hK d_Mod_protect_16 rfl 3 rfl ?_
  refine r_iconst (v := nI 0) hK d_Mod_protect_17 (by decide) ?_
  refine r_callVi (As := [.int thr, .int (nI 4), .int pg, .int m, .int (nI 0)]) (b := h) (st := []) hK (ho) d_Mod_protect_18 ml_Mod_120 cv_Mod_order rfl (by decide) w_recv (Nat.le_of_ble_eq_true rfl) ?_ rfl
  refine r_iret hK d_Mod_protect_21 rfl (rfl) ?_
  exact ⟨rfl, rfl⟩
set_option maxHeartbeats 1000000 in
theorem c_Mod_move_bad (X : gCx) (l : Launch) (h nx : Nat) (N : tS) (thr p : Int32) (hb : s_Mod_noProcessor p ≠ 0) : gMi X l (HoldT X h nx) M_Mod_move 2 0 0 [.ref h, .int thr, .int p] N (-1) N := by
  refine gM_intro (by decide) (Nat.le_of_ble_eq_true rfl) (fun K hK => ?_)
  show K 0 [(0, .ref h), (1, .int thr), (2, .int p)] [] N 0 0
  refine r_iload_n hK d_Mod_move_0 rfl 2 rfl ?_
  refine r_callSi (As := [.int p]) (st := []) hK (c_Mod_noProcessor X l h nx N p) d_Mod_move_1 ml_Mod_102 cs_Mod_noProcessor rfl (by decide) (Nat.le_of_ble_eq_true rfl) ?_ rfl
  refine r_if_eq (tgt := 11) hK d_Mod_move_4 (by decide) (fun z => False.elim (hb z)) (fun c4 => ?_)
  refine r_iconst (v := -1) hK d_Mod_move_7 (by decide) ?_
  refine r_goto (tgt := 20) hK d_Mod_move_8 (by decide) ?_
  refine r_iret hK d_Mod_move_20 rfl (rfl) ?_
  exact ⟨rfl, rfl⟩
set_option maxHeartbeats 1000000 in
theorem c_Mod_move (X : gCx) (l : Launch) (h nx : Nat) (N : tS) (thr : Int32) (p : Nat) (hp : p < 4) (r : Int32) (N2 : tS) (ho : gMi X l (HoldT X h nx) M_Mod_order 1 0 0 [.ref h, .int thr, .int (nI 5), .int (nI p), .int (nI 1), .int (nI 0)] N r N2) : gMi X l (HoldT X h nx) M_Mod_move 2 0 0 [.ref h, .int thr, .int (nI p)] N r N2 := by
  refine gM_intro (by decide) (Nat.le_of_ble_eq_true rfl) (fun K hK => ?_)
  show K 0 [(0, .ref h), (1, .int thr), (2, .int (nI p))] [] N 0 0
  refine r_iload_n hK d_Mod_move_0 rfl 2 rfl ?_
  refine r_callSi (As := [.int (nI p)]) (st := []) hK (c_Mod_noProcessor X l h nx N (nI p)) d_Mod_move_1 ml_Mod_102 cs_Mod_noProcessor rfl (by decide) (Nat.le_of_ble_eq_true rfl) ?_ rfl
  refine r_tp (b := nI 0) (noP_ok hp) ?_
  refine r_nif_eq (a := 0) (tgt := 11) hK d_Mod_move_4 (by decide) (by decide) (fun z => ?_) (fun z => absurd z (by decide))
  refine r_aload_n hK d_Mod_move_11 rfl 0 rfl ?_
  refine r_iload_n hK d_Mod_move_12 rfl 1 rfl ?_
  refine r_iconst (v := nI 5) hK d_Mod_move_13 (by decide) ?_
  refine r_iload_n hK d_Mod_move_14 rfl 2 rfl ?_
  refine r_iconst (v := nI 1) hK d_Mod_move_15 (by decide) ?_
  refine r_iconst (v := nI 0) hK d_Mod_move_16 (by decide) ?_
  refine r_callVi (As := [.int thr, .int (nI 5), .int (nI p), .int (nI 1), .int (nI 0)]) (b := h) (st := []) hK (ho) d_Mod_move_17 ml_Mod_120 cv_Mod_order rfl (by decide) w_recv (Nat.le_of_ble_eq_true rfl) ?_ rfl
  refine r_iret hK d_Mod_move_20 rfl (rfl) ?_
  exact ⟨rfl, rfl⟩
set_option maxHeartbeats 1000000 in
theorem c_Mod_result_neg (X : gCx) (l : Launch) (h nx : Nat) (N : tS) (thr k : Int32) (hb : thr < 0) : gMi X l (HoldT X h nx) M_Mod_result 0 0 0 [.ref h, .int thr, .int k] N (-1) N := by
  refine gM_intro (by decide) (Nat.le_of_ble_eq_true rfl) (fun K hK => ?_)
  show K 0 [(0, .ref h), (1, .int thr), (2, .int k)] [] N 0 0
  refine r_iload_n hK d_Mod_result_0 rfl 1 rfl ?_
  refine r_if_lt (tgt := 26) hK d_Mod_result_1 (by decide) (fun c1 => ?_) (fun z => False.elim (z hb))
  refine r_iconst (v := -1) hK d_Mod_result_26 (by decide) ?_
  refine r_goto (tgt := 41) hK d_Mod_result_27 (by decide) ?_
  refine r_iret hK d_Mod_result_41 rfl (rfl) ?_
  exact ⟨rfl, rfl⟩
set_option maxHeartbeats 1000000 in
theorem c_Mod_result_ge (X : gCx) (l : Launch) (h nx : Nat) (N : tS) (thr k : Int32) (n : Nat) (hn : N 30 0 = nI n) (ha : ¬ thr < 0) (hb : nI n ≤ thr) : gMi X l (HoldT X h nx) M_Mod_result 0 0 0 [.ref h, .int thr, .int k] N (-1) N := by
  refine gM_intro (by decide) (Nat.le_of_ble_eq_true rfl) (fun K hK => ?_)
  show K 0 [(0, .ref h), (1, .int thr), (2, .int k)] [] N 0 0
  refine r_iload_n hK d_Mod_result_0 rfl 1 rfl ?_
  refine r_if_lt (tgt := 26) hK d_Mod_result_1 (by decide) (fun z => False.elim (ha z)) (fun c1 => ?_)
  refine r_iload_n hK d_Mod_result_4 rfl 1 rfl ?_
  refine r_aload_n hK d_Mod_result_5 rfl 0 rfl ?_
  refine w_threads hK d_Mod_result_6 rfl (v := nI n) (hn) ?_
  refine r_icmp_ge (tgt := 26) hK d_Mod_result_9 (by decide) (fun c9 => ?_) (fun z => False.elim (z hb))
  refine r_iconst (v := -1) hK d_Mod_result_26 (by decide) ?_
  refine r_goto (tgt := 41) hK d_Mod_result_27 (by decide) ?_
  refine r_iret hK d_Mod_result_41 rfl (rfl) ?_
  exact ⟨rfl, rfl⟩
set_option maxHeartbeats 1000000 in
theorem c_Mod_result_kneg (X : gCx) (l : Launch) (h nx : Nat) (N : tS) (k : Int32) (n t : Nat) (hn : N 30 0 = nI n) (hn8 : n ≤ 8) (htn : t < n) (hb : k < 0) : gMi X l (HoldT X h nx) M_Mod_result 0 0 0 [.ref h, .int (nI t), .int k] N (-1) N := by
  refine gM_intro (by decide) (Nat.le_of_ble_eq_true rfl) (fun K hK => ?_)
  show K 0 [(0, .ref h), (1, .int (nI t)), (2, .int k)] [] N 0 0
  refine r_iload_n hK d_Mod_result_0 rfl 1 rfl ?_
  refine r_nif_lt (a := t) (tgt := 26) hK d_Mod_result_1 (by decide) (by omega) ?_
  refine r_iload_n hK d_Mod_result_4 rfl 1 rfl ?_
  refine r_aload_n hK d_Mod_result_5 rfl 0 rfl ?_
  refine w_threads hK d_Mod_result_6 rfl (v := nI n) (hn) ?_
  refine r_ncmp_ge (a := t) (b := n) (tgt := 26) hK d_Mod_result_9 (by decide) (by omega) (by omega) (fun z => False.elim (by omega)) (fun c9 => ?_)
  refine r_iload_n hK d_Mod_result_12 rfl 2 rfl ?_
  refine r_if_lt (tgt := 26) hK d_Mod_result_13 (by decide) (fun c13 => ?_) (fun z => False.elim (z hb))
  refine r_iconst (v := -1) hK d_Mod_result_26 (by decide) ?_
  refine r_goto (tgt := 41) hK d_Mod_result_27 (by decide) ?_
  refine r_iret hK d_Mod_result_41 rfl (rfl) ?_
  exact ⟨rfl, rfl⟩
set_option maxHeartbeats 1000000 in
theorem c_Mod_result_kge (X : gCx) (l : Launch) (h nx : Nat) (N : tS) (k : Int32) (n t : Nat) (hn : N 30 0 = nI n) (hn8 : n ≤ 8) (htn : t < n) (dd : Nat) (hdd : N 1 t = nI dd) (ha : ¬ k < 0) (hb : ¬ k < nI dd) : gMi X l (HoldT X h nx) M_Mod_result 0 0 0 [.ref h, .int (nI t), .int k] N (-1) N := by
  refine gM_intro (by decide) (Nat.le_of_ble_eq_true rfl) (fun K hK => ?_)
  show K 0 [(0, .ref h), (1, .int (nI t)), (2, .int k)] [] N 0 0
  refine r_iload_n hK d_Mod_result_0 rfl 1 rfl ?_
  refine r_nif_lt (a := t) (tgt := 26) hK d_Mod_result_1 (by decide) (by omega) ?_
  refine r_iload_n hK d_Mod_result_4 rfl 1 rfl ?_
  refine r_aload_n hK d_Mod_result_5 rfl 0 rfl ?_
  refine w_threads hK d_Mod_result_6 rfl (v := nI n) (hn) ?_
  refine r_ncmp_ge (a := t) (b := n) (tgt := 26) hK d_Mod_result_9 (by decide) (by omega) (by omega) (fun z => False.elim (by omega)) (fun c9 => ?_)
  refine r_iload_n hK d_Mod_result_12 rfl 2 rfl ?_
  refine r_if_lt (tgt := 26) hK d_Mod_result_13 (by decide) (fun z => False.elim (ha z)) (fun c13 => ?_)
  refine r_iload_n hK d_Mod_result_16 rfl 2 rfl ?_
  refine r_aload_n hK d_Mod_result_17 rfl 0 rfl ?_
  refine w_done hK d_Mod_result_18 rfl ?_
  refine r_iload_n hK d_Mod_result_21 rfl 1 rfl ?_
  refine w_iald (n := 1) (L := 8) hK d_Mod_result_22 (by decide) rfl rfl t rfl (by omega) (v := nI dd) (hdd) ?_
  refine r_icmp_lt (tgt := 30) hK d_Mod_result_23 (by decide) (fun z => False.elim (hb z)) (fun c23 => ?_)
  refine r_iconst (v := -1) hK d_Mod_result_26 (by decide) ?_
  refine r_goto (tgt := 41) hK d_Mod_result_27 (by decide) ?_
  refine r_iret hK d_Mod_result_41 rfl (rfl) ?_
  exact ⟨rfl, rfl⟩
set_option maxHeartbeats 1000000 in
theorem c_Mod_result (X : gCx) (l : Launch) (h nx : Nat) (N : tS) (n t : Nat) (hn : N 30 0 = nI n) (hn8 : n ≤ 8) (htn : t < n) (k dd : Nat) (hdd : N 1 t = nI dd) (hd10 : dd ≤ 10) (hk : k < dd) : gMi X l (HoldT X h nx) M_Mod_result 0 0 0 [.ref h, .int (nI t), .int (nI k)] N (N 6 (10 * t + k)) N := by
  refine gM_intro (by decide) (Nat.le_of_ble_eq_true rfl) (fun K hK => ?_)
  show K 0 [(0, .ref h), (1, .int (nI t)), (2, .int (nI k))] [] N 0 0
  refine r_iload_n hK d_Mod_result_0 rfl 1 rfl ?_
  refine r_nif_lt (a := t) (tgt := 26) hK d_Mod_result_1 (by decide) (by omega) ?_
  refine r_iload_n hK d_Mod_result_4 rfl 1 rfl ?_
  refine r_aload_n hK d_Mod_result_5 rfl 0 rfl ?_
  refine w_threads hK d_Mod_result_6 rfl (v := nI n) (hn) ?_
  refine r_ncmp_ge (a := t) (b := n) (tgt := 26) hK d_Mod_result_9 (by decide) (by omega) (by omega) (fun z => False.elim (by omega)) (fun c9 => ?_)
  refine r_iload_n hK d_Mod_result_12 rfl 2 rfl ?_
  refine r_nif_lt (a := k) (tgt := 26) hK d_Mod_result_13 (by decide) (by omega) ?_
  refine r_iload_n hK d_Mod_result_16 rfl 2 rfl ?_
  refine r_aload_n hK d_Mod_result_17 rfl 0 rfl ?_
  refine w_done hK d_Mod_result_18 rfl ?_
  refine r_iload_n hK d_Mod_result_21 rfl 1 rfl ?_
  refine w_iald (n := 1) (L := 8) hK d_Mod_result_22 (by decide) rfl rfl t rfl (by omega) (v := nI dd) (hdd) ?_
  refine r_ncmp_lt (a := k) (b := dd) (tgt := 30) hK d_Mod_result_23 (by decide) (by omega) (by omega) (fun c23 => ?_) (fun z => False.elim (by omega))
  refine r_aload_n hK d_Mod_result_30 rfl 0 rfl ?_
  refine w_outcome hK d_Mod_result_31 rfl ?_
  refine r_bipush (v := nI 10) hK d_Mod_result_34 (by decide) ?_
  refine r_iload_n hK d_Mod_result_36 rfl 1 rfl ?_
  refine r_imul hK d_Mod_result_37 ?_
  refine r_tp (b := nI (10 * t)) (pk_mul _ _) ?_
  refine r_iload_n hK d_Mod_result_38 rfl 2 rfl ?_
  refine r_iadd hK d_Mod_result_39 ?_
  refine r_tp (b := nI (10 * t + k)) (nI_add _ _) ?_
  refine w_iald (n := 6) (L := 80) hK d_Mod_result_40 (by decide) rfl rfl (10 * t + k) rfl (by omega) (v := N 6 (10 * t + k)) (rfl) ?_
  refine r_iret hK d_Mod_result_41 rfl (rfl) ?_
  exact ⟨rfl, rfl⟩
set_option maxHeartbeats 1000000 in
theorem c_Mod_current_bad (X : gCx) (l : Launch) (h nx : Nat) (N : tS) (p : Int32) (hb : s_Mod_noProcessor p ≠ 0) : gMi X l (HoldT X h nx) M_Mod_current 1 0 0 [.ref h, .int p] N (-1) N := by
  refine gM_intro (by decide) (Nat.le_of_ble_eq_true rfl) (fun K hK => ?_)
  show K 0 [(0, .ref h), (1, .int p)] [] N 0 0
  refine r_iload_n hK d_Mod_current_0 rfl 1 rfl ?_
  refine r_callSi (As := [.int p]) (st := []) hK (c_Mod_noProcessor X l h nx N p) d_Mod_current_1 ml_Mod_102 cs_Mod_noProcessor rfl (by decide) (Nat.le_of_ble_eq_true rfl) ?_ rfl
  refine r_if_eq (tgt := 11) hK d_Mod_current_4 (by decide) (fun z => False.elim (hb z)) (fun c4 => ?_)
  refine r_iconst (v := -1) hK d_Mod_current_7 (by decide) ?_
  refine r_goto (tgt := 16) hK d_Mod_current_8 (by decide) ?_
  refine r_iret hK d_Mod_current_16 rfl (rfl) ?_
  exact ⟨rfl, rfl⟩
set_option maxHeartbeats 1000000 in
theorem c_Mod_current (X : gCx) (l : Launch) (h nx : Nat) (N : tS) (p : Nat) (hp : p < 4) (n : Nat) (hn : N 30 0 = nI n) (hn8 : n ≤ 8) : gMi X l (HoldT X h nx) M_Mod_current 1 0 0 [.ref h, .int (nI p)] N (dI (s_cur N (nI p) n)) N := by
  refine gM_intro (by decide) (Nat.le_of_ble_eq_true rfl) (fun K hK => ?_)
  show K 0 [(0, .ref h), (1, .int (nI p))] [] N 0 0
  refine r_iload_n hK d_Mod_current_0 rfl 1 rfl ?_
  refine r_callSi (As := [.int (nI p)]) (st := []) hK (c_Mod_noProcessor X l h nx N (nI p)) d_Mod_current_1 ml_Mod_102 cs_Mod_noProcessor rfl (by decide) (Nat.le_of_ble_eq_true rfl) ?_ rfl
  refine r_tp (b := nI 0) (noP_ok hp) ?_
  refine r_nif_eq (a := 0) (tgt := 11) hK d_Mod_current_4 (by decide) (by decide) (fun z => ?_) (fun z => absurd z (by decide))
  refine r_aload_n hK d_Mod_current_11 rfl 0 rfl ?_
  refine r_iload_n hK d_Mod_current_12 rfl 1 rfl ?_
  refine r_callVi (As := [.int (nI p)]) (b := h) (st := []) hK (c_Mod_currentOf X l h nx N (nI p) n hn hn8) d_Mod_current_13 ml_Mod_143 cv_Mod_currentOf rfl (by decide) w_recv (Nat.le_of_ble_eq_true rfl) ?_ rfl
  refine r_iret hK d_Mod_current_16 rfl (rfl) ?_
  exact ⟨rfl, rfl⟩
set_option maxHeartbeats 1000000 in
theorem c_Mod_phase_bad (X : gCx) (l : Launch) (h nx : Nat) (N : tS) (p : Int32) (hb : s_Mod_noProcessor p ≠ 0) : gMi X l (HoldT X h nx) M_Mod_phase 2 0 0 [.ref h, .int p] N (-1) N := by
  refine gM_intro (by decide) (Nat.le_of_ble_eq_true rfl) (fun K hK => ?_)
  show K 0 [(0, .ref h), (1, .int p)] [] N 0 0
  refine r_aload_n hK d_Mod_phase_0 rfl 0 rfl ?_
  refine r_iload_n hK d_Mod_phase_1 rfl 1 rfl ?_
  refine r_callVi (As := [.int p]) (b := h) (st := []) hK (c_Mod_current_bad X l h nx N p hb) d_Mod_phase_2 ml_Mod_196 cv_Mod_current rfl (by decide) w_recv (Nat.le_of_ble_eq_true rfl) ?_ rfl
  refine r_istore_n (lv' := [(2, .int (-1)), (0, .ref h), (1, .int p)]) hK d_Mod_phase_5 rfl (by decide) rfl ?_
  refine r_iload_n hK d_Mod_phase_6 rfl 0 rfl ?_
  refine r_if_ge (tgt := 14) hK d_Mod_phase_7 (by decide) (fun z => False.elim (absurd z (by decide))) (fun c7 => ?_)
  refine r_iconst (v := -1) hK d_Mod_phase_10 (by decide) ?_
  refine r_goto (tgt := 20) hK d_Mod_phase_11 (by decide) ?_
  refine r_iret hK d_Mod_phase_20 rfl (rfl) ?_
  exact ⟨rfl, rfl⟩
def s_Mod_phase (N : tS) (p n : Nat) : Int32 :=
  if s_cur N (nI p) n = 0 then -1
  else N 10 (s_cur N (nI p) n - 1)
set_option maxHeartbeats 1000000 in
theorem c_Mod_phase (X : gCx) (l : Launch) (h nx : Nat) (N : tS)  (p n : Nat) (hp : p < 4) (hn : N 30 0 = nI n) (hn8 : n ≤ 8) : gMi X l (HoldT X h nx) M_Mod_phase 2 0 0 [.ref h, .int (nI p)] N ((s_Mod_phase N p n)) N := by
  refine gM_intro (by decide) (Nat.le_of_ble_eq_true rfl) (fun K hK => ?_)
  show K 0 [(0, .ref h), (1, .int (nI p))] [] N 0 0
  refine r_aload_n hK d_Mod_phase_0 rfl 0 rfl ?_
  refine r_iload_n hK d_Mod_phase_1 rfl 1 rfl ?_
  refine r_callVi (As := [.int (nI p)]) (b := h) (st := []) hK (c_Mod_current X l h nx N p hp n hn hn8) d_Mod_phase_2 ml_Mod_196 cv_Mod_current rfl (by decide) w_recv (Nat.le_of_ble_eq_true rfl) ?_ rfl
  refine r_istore_n (lv' := [(2, .int (dI (s_cur N (nI p) n))), (0, .ref h), (1, .int (nI p))]) hK d_Mod_phase_5 rfl (by decide) rfl ?_
  refine r_iload_n hK d_Mod_phase_6 rfl 0 rfl ?_
  have b1 := s_cur_le N (nI p) n
  refine r_dif_ge (c := s_cur N (nI p) n) (tgt := 14) hK d_Mod_phase_7 (by decide) (by omega) (fun c7 => ?_) (fun c7 => ?_)
  · refine r_aload_n hK d_Mod_phase_14 rfl 1 rfl ?_
    refine w_phase hK d_Mod_phase_15 rfl ?_
    refine r_iload_n hK d_Mod_phase_18 rfl 0 rfl ?_
    refine r_tp (b := nI (s_cur N (nI p) n - 1)) (dI_ne c7) ?_
    refine w_iald (n := 10) (L := 8) hK d_Mod_phase_19 (by decide) rfl rfl (s_cur N (nI p) n - 1) rfl (by omega) (v := N 10 (s_cur N (nI p) n - 1)) (rfl) ?_
    refine r_iret hK d_Mod_phase_20 rfl (rfl) ?_
    have hs : s_Mod_phase N p n = N 10 (s_cur N (nI p) n - 1) := by unfold s_Mod_phase; rw [if_neg c7]
    exact ⟨by rw [hs], rfl⟩
  · refine r_iconst (v := -1) hK d_Mod_phase_10 (by decide) ?_
    refine r_goto (tgt := 20) hK d_Mod_phase_11 (by decide) ?_
    refine r_iret hK d_Mod_phase_20 rfl (rfl) ?_
    have hs : s_Mod_phase N p n = -1 := by unfold s_Mod_phase; rw [if_pos c7]
    exact ⟨by rw [hs], rfl⟩
set_option maxHeartbeats 1000000 in
theorem c_Mod_queued_bad (X : gCx) (l : Launch) (h nx : Nat) (N : tS) (p k : Int32) (hb : s_Mod_noProcessor p ≠ 0) : gMi X l (HoldT X h nx) M_Mod_queued 2 0 0 [.ref h, .int p, .int k] N (-1) N := by
  refine gM_intro (by decide) (Nat.le_of_ble_eq_true rfl) (fun K hK => ?_)
  show K 0 [(0, .ref h), (1, .int p), (2, .int k)] [] N 0 0
  refine r_iload_n hK d_Mod_queued_0 rfl 1 rfl ?_
  refine r_callSi (As := [.int p]) (st := []) hK (c_Mod_noProcessor X l h nx N p) d_Mod_queued_1 ml_Mod_102 cs_Mod_noProcessor rfl (by decide) (Nat.le_of_ble_eq_true rfl) ?_ rfl
  refine r_if_ne (tgt := 11) hK d_Mod_queued_4 (by decide) (fun c4 => ?_) (fun z => False.elim (hb z))
  refine r_iconst (v := -1) hK d_Mod_queued_11 (by decide) ?_
  refine r_goto (tgt := 21) hK d_Mod_queued_12 (by decide) ?_
  refine r_iret hK d_Mod_queued_21 rfl (rfl) ?_
  exact ⟨rfl, rfl⟩
set_option maxHeartbeats 1000000 in
theorem c_Mod_queued_neg (X : gCx) (l : Launch) (h nx : Nat) (N : tS) (k : Int32) (p : Nat) (hp : p < 4) (hk : ¬ 0 ≤ k) : gMi X l (HoldT X h nx) M_Mod_queued 2 0 0 [.ref h, .int (nI p), .int k] N (-1) N := by
  refine gM_intro (by decide) (Nat.le_of_ble_eq_true rfl) (fun K hK => ?_)
  show K 0 [(0, .ref h), (1, .int (nI p)), (2, .int k)] [] N 0 0
  refine r_iload_n hK d_Mod_queued_0 rfl 1 rfl ?_
  refine r_callSi (As := [.int (nI p)]) (st := []) hK (c_Mod_noProcessor X l h nx N (nI p)) d_Mod_queued_1 ml_Mod_102 cs_Mod_noProcessor rfl (by decide) (Nat.le_of_ble_eq_true rfl) ?_ rfl
  refine r_tp (b := nI 0) (noP_ok hp) ?_
  refine r_nif_ne (a := 0) (tgt := 11) hK d_Mod_queued_4 (by decide) (by decide) (fun z => absurd z (by decide)) (fun z => ?_)
  refine r_iload_n hK d_Mod_queued_7 rfl 2 rfl ?_
  refine r_if_ge (tgt := 15) hK d_Mod_queued_8 (by decide) (fun z => False.elim (hk z)) (fun c8 => ?_)
  refine r_iconst (v := -1) hK d_Mod_queued_11 (by decide) ?_
  refine r_goto (tgt := 21) hK d_Mod_queued_12 (by decide) ?_
  refine r_iret hK d_Mod_queued_21 rfl (rfl) ?_
  exact ⟨rfl, rfl⟩
set_option maxHeartbeats 1000000 in
theorem c_Mod_queued (X : gCx) (l : Launch) (h nx : Nat) (N : tS) (k : Int32) (p : Nat) (hp : p < 4) (hk : 0 ≤ k) (n : Nat) (hn : N 30 0 = nI n) (hn8 : n ≤ 8) : gMi X l (HoldT X h nx) M_Mod_queued 2 0 0 [.ref h, .int (nI p), .int k] N (dI (s_at N (nI p) k n n)) N := by
  refine gM_intro (by decide) (Nat.le_of_ble_eq_true rfl) (fun K hK => ?_)
  show K 0 [(0, .ref h), (1, .int (nI p)), (2, .int k)] [] N 0 0
  refine r_iload_n hK d_Mod_queued_0 rfl 1 rfl ?_
  refine r_callSi (As := [.int (nI p)]) (st := []) hK (c_Mod_noProcessor X l h nx N (nI p)) d_Mod_queued_1 ml_Mod_102 cs_Mod_noProcessor rfl (by decide) (Nat.le_of_ble_eq_true rfl) ?_ rfl
  refine r_tp (b := nI 0) (noP_ok hp) ?_
  refine r_nif_ne (a := 0) (tgt := 11) hK d_Mod_queued_4 (by decide) (by decide) (fun z => absurd z (by decide)) (fun z => ?_)
  refine r_iload_n hK d_Mod_queued_7 rfl 2 rfl ?_
  refine r_if_ge (tgt := 15) hK d_Mod_queued_8 (by decide) (fun c8 => ?_) (fun z => False.elim (z hk))
  refine r_aload_n hK d_Mod_queued_15 rfl 0 rfl ?_
  refine r_iload_n hK d_Mod_queued_16 rfl 1 rfl ?_
  refine r_iload_n hK d_Mod_queued_17 rfl 2 rfl ?_
  refine r_callVi (As := [.int (nI p), .int k]) (b := h) (st := []) hK (c_Mod_at X l h nx N (nI p) k n hn hn8) d_Mod_queued_18 ml_Mod_149 cv_Mod_at rfl (by decide) w_recv (Nat.le_of_ble_eq_true rfl) ?_ rfl
  refine r_iret hK d_Mod_queued_21 rfl (rfl) ?_
  exact ⟨rfl, rfl⟩
set_option maxHeartbeats 1000000 in
theorem c_Mod_mail_bad (X : gCx) (l : Launch) (h nx : Nat) (N : tS) (p : Int32) (hb : s_Mod_noProcessor p ≠ 0) : gMi X l (HoldT X h nx) M_Mod_mail 1 0 0 [.ref h, .int p] N (-1) N := by
  refine gM_intro (by decide) (Nat.le_of_ble_eq_true rfl) (fun K hK => ?_)
  show K 0 [(0, .ref h), (1, .int p)] [] N 0 0
  refine r_iload_n hK d_Mod_mail_0 rfl 1 rfl ?_
  refine r_callSi (As := [.int p]) (st := []) hK (c_Mod_noProcessor X l h nx N p) d_Mod_mail_1 ml_Mod_102 cs_Mod_noProcessor rfl (by decide) (Nat.le_of_ble_eq_true rfl) ?_ rfl
  refine r_if_eq (tgt := 11) hK d_Mod_mail_4 (by decide) (fun z => False.elim (hb z)) (fun c4 => ?_)
  refine r_iconst (v := -1) hK d_Mod_mail_7 (by decide) ?_
  refine r_goto (tgt := 25) hK d_Mod_mail_8 (by decide) ?_
  refine r_iret hK d_Mod_mail_25 rfl (rfl) ?_
  exact ⟨rfl, rfl⟩
def s_Mod_mail (N : tS) (p : Nat) : Int32 :=
  if N 27 p = 0 then nI 0
  else nI 1
set_option maxHeartbeats 1000000 in
theorem c_Mod_mail (X : gCx) (l : Launch) (h nx : Nat) (N : tS)  (p : Nat) (hp : p < 4) : gMi X l (HoldT X h nx) M_Mod_mail 1 0 0 [.ref h, .int (nI p)] N ((s_Mod_mail N p)) N := by
  refine gM_intro (by decide) (Nat.le_of_ble_eq_true rfl) (fun K hK => ?_)
  show K 0 [(0, .ref h), (1, .int (nI p))] [] N 0 0
  refine r_iload_n hK d_Mod_mail_0 rfl 1 rfl ?_
  refine r_callSi (As := [.int (nI p)]) (st := []) hK (c_Mod_noProcessor X l h nx N (nI p)) d_Mod_mail_1 ml_Mod_102 cs_Mod_noProcessor rfl (by decide) (Nat.le_of_ble_eq_true rfl) ?_ rfl
  refine r_tp (b := nI 0) (noP_ok hp) ?_
  refine r_nif_eq (a := 0) (tgt := 11) hK d_Mod_mail_4 (by decide) (by decide) (fun z => ?_) (fun z => absurd z (by decide))
  refine r_aload_n hK d_Mod_mail_11 rfl 0 rfl ?_
  refine w_asked hK d_Mod_mail_12 rfl ?_
  refine r_iload_n hK d_Mod_mail_15 rfl 1 rfl ?_
  refine w_zald (n := 27) (L := 4) hK d_Mod_mail_16 (by decide) rfl rfl p rfl (by omega) (v := N 27 p) (rfl) ?_
  refine r_if_eq (tgt := 24) hK d_Mod_mail_17 (by decide) (fun c17 => ?_) (fun c17 => ?_)
  · refine r_iconst (v := nI 0) hK d_Mod_mail_24 (by decide) ?_
    refine r_iret hK d_Mod_mail_25 rfl (rfl) ?_
    have hs : s_Mod_mail N p = nI 0 := by unfold s_Mod_mail; rw [if_pos c17]
    exact ⟨by rw [hs], rfl⟩
  · refine r_iconst (v := nI 1) hK d_Mod_mail_20 (by decide) ?_
    refine r_goto (tgt := 25) hK d_Mod_mail_21 (by decide) ?_
    refine r_iret hK d_Mod_mail_25 rfl (rfl) ?_
    have hs : s_Mod_mail N p = nI 1 := by unfold s_Mod_mail; rw [if_neg c17]
    exact ⟨by rw [hs], rfl⟩
set_option maxHeartbeats 1000000 in
theorem c_Mod_table_bad (X : gCx) (l : Launch) (h nx : Nat) (N : tS) (pg : Int32) (hb : s_Mod_noPage pg ≠ 0) : gMi X l (HoldT X h nx) M_Mod_table 1 0 0 [.ref h, .int pg] N (-1) N := by
  refine gM_intro (by decide) (Nat.le_of_ble_eq_true rfl) (fun K hK => ?_)
  show K 0 [(0, .ref h), (1, .int pg)] [] N 0 0
  refine r_iload_n hK d_Mod_table_0 rfl 1 rfl ?_
  refine r_callSi (As := [.int pg]) (st := []) hK (c_Mod_noPage X l h nx N pg) d_Mod_table_1 ml_Mod_117 cs_Mod_noPage rfl (by decide) (Nat.le_of_ble_eq_true rfl) ?_ rfl
  refine r_if_ne (tgt := 16) hK d_Mod_table_4 (by decide) (fun c4 => ?_) (fun z => False.elim (hb z))
  refine r_iconst (v := -1) hK d_Mod_table_16 (by decide) ?_
  refine r_iret hK d_Mod_table_17 rfl (rfl) ?_
  exact ⟨rfl, rfl⟩
def s_Mod_table (N : tS) (pg : Nat) : Int32 :=
  if 0 ≤ N 18 pg then (if N 19 pg = 0 then ((nI 2) * (N 18 pg)) + (nI 0)
    else ((nI 2) * (N 18 pg)) + (nI 1))
  else -1
set_option maxHeartbeats 1000000 in
theorem c_Mod_table (X : gCx) (l : Launch) (h nx : Nat) (N : tS)  (pg : Nat) (hpg : pg < 16) : gMi X l (HoldT X h nx) M_Mod_table 1 0 0 [.ref h, .int (nI pg)] N ((s_Mod_table N pg)) N := by
  refine gM_intro (by decide) (Nat.le_of_ble_eq_true rfl) (fun K hK => ?_)
  show K 0 [(0, .ref h), (1, .int (nI pg))] [] N 0 0
  refine r_iload_n hK d_Mod_table_0 rfl 1 rfl ?_
  refine r_callSi (As := [.int (nI pg)]) (st := []) hK (c_Mod_noPage X l h nx N (nI pg)) d_Mod_table_1 ml_Mod_117 cs_Mod_noPage rfl (by decide) (Nat.le_of_ble_eq_true rfl) ?_ rfl
  refine r_tp (b := nI 0) (noPg_ok hpg) ?_
  refine r_nif_ne (a := 0) (tgt := 16) hK d_Mod_table_4 (by decide) (by decide) (fun z => absurd z (by decide)) (fun z => ?_)
  refine r_aload_n hK d_Mod_table_7 rfl 0 rfl ?_
  refine w_frameOf hK d_Mod_table_8 rfl ?_
  refine r_iload_n hK d_Mod_table_11 rfl 1 rfl ?_
  refine w_iald (n := 18) (L := 16) hK d_Mod_table_12 (by decide) rfl rfl pg rfl (by omega) (v := N 18 pg) (rfl) ?_
  refine r_if_ge (tgt := 18) hK d_Mod_table_13 (by decide) (fun c13 => ?_) (fun c13 => ?_)
  · refine r_iconst (v := nI 2) hK d_Mod_table_18 (by decide) ?_
    refine r_aload_n hK d_Mod_table_19 rfl 0 rfl ?_
    refine w_frameOf hK d_Mod_table_20 rfl ?_
    refine r_iload_n hK d_Mod_table_23 rfl 1 rfl ?_
    refine w_iald (n := 18) (L := 16) hK d_Mod_table_24 (by decide) rfl rfl pg rfl (by omega) (v := N 18 pg) (rfl) ?_
    refine r_imul hK d_Mod_table_25 ?_
    refine r_aload_n hK d_Mod_table_26 rfl 0 rfl ?_
    refine w_writableOf hK d_Mod_table_27 rfl ?_
    refine r_iload_n hK d_Mod_table_30 rfl 1 rfl ?_
    refine w_zald (n := 19) (L := 16) hK d_Mod_table_31 (by decide) rfl rfl pg rfl (by omega) (v := N 19 pg) (rfl) ?_
    refine r_if_eq (tgt := 39) hK d_Mod_table_32 (by decide) (fun c32 => ?_) (fun c32 => ?_)
    · refine r_iconst (v := nI 0) hK d_Mod_table_39 (by decide) ?_
      refine r_iadd hK d_Mod_table_40 ?_
      refine r_iret hK d_Mod_table_41 rfl (rfl) ?_
      have hs : s_Mod_table N pg = ((nI 2) * (N 18 pg)) + (nI 0) := by unfold s_Mod_table; rw [if_pos c13, if_pos c32]
      exact ⟨by rw [hs], rfl⟩
    · refine r_iconst (v := nI 1) hK d_Mod_table_35 (by decide) ?_
      refine r_goto (tgt := 40) hK d_Mod_table_36 (by decide) ?_
      refine r_iadd hK d_Mod_table_40 ?_
      refine r_iret hK d_Mod_table_41 rfl (rfl) ?_
      have hs : s_Mod_table N pg = ((nI 2) * (N 18 pg)) + (nI 1) := by unfold s_Mod_table; rw [if_pos c13, if_neg c32]
      exact ⟨by rw [hs], rfl⟩
  · refine r_iconst (v := -1) hK d_Mod_table_16 (by decide) ?_
    refine r_iret hK d_Mod_table_17 rfl (rfl) ?_
    have hs : s_Mod_table N pg = -1 := by unfold s_Mod_table; rw [if_neg c13]
    exact ⟨by rw [hs], rfl⟩
set_option maxHeartbeats 1000000 in
theorem c_Mod_translation_bad (X : gCx) (l : Launch) (h nx : Nat) (N : tS) (p pg : Int32) (hb : s_Mod_noProcessor p ≠ 0) : gMi X l (HoldT X h nx) M_Mod_translation 1 0 0 [.ref h, .int p, .int pg] N (-1) N := by
  refine gM_intro (by decide) (Nat.le_of_ble_eq_true rfl) (fun K hK => ?_)
  show K 0 [(0, .ref h), (1, .int p), (2, .int pg)] [] N 0 0
  refine r_iload_n hK d_Mod_translation_0 rfl 1 rfl ?_
  refine r_callSi (As := [.int p]) (st := []) hK (c_Mod_noProcessor X l h nx N p) d_Mod_translation_1 ml_Mod_102 cs_Mod_noProcessor rfl (by decide) (Nat.le_of_ble_eq_true rfl) ?_ rfl
  refine r_if_ne (tgt := 28) hK d_Mod_translation_4 (by decide) (fun c4 => ?_) (fun z => False.elim (hb z))
  refine r_iconst (v := -1) hK d_Mod_translation_28 (by decide) ?_
  refine r_iret hK d_Mod_translation_29 rfl (rfl) ?_
  exact ⟨rfl, rfl⟩
set_option maxHeartbeats 1000000 in
theorem c_Mod_translation_nop (X : gCx) (l : Launch) (h nx : Nat) (N : tS) (pg : Int32) (p : Nat) (hp : p < 4) (hb : s_Mod_noPage pg ≠ 0) : gMi X l (HoldT X h nx) M_Mod_translation 1 0 0 [.ref h, .int (nI p), .int pg] N (-1) N := by
  refine gM_intro (by decide) (Nat.le_of_ble_eq_true rfl) (fun K hK => ?_)
  show K 0 [(0, .ref h), (1, .int (nI p)), (2, .int pg)] [] N 0 0
  refine r_iload_n hK d_Mod_translation_0 rfl 1 rfl ?_
  refine r_callSi (As := [.int (nI p)]) (st := []) hK (c_Mod_noProcessor X l h nx N (nI p)) d_Mod_translation_1 ml_Mod_102 cs_Mod_noProcessor rfl (by decide) (Nat.le_of_ble_eq_true rfl) ?_ rfl
  refine r_tp (b := nI 0) (noP_ok hp) ?_
  refine r_nif_ne (a := 0) (tgt := 28) hK d_Mod_translation_4 (by decide) (by decide) (fun z => absurd z (by decide)) (fun z => ?_)
  refine r_iload_n hK d_Mod_translation_7 rfl 2 rfl ?_
  refine r_callSi (As := [.int pg]) (st := []) hK (c_Mod_noPage X l h nx N pg) d_Mod_translation_8 ml_Mod_117 cs_Mod_noPage rfl (by decide) (Nat.le_of_ble_eq_true rfl) ?_ rfl
  refine r_if_ne (tgt := 28) hK d_Mod_translation_11 (by decide) (fun c11 => ?_) (fun z => False.elim (hb z))
  refine r_iconst (v := -1) hK d_Mod_translation_28 (by decide) ?_
  refine r_iret hK d_Mod_translation_29 rfl (rfl) ?_
  exact ⟨rfl, rfl⟩
def s_Mod_translation (N : tS) (p pg : Nat) : Int32 :=
  if N 22 (16 * p + pg) = 0 then -1
  else if N 24 (16 * p + pg) = 0 then ((nI 2) * (N 23 (16 * p + pg))) + (nI 0)
    else ((nI 2) * (N 23 (16 * p + pg))) + (nI 1)
set_option maxHeartbeats 1000000 in
theorem c_Mod_translation (X : gCx) (l : Launch) (h nx : Nat) (N : tS)  (p pg : Nat) (hp : p < 4) (hpg : pg < 16) : gMi X l (HoldT X h nx) M_Mod_translation 1 0 0 [.ref h, .int (nI p), .int (nI pg)] N ((s_Mod_translation N p pg)) N := by
  refine gM_intro (by decide) (Nat.le_of_ble_eq_true rfl) (fun K hK => ?_)
  show K 0 [(0, .ref h), (1, .int (nI p)), (2, .int (nI pg))] [] N 0 0
  refine r_iload_n hK d_Mod_translation_0 rfl 1 rfl ?_
  refine r_callSi (As := [.int (nI p)]) (st := []) hK (c_Mod_noProcessor X l h nx N (nI p)) d_Mod_translation_1 ml_Mod_102 cs_Mod_noProcessor rfl (by decide) (Nat.le_of_ble_eq_true rfl) ?_ rfl
  refine r_tp (b := nI 0) (noP_ok hp) ?_
  refine r_nif_ne (a := 0) (tgt := 28) hK d_Mod_translation_4 (by decide) (by decide) (fun z => absurd z (by decide)) (fun z => ?_)
  refine r_iload_n hK d_Mod_translation_7 rfl 2 rfl ?_
  refine r_callSi (As := [.int (nI pg)]) (st := []) hK (c_Mod_noPage X l h nx N (nI pg)) d_Mod_translation_8 ml_Mod_117 cs_Mod_noPage rfl (by decide) (Nat.le_of_ble_eq_true rfl) ?_ rfl
  refine r_tp (b := nI 0) (noPg_ok hpg) ?_
  refine r_nif_ne (a := 0) (tgt := 28) hK d_Mod_translation_11 (by decide) (by decide) (fun z => absurd z (by decide)) (fun z => ?_)
  refine r_aload_n hK d_Mod_translation_14 rfl 0 rfl ?_
  refine w_known hK d_Mod_translation_15 rfl ?_
  refine r_bipush (v := nI 16) hK d_Mod_translation_18 (by decide) ?_
  refine r_iload_n hK d_Mod_translation_20 rfl 1 rfl ?_
  refine r_imul hK d_Mod_translation_21 ?_
  refine r_tp (b := nI (16 * p)) (pk_mul _ _) ?_
  refine r_iload_n hK d_Mod_translation_22 rfl 2 rfl ?_
  refine r_iadd hK d_Mod_translation_23 ?_
  refine r_tp (b := nI (16 * p + pg)) (nI_add _ _) ?_
  refine w_iald (n := 22) (L := 64) hK d_Mod_translation_24 (by decide) rfl rfl (16 * p + pg) rfl (by omega) (v := N 22 (16 * p + pg)) (rfl) ?_
  refine r_if_ne (tgt := 30) hK d_Mod_translation_25 (by decide) (fun c25 => ?_) (fun c25 => ?_)
  · refine r_bipush (v := nI 16) hK d_Mod_translation_30 (by decide) ?_
    refine r_iload_n hK d_Mod_translation_32 rfl 1 rfl ?_
    refine r_imul hK d_Mod_translation_33 ?_
    refine r_tp (b := nI (16 * p)) (pk_mul _ _) ?_
    refine r_iload_n hK d_Mod_translation_34 rfl 2 rfl ?_
    refine r_iadd hK d_Mod_translation_35 ?_
    refine r_tp (b := nI (16 * p + pg)) (nI_add _ _) ?_
    refine r_istore_n (lv' := [(3, .int (nI (16 * p + pg))), (0, .ref h), (1, .int (nI p)), (2, .int (nI pg))]) hK d_Mod_translation_36 rfl (by decide) rfl ?_
    refine r_iconst (v := nI 2) hK d_Mod_translation_37 (by decide) ?_
    refine r_aload_n hK d_Mod_translation_38 rfl 1 rfl ?_
    refine w_knownFrame hK d_Mod_translation_39 rfl ?_
    refine r_iload_n hK d_Mod_translation_42 rfl 0 rfl ?_
    refine w_iald (n := 23) (L := 64) hK d_Mod_translation_43 (by decide) rfl rfl (16 * p + pg) rfl (by omega) (v := N 23 (16 * p + pg)) (rfl) ?_
    refine r_imul hK d_Mod_translation_44 ?_
    refine r_aload_n hK d_Mod_translation_45 rfl 1 rfl ?_
    refine w_knownWritable hK d_Mod_translation_46 rfl ?_
    refine r_iload_n hK d_Mod_translation_49 rfl 0 rfl ?_
    refine w_zald (n := 24) (L := 64) hK d_Mod_translation_50 (by decide) rfl rfl (16 * p + pg) rfl (by omega) (v := N 24 (16 * p + pg)) (rfl) ?_
    refine r_if_eq (tgt := 58) hK d_Mod_translation_51 (by decide) (fun c51 => ?_) (fun c51 => ?_)
    · refine r_iconst (v := nI 0) hK d_Mod_translation_58 (by decide) ?_
      refine r_iadd hK d_Mod_translation_59 ?_
      refine r_iret hK d_Mod_translation_60 rfl (rfl) ?_
      have hs : s_Mod_translation N p pg = ((nI 2) * (N 23 (16 * p + pg))) + (nI 0) := by unfold s_Mod_translation; rw [if_neg c25, if_pos c51]
      exact ⟨by rw [hs], rfl⟩
    · refine r_iconst (v := nI 1) hK d_Mod_translation_54 (by decide) ?_
      refine r_goto (tgt := 59) hK d_Mod_translation_55 (by decide) ?_
      refine r_iadd hK d_Mod_translation_59 ?_
      refine r_iret hK d_Mod_translation_60 rfl (rfl) ?_
      have hs : s_Mod_translation N p pg = ((nI 2) * (N 23 (16 * p + pg))) + (nI 1) := by unfold s_Mod_translation; rw [if_neg c25, if_neg c51]
      exact ⟨by rw [hs], rfl⟩
  · refine r_iconst (v := -1) hK d_Mod_translation_28 (by decide) ?_
    refine r_iret hK d_Mod_translation_29 rfl (rfl) ?_
    have hs : s_Mod_translation N p pg = -1 := by unfold s_Mod_translation; rw [if_pos c25]
    exact ⟨by rw [hs], rfl⟩
set_option maxHeartbeats 1000000 in
theorem c_Mod_word_neg (X : gCx) (l : Launch) (h nx : Nat) (N : tS) (f : Int32) (hb : f < 0) : gMi X l (HoldT X h nx) M_Mod_word 0 0 0 [.ref h, .int f] N (-1) N := by
  refine gM_intro (by decide) (Nat.le_of_ble_eq_true rfl) (fun K hK => ?_)
  show K 0 [(0, .ref h), (1, .int f)] [] N 0 0
  refine r_iload_n hK d_Mod_word_0 rfl 1 rfl ?_
  refine r_if_lt (tgt := 10) hK d_Mod_word_1 (by decide) (fun c1 => ?_) (fun z => False.elim (z hb))
  refine r_iconst (v := -1) hK d_Mod_word_10 (by decide) ?_
  refine r_goto (tgt := 20) hK d_Mod_word_11 (by decide) ?_
  refine r_iret hK d_Mod_word_20 rfl (rfl) ?_
  exact ⟨rfl, rfl⟩
set_option maxHeartbeats 1000000 in
theorem c_Mod_word_big (X : gCx) (l : Launch) (h nx : Nat) (N : tS) (f : Int32) (ha : ¬ f < 0) (hb : ¬ f ≤ nI 9) : gMi X l (HoldT X h nx) M_Mod_word 0 0 0 [.ref h, .int f] N (-1) N := by
  refine gM_intro (by decide) (Nat.le_of_ble_eq_true rfl) (fun K hK => ?_)
  show K 0 [(0, .ref h), (1, .int f)] [] N 0 0
  refine r_iload_n hK d_Mod_word_0 rfl 1 rfl ?_
  refine r_if_lt (tgt := 10) hK d_Mod_word_1 (by decide) (fun z => False.elim (ha z)) (fun c1 => ?_)
  refine r_iload_n hK d_Mod_word_4 rfl 1 rfl ?_
  refine r_bipush (v := nI 9) hK d_Mod_word_5 (by decide) ?_
  refine r_icmp_le (tgt := 14) hK d_Mod_word_7 (by decide) (fun z => False.elim (hb z)) (fun c7 => ?_)
  refine r_iconst (v := -1) hK d_Mod_word_10 (by decide) ?_
  refine r_goto (tgt := 20) hK d_Mod_word_11 (by decide) ?_
  refine r_iret hK d_Mod_word_20 rfl (rfl) ?_
  exact ⟨rfl, rfl⟩
set_option maxHeartbeats 1000000 in
theorem c_Mod_word (X : gCx) (l : Launch) (h nx : Nat) (N : tS) (f : Nat) (hf : f < 10) : gMi X l (HoldT X h nx) M_Mod_word 0 0 0 [.ref h, .int (nI f)] N (N 21 f) N := by
  refine gM_intro (by decide) (Nat.le_of_ble_eq_true rfl) (fun K hK => ?_)
  show K 0 [(0, .ref h), (1, .int (nI f))] [] N 0 0
  refine r_iload_n hK d_Mod_word_0 rfl 1 rfl ?_
  refine r_nif_lt (a := f) (tgt := 10) hK d_Mod_word_1 (by decide) (by omega) ?_
  refine r_iload_n hK d_Mod_word_4 rfl 1 rfl ?_
  refine r_bipush (v := nI 9) hK d_Mod_word_5 (by decide) ?_
  refine r_ncmp_le (a := f) (b := 9) (tgt := 14) hK d_Mod_word_7 (by decide) (by omega) (by omega) (fun c7 => ?_) (fun z => False.elim (by omega))
  refine r_aload_n hK d_Mod_word_14 rfl 0 rfl ?_
  refine w_word hK d_Mod_word_15 rfl ?_
  refine r_iload_n hK d_Mod_word_18 rfl 1 rfl ?_
  refine w_iald (n := 21) (L := 10) hK d_Mod_word_19 (by decide) rfl rfl f rfl (by omega) (v := N 21 f) (rfl) ?_
  refine r_iret hK d_Mod_word_20 rfl (rfl) ?_
  exact ⟨rfl, rfl⟩
set_option maxHeartbeats 1000000 in
theorem c_Mod_spare_neg (X : gCx) (l : Launch) (h nx : Nat) (N : tS) (f : Int32) (hb : f < 0) : gMi X l (HoldT X h nx) M_Mod_spare 1 0 0 [.ref h, .int f] N (-1) N := by
  refine gM_intro (by decide) (Nat.le_of_ble_eq_true rfl) (fun K hK => ?_)
  show K 0 [(0, .ref h), (1, .int f)] [] N 0 0
  refine r_iload_n hK d_Mod_spare_0 rfl 1 rfl ?_
  refine r_if_lt (tgt := 9) hK d_Mod_spare_1 (by decide) (fun c1 => ?_) (fun z => False.elim (z hb))
  refine r_iconst (v := -1) hK d_Mod_spare_9 (by decide) ?_
  refine r_goto (tgt := 18) hK d_Mod_spare_10 (by decide) ?_
  refine r_iret hK d_Mod_spare_18 rfl (rfl) ?_
  exact ⟨rfl, rfl⟩
set_option maxHeartbeats 1000000 in
theorem c_Mod_spare_big (X : gCx) (l : Launch) (h nx : Nat) (N : tS) (f : Int32) (ha : ¬ f < 0) (hb : ¬ f ≤ nI 4) : gMi X l (HoldT X h nx) M_Mod_spare 1 0 0 [.ref h, .int f] N (-1) N := by
  refine gM_intro (by decide) (Nat.le_of_ble_eq_true rfl) (fun K hK => ?_)
  show K 0 [(0, .ref h), (1, .int f)] [] N 0 0
  refine r_iload_n hK d_Mod_spare_0 rfl 1 rfl ?_
  refine r_if_lt (tgt := 9) hK d_Mod_spare_1 (by decide) (fun z => False.elim (ha z)) (fun c1 => ?_)
  refine r_iload_n hK d_Mod_spare_4 rfl 1 rfl ?_
  refine r_iconst (v := nI 4) hK d_Mod_spare_5 (by decide) ?_
  refine r_icmp_le (tgt := 13) hK d_Mod_spare_6 (by decide) (fun z => False.elim (hb z)) (fun c6 => ?_)
  refine r_iconst (v := -1) hK d_Mod_spare_9 (by decide) ?_
  refine r_goto (tgt := 18) hK d_Mod_spare_10 (by decide) ?_
  refine r_iret hK d_Mod_spare_18 rfl (rfl) ?_
  exact ⟨rfl, rfl⟩
set_option maxHeartbeats 1000000 in
theorem c_Mod_spare (X : gCx) (l : Launch) (h nx : Nat) (N : tS) (f : Nat) (hf : f < 5) : gMi X l (HoldT X h nx) M_Mod_spare 1 0 0 [.ref h, .int (nI f)] N (nI (s_frames N (nI f) 10)) N := by
  refine gM_intro (by decide) (Nat.le_of_ble_eq_true rfl) (fun K hK => ?_)
  show K 0 [(0, .ref h), (1, .int (nI f))] [] N 0 0
  refine r_iload_n hK d_Mod_spare_0 rfl 1 rfl ?_
  refine r_nif_lt (a := f) (tgt := 9) hK d_Mod_spare_1 (by decide) (by omega) ?_
  refine r_iload_n hK d_Mod_spare_4 rfl 1 rfl ?_
  refine r_iconst (v := nI 4) hK d_Mod_spare_5 (by decide) ?_
  refine r_ncmp_le (a := f) (b := 4) (tgt := 13) hK d_Mod_spare_6 (by decide) (by omega) (by omega) (fun c6 => ?_) (fun z => False.elim (by omega))
  refine r_aload_n hK d_Mod_spare_13 rfl 0 rfl ?_
  refine r_iload_n hK d_Mod_spare_14 rfl 1 rfl ?_
  refine r_callVi (As := [.int (nI f)]) (b := h) (st := []) hK (c_Mod_framesAt X l h nx N (nI f)) d_Mod_spare_15 ml_Mod_186 cv_Mod_framesAt rfl (by decide) w_recv (Nat.le_of_ble_eq_true rfl) ?_ rfl
  refine r_iret hK d_Mod_spare_18 rfl (rfl) ?_
  exact ⟨rfl, rfl⟩
