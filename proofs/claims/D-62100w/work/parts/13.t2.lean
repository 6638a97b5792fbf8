set_option maxHeartbeats 1000000 in
theorem c_Mod_tick (X : gCx) (l : Launch) (h nx : Nat) (N : tS) (c : Int32) (hc : N 31 0 = c) : gMi X l (HoldT X h nx) M_Mod_tick 0 0 0 [.ref h] N (c + (nI 1)) (tset N 31 0 (c + (nI 1))) := by
  refine gM_intro (by decide) (Nat.le_of_ble_eq_true rfl) (fun K hK => ?_)
  show K 0 [(0, .ref h)] [] N 0 0
  refine r_aload_n hK d_Mod_tick_0 rfl 0 rfl ?_
  refine r_dup hK d_Mod_tick_1 rfl ?_
  refine w_clock hK d_Mod_tick_2 rfl (v := c) (hc) ?_
  refine r_iconst (v := nI 1) hK d_Mod_tick_5 (by decide) ?_
  refine r_iadd hK d_Mod_tick_6 ?_
  refine w_put_clock hK d_Mod_tick_7 rfl ?_
  refine r_aload_n hK d_Mod_tick_10 rfl 0 rfl ?_
  refine w_clock hK d_Mod_tick_11 rfl (v := c + (nI 1)) (by simp [tset]) ?_
  refine r_iret hK d_Mod_tick_14 rfl (rfl) ?_
  exact ⟨rfl, rfl⟩
set_option maxHeartbeats 1000000 in
theorem c_Mod_end (X : gCx) (l : Launch) (h nx : Nat) (N : tS) (k : Nat) (v : Int32) (hk : k < 80) : gMi X l (HoldT X h nx) M_Mod_end 0 0 0 [.ref h, .int (nI k), .int v] N (nI 1) (tset N 6 k v) := by
  refine gM_intro (by decide) (Nat.le_of_ble_eq_true rfl) (fun K hK => ?_)
  show K 0 [(0, .ref h), (1, .int (nI k)), (2, .int v)] [] N 0 0
  refine r_aload_n hK d_Mod_end_0 rfl 0 rfl ?_
  refine w_outcome hK d_Mod_end_1 rfl ?_
  refine r_iload_n hK d_Mod_end_4 rfl 1 rfl ?_
  refine r_iload_n hK d_Mod_end_5 rfl 2 rfl ?_
  refine w_iast (n := 6) (L := 80) hK d_Mod_end_6 (by decide) rfl rfl k rfl (by omega) ?_
  refine r_iconst (v := nI 1) hK d_Mod_end_7 (by decide) ?_
  refine r_iret hK d_Mod_end_8 rfl (rfl) ?_
  exact ⟨rfl, rfl⟩
set_option maxHeartbeats 1000000 in
theorem c_Mod_run1 (X : gCx) (l : Launch) (h nx : Nat) (N : tS) (p t : Nat) (ht : t < 8) : gMv X l (HoldT X h nx) M_Mod_run1 0 0 0 [.ref h, .int (nI p), .int (nI t)] N (tset (tset N 8 t (nI 2)) 7 t (nI p)) := by
  refine gM_intro (by decide) (Nat.le_of_ble_eq_true rfl) (fun K hK => ?_)
  show K 0 [(0, .ref h), (1, .int (nI p)), (2, .int (nI t))] [] N 0 0
  refine r_aload_n hK d_Mod_run1_0 rfl 0 rfl ?_
  refine w_how hK d_Mod_run1_1 rfl ?_
  refine r_iload_n hK d_Mod_run1_4 rfl 2 rfl ?_
  refine r_iconst (v := nI 2) hK d_Mod_run1_5 (by decide) ?_
  refine w_iast (n := 8) (L := 8) hK d_Mod_run1_6 (by decide) rfl rfl t rfl (by omega) ?_
  refine r_aload_n hK d_Mod_run1_7 rfl 0 rfl ?_
  refine w_where hK d_Mod_run1_8 rfl ?_
  refine r_iload_n hK d_Mod_run1_11 rfl 2 rfl ?_
  refine r_iload_n hK d_Mod_run1_12 rfl 1 rfl ?_
  refine w_iast (n := 7) (L := 8) hK d_Mod_run1_13 (by decide) rfl rfl t rfl (by omega) ?_
  refine r_vret hK d_Mod_run1_14 rfl ?_
  exact ⟨rfl, rfl⟩
set_option maxHeartbeats 1000000 in
theorem c_Mod_tickets (X : gCx) (l : Launch) (h nx : Nat) (N : tS)  : gMi X l (HoldT X h nx) M_Mod_tickets 0 0 0 [.ref h] N ((N 32 0) - (N 33 0)) N := by
  refine gM_intro (by decide) (Nat.le_of_ble_eq_true rfl) (fun K hK => ?_)
  show K 0 [(0, .ref h)] [] N 0 0
  refine r_aload_n hK d_Mod_tickets_0 rfl 0 rfl ?_
  refine w_next hK d_Mod_tickets_1 rfl (v := N 32 0) (rfl) ?_
  refine r_aload_n hK d_Mod_tickets_4 rfl 0 rfl ?_
  refine w_serving hK d_Mod_tickets_5 rfl (v := N 33 0) (rfl) ?_
  refine r_isub hK d_Mod_tickets_8 ?_
  refine r_iret hK d_Mod_tickets_9 rfl (rfl) ?_
  exact ⟨rfl, rfl⟩
set_option maxHeartbeats 1000000 in
theorem c_Mod_steps (X : gCx) (l : Launch) (h nx : Nat) (N : tS)  : gMi X l (HoldT X h nx) M_Mod_steps 0 0 0 [.ref h] N (N 34 0) N := by
  refine gM_intro (by decide) (Nat.le_of_ble_eq_true rfl) (fun K hK => ?_)
  show K 0 [(0, .ref h)] [] N 0 0
  refine r_aload_n hK d_Mod_steps_0 rfl 0 rfl ?_
  refine w_made hK d_Mod_steps_1 rfl (v := N 34 0) (rfl) ?_
  refine r_iret hK d_Mod_steps_4 rfl (rfl) ?_
  exact ⟨rfl, rfl⟩
def s_ph (w : Int32) : Int32 :=
  if nI 1 < w then (if w = nI 5 then nI 15
    else nI 7)
  else nI 4
set_option maxHeartbeats 1000000 in
theorem c_Mod_begin (X : gCx) (l : Launch) (h nx : Nat) (N : tS) (t dd : Nat) (w : Int32) (ht : t < 8) (hdd : N 1 t = nI dd) (h80 : 10 * t + dd < 80) (hw : N 2 (10 * t + dd) = w) : gMv X l (HoldT X h nx) M_Mod_begin 0 0 0 [.ref h, .int (nI t)] N (tset (tset (tset (tset (tset (tset N 10 t ((s_ph w))) 12 t (nI 0)) 13 t (nI 0)) 14 t (nI 0)) 17 t (nI 0)) 15 t (nI 0)) := by
  refine gM_intro (by decide) (Nat.le_of_ble_eq_true rfl) (fun K hK => ?_)
  show K 0 [(0, .ref h), (1, .int (nI t))] [] N 0 0
  refine r_aload_n hK d_Mod_begin_0 rfl 0 rfl ?_
  refine w_kind hK d_Mod_begin_1 rfl ?_
  refine r_bipush (v := nI 10) hK d_Mod_begin_4 (by decide) ?_
  refine r_iload_n hK d_Mod_begin_6 rfl 1 rfl ?_
  refine r_imul hK d_Mod_begin_7 ?_
  refine r_tp (b := nI (10 * t)) (pk_mul _ _) ?_
  refine r_aload_n hK d_Mod_begin_8 rfl 0 rfl ?_
  refine w_done hK d_Mod_begin_9 rfl ?_
  refine r_iload_n hK d_Mod_begin_12 rfl 1 rfl ?_
  refine w_iald (n := 1) (L := 8) hK d_Mod_begin_13 (by decide) rfl rfl t rfl (by omega) (v := nI dd) (hdd) ?_
  refine r_iadd hK d_Mod_begin_14 ?_
  refine r_tp (b := nI (10 * t + dd)) (nI_add _ _) ?_
  refine w_iald (n := 2) (L := 80) hK d_Mod_begin_15 (by decide) rfl rfl (10 * t + dd) rfl (by omega) (v := w) (hw) ?_
  refine r_istore_n (lv' := [(2, .int w), (0, .ref h), (1, .int (nI t))]) hK d_Mod_begin_16 rfl (by decide) rfl ?_
  refine r_aload_n hK d_Mod_begin_17 rfl 1 rfl ?_
  refine w_phase hK d_Mod_begin_18 rfl ?_
  refine r_iload_n hK d_Mod_begin_21 rfl 2 rfl ?_
  have J43 : K 43 [(2, .int w), (0, .ref h), (1, .int (nI t))] [.int ((s_ph w)), .int (nI t), .ref (h + 1 + 10)] N 0 0 := by
    refine w_iast (n := 10) (L := 8) hK d_Mod_begin_43 (by decide) rfl rfl t rfl (by omega) ?_
    refine r_aload_n hK d_Mod_begin_44 rfl 1 rfl ?_
    refine w_progress hK d_Mod_begin_45 rfl ?_
    refine r_iload_n hK d_Mod_begin_48 rfl 2 rfl ?_
    refine r_iconst (v := nI 0) hK d_Mod_begin_49 (by decide) ?_
    refine w_iast (n := 12) (L := 8) hK d_Mod_begin_50 (by decide) rfl rfl t rfl (by omega) ?_
    refine r_aload_n hK d_Mod_begin_51 rfl 1 rfl ?_
    refine w_owed hK d_Mod_begin_52 rfl ?_
    refine r_iload_n hK d_Mod_begin_55 rfl 2 rfl ?_
    refine r_iconst (v := nI 0) hK d_Mod_begin_56 (by decide) ?_
    refine w_iast (n := 13) (L := 8) hK d_Mod_begin_57 (by decide) rfl rfl t rfl (by omega) ?_
    refine r_aload_n hK d_Mod_begin_58 rfl 1 rfl ?_
    refine w_hits hK d_Mod_begin_59 rfl ?_
    refine r_iload_n hK d_Mod_begin_62 rfl 2 rfl ?_
    refine r_iconst (v := nI 0) hK d_Mod_begin_63 (by decide) ?_
    refine w_iast (n := 14) (L := 8) hK d_Mod_begin_64 (by decide) rfl rfl t rfl (by omega) ?_
    refine r_aload_n hK d_Mod_begin_65 rfl 1 rfl ?_
    refine w_keeps hK d_Mod_begin_66 rfl ?_
    refine r_iload_n hK d_Mod_begin_69 rfl 2 rfl ?_
    refine r_iconst (v := nI 0) hK d_Mod_begin_70 (by decide) ?_
    refine w_iast (n := 17) (L := 8) hK d_Mod_begin_71 (by decide) rfl rfl t rfl (by omega) ?_
    refine r_aload_n hK d_Mod_begin_72 rfl 1 rfl ?_
    refine w_refused hK d_Mod_begin_73 rfl ?_
    refine r_iload_n hK d_Mod_begin_76 rfl 2 rfl ?_
    refine r_iconst (v := nI 0) hK d_Mod_begin_77 (by decide) ?_
    refine w_zast (n := 15) (L := 8) hK (rfl) d_Mod_begin_78 (by decide) rfl rfl t rfl (by omega) ?_
    refine r_vret hK d_Mod_begin_79 rfl ?_
    exact ⟨rfl, rfl⟩
  refine r_iload_n hK d_Mod_begin_22 rfl 0 rfl ?_
  refine r_iconst (v := nI 1) hK d_Mod_begin_23 (by decide) ?_
  refine r_icmp_gt (tgt := 31) hK d_Mod_begin_24 (by decide) (fun c24 => ?_) (fun c24 => ?_)
  · refine r_iload_n hK d_Mod_begin_31 rfl 0 rfl ?_
    refine r_iconst (v := nI 5) hK d_Mod_begin_32 (by decide) ?_
    refine r_icmp_ne (tgt := 41) hK d_Mod_begin_33 (by decide) (fun c33 => ?_) (fun c33 => ?_)
    · refine r_bipush (v := nI 7) hK d_Mod_begin_41 (by decide) ?_
      have e43 : s_ph w = nI 7 := by unfold s_ph; rw [if_pos c24, if_neg c33]
      rw [e43] at J43
      exact J43
    · refine r_bipush (v := nI 15) hK d_Mod_begin_36 (by decide) ?_
      refine r_goto (tgt := 43) hK d_Mod_begin_38 (by decide) ?_
      have e43 : s_ph w = nI 15 := by unfold s_ph; rw [if_pos c24, if_pos c33]
      rw [e43] at J43
      exact J43
  · refine r_iconst (v := nI 4) hK d_Mod_begin_27 (by decide) ?_
    refine r_goto (tgt := 43) hK d_Mod_begin_28 (by decide) ?_
    have e43 : s_ph w = nI 4 := by unfold s_ph; rw [if_neg c24]
    rw [e43] at J43
    exact J43
def s_Mod_noProcessor (p : Int32) : Int32 :=
  if p < 0 then nI 1
  else if p ≤ nI 3 then nI 0
    else nI 1
set_option maxHeartbeats 1000000 in
theorem c_Mod_noProcessor (X : gCx) (l : Launch) (h nx : Nat) (N : tS) (p : Int32)  : gMi X l (HoldT X h nx) M_Mod_noProcessor 0 0 0 [.int p] N (s_Mod_noProcessor p) N := by
  refine gM_intro (by decide) (Nat.le_of_ble_eq_true rfl) (fun K hK => ?_)
  show K 0 [(0, .int p)] [] N 0 0
  refine r_iload_n hK d_Mod_noProcessor_0 rfl 0 rfl ?_
  refine r_if_lt (tgt := 9) hK d_Mod_noProcessor_1 (by decide) (fun c1 => ?_) (fun c1 => ?_)
  · refine r_iconst (v := nI 1) hK d_Mod_noProcessor_9 (by decide) ?_
    refine r_goto (tgt := 14) hK d_Mod_noProcessor_10 (by decide) ?_
    refine r_iret hK d_Mod_noProcessor_14 rfl (rfl) ?_
    have hs : s_Mod_noProcessor p = nI 1 := by unfold s_Mod_noProcessor; rw [if_pos c1]
    exact ⟨by rw [hs], rfl⟩
  · refine r_iload_n hK d_Mod_noProcessor_4 rfl 0 rfl ?_
    refine r_iconst (v := nI 3) hK d_Mod_noProcessor_5 (by decide) ?_
    refine r_icmp_le (tgt := 13) hK d_Mod_noProcessor_6 (by decide) (fun c6 => ?_) (fun c6 => ?_)
    · refine r_iconst (v := nI 0) hK d_Mod_noProcessor_13 (by decide) ?_
      refine r_iret hK d_Mod_noProcessor_14 rfl (rfl) ?_
      have hs : s_Mod_noProcessor p = nI 0 := by unfold s_Mod_noProcessor; rw [if_neg c1, if_pos c6]
      exact ⟨by rw [hs], rfl⟩
    · refine r_iconst (v := nI 1) hK d_Mod_noProcessor_9 (by decide) ?_
      refine r_goto (tgt := 14) hK d_Mod_noProcessor_10 (by decide) ?_
      refine r_iret hK d_Mod_noProcessor_14 rfl (rfl) ?_
      have hs : s_Mod_noProcessor p = nI 1 := by unfold s_Mod_noProcessor; rw [if_neg c1, if_neg c6]
      exact ⟨by rw [hs], rfl⟩
def s_Mod_noPage (p : Int32) : Int32 :=
  if p < 0 then nI 1
  else if p ≤ nI 15 then nI 0
    else nI 1
set_option maxHeartbeats 1000000 in
theorem c_Mod_noPage (X : gCx) (l : Launch) (h nx : Nat) (N : tS) (p : Int32)  : gMi X l (HoldT X h nx) M_Mod_noPage 0 0 0 [.int p] N (s_Mod_noPage p) N := by
  refine gM_intro (by decide) (Nat.le_of_ble_eq_true rfl) (fun K hK => ?_)
  show K 0 [(0, .int p)] [] N 0 0
  refine r_iload_n hK d_Mod_noPage_0 rfl 0 rfl ?_
  refine r_if_lt (tgt := 10) hK d_Mod_noPage_1 (by decide) (fun c1 => ?_) (fun c1 => ?_)
  · refine r_iconst (v := nI 1) hK d_Mod_noPage_10 (by decide) ?_
    refine r_goto (tgt := 15) hK d_Mod_noPage_11 (by decide) ?_
    refine r_iret hK d_Mod_noPage_15 rfl (rfl) ?_
    have hs : s_Mod_noPage p = nI 1 := by unfold s_Mod_noPage; rw [if_pos c1]
    exact ⟨by rw [hs], rfl⟩
  · refine r_iload_n hK d_Mod_noPage_4 rfl 0 rfl ?_
    refine r_bipush (v := nI 15) hK d_Mod_noPage_5 (by decide) ?_
    refine r_icmp_le (tgt := 14) hK d_Mod_noPage_7 (by decide) (fun c7 => ?_) (fun c7 => ?_)
    · refine r_iconst (v := nI 0) hK d_Mod_noPage_14 (by decide) ?_
      refine r_iret hK d_Mod_noPage_15 rfl (rfl) ?_
      have hs : s_Mod_noPage p = nI 0 := by unfold s_Mod_noPage; rw [if_neg c1, if_pos c7]
      exact ⟨by rw [hs], rfl⟩
    · refine r_iconst (v := nI 1) hK d_Mod_noPage_10 (by decide) ?_
      refine r_goto (tgt := 15) hK d_Mod_noPage_11 (by decide) ?_
      refine r_iret hK d_Mod_noPage_15 rfl (rfl) ?_
      have hs : s_Mod_noPage p = nI 1 := by unfold s_Mod_noPage; rw [if_neg c1, if_neg c7]
      exact ⟨by rw [hs], rfl⟩
def s_Mod_noRange (p n : Int32) : Int32 :=
  if n < nI 1 then nI 1
  else if nI 4 < n then nI 1
    else if p < 0 then nI 1
      else if p ≤ (nI 16) - n then nI 0
        else nI 1
set_option maxHeartbeats 1000000 in
theorem c_Mod_noRange (X : gCx) (l : Launch) (h nx : Nat) (N : tS) (p n : Int32)  : gMi X l (HoldT X h nx) M_Mod_noRange 0 0 0 [.int p, .int n] N (s_Mod_noRange p n) N := by
  refine gM_intro (by decide) (Nat.le_of_ble_eq_true rfl) (fun K hK => ?_)
  show K 0 [(0, .int p), (1, .int n)] [] N 0 0
  refine r_iload_n hK d_Mod_noRange_0 rfl 1 rfl ?_
  refine r_iconst (v := nI 1) hK d_Mod_noRange_1 (by decide) ?_
  refine r_icmp_lt (tgt := 22) hK d_Mod_noRange_2 (by decide) (fun c2 => ?_) (fun c2 => ?_)
  · refine r_iconst (v := nI 1) hK d_Mod_noRange_22 (by decide) ?_
    refine r_goto (tgt := 27) hK d_Mod_noRange_23 (by decide) ?_
    refine r_iret hK d_Mod_noRange_27 rfl (rfl) ?_
    have hs : s_Mod_noRange p n = nI 1 := by unfold s_Mod_noRange; rw [if_pos c2]
    exact ⟨by rw [hs], rfl⟩
  · refine r_iload_n hK d_Mod_noRange_5 rfl 1 rfl ?_
    refine r_iconst (v := nI 4) hK d_Mod_noRange_6 (by decide) ?_
    refine r_icmp_gt (tgt := 22) hK d_Mod_noRange_7 (by decide) (fun c7 => ?_) (fun c7 => ?_)
    · refine r_iconst (v := nI 1) hK d_Mod_noRange_22 (by decide) ?_
      refine r_goto (tgt := 27) hK d_Mod_noRange_23 (by decide) ?_
      refine r_iret hK d_Mod_noRange_27 rfl (rfl) ?_
      have hs : s_Mod_noRange p n = nI 1 := by unfold s_Mod_noRange; rw [if_neg c2, if_pos c7]
      exact ⟨by rw [hs], rfl⟩
    · refine r_iload_n hK d_Mod_noRange_10 rfl 0 rfl ?_
      refine r_if_lt (tgt := 22) hK d_Mod_noRange_11 (by decide) (fun c11 => ?_) (fun c11 => ?_)
      · refine r_iconst (v := nI 1) hK d_Mod_noRange_22 (by decide) ?_
        refine r_goto (tgt := 27) hK d_Mod_noRange_23 (by decide) ?_
        refine r_iret hK d_Mod_noRange_27 rfl (rfl) ?_
        have hs : s_Mod_noRange p n = nI 1 := by unfold s_Mod_noRange; rw [if_neg c2, if_neg c7, if_pos c11]
        exact ⟨by rw [hs], rfl⟩
      · refine r_iload_n hK d_Mod_noRange_14 rfl 0 rfl ?_
        refine r_bipush (v := nI 16) hK d_Mod_noRange_15 (by decide) ?_
        refine r_iload_n hK d_Mod_noRange_17 rfl 1 rfl ?_
        refine r_isub hK d_Mod_noRange_18 ?_
        refine r_icmp_le (tgt := 26) hK d_Mod_noRange_19 (by decide) (fun c19 => ?_) (fun c19 => ?_)
        · refine r_iconst (v := nI 0) hK d_Mod_noRange_26 (by decide) ?_
          refine r_iret hK d_Mod_noRange_27 rfl (rfl) ?_
          have hs : s_Mod_noRange p n = nI 0 := by unfold s_Mod_noRange; rw [if_neg c2, if_neg c7, if_neg c11, if_pos c19]
          exact ⟨by rw [hs], rfl⟩
        · refine r_iconst (v := nI 1) hK d_Mod_noRange_22 (by decide) ?_
          refine r_goto (tgt := 27) hK d_Mod_noRange_23 (by decide) ?_
          refine r_iret hK d_Mod_noRange_27 rfl (rfl) ?_
          have hs : s_Mod_noRange p n = nI 1 := by unfold s_Mod_noRange; rw [if_neg c2, if_neg c7, if_neg c11, if_neg c19]
          exact ⟨by rw [hs], rfl⟩
def s_cur (N : tS) (p : Int32) : Nat → Nat
  | 0 => 0
  | k + 1 => if N 8 k = nI 2 then (if N 7 k = p then k + 1
      else s_cur N p k)
    else s_cur N p k
set_option maxHeartbeats 1000000 in
theorem c_Mod_currentOf (X : gCx) (l : Launch) (h nx : Nat) (N : tS) (p : Int32) (n : Nat) (hn : N 30 0 = nI n) (hn8 : n ≤ 8) : gMi X l (HoldT X h nx) M_Mod_currentOf 0 0 0 [.ref h, .int p] N (dI (s_cur N p n)) N := by
  refine gM_intro (by decide) (Nat.le_of_ble_eq_true rfl) (fun K hK => ?_)
  have key : ∀ (m k : Nat), n < k + m → k ≤ n → K 4 [(0, .ref h), (1, .int p), (2, .int (dI (s_cur N p k))), (3, .int (nI k))] [] N 0 0 := by
    intro m
    induction m with
    | zero => intro k h1 h2; exact absurd h1 (by omega)
    | succ m ih =>
      intro k h1 h2
      refine r_iload_n hK d_Mod_currentOf_4 rfl 3 rfl ?_
      refine r_aload_n hK d_Mod_currentOf_5 rfl 0 rfl ?_
      refine w_threads hK d_Mod_currentOf_6 rfl (v := nI n) (hn) ?_
      refine r_ncmp_ge (a := k) (b := n) (tgt := 44) hK d_Mod_currentOf_9 (by decide) (by omega) (by omega) (fun c9 => ?_) (fun c9 => ?_)
      · refine r_iload_n hK d_Mod_currentOf_44 rfl 2 rfl ?_
        refine r_iret hK d_Mod_currentOf_45 rfl (rfl) ?_
        have hkn : k = n := by omega
        subst hkn
        exact ⟨rfl, rfl⟩
      · refine r_aload_n hK d_Mod_currentOf_12 rfl 0 rfl ?_
        refine w_how hK d_Mod_currentOf_13 rfl ?_
        refine r_iload_n hK d_Mod_currentOf_16 rfl 3 rfl ?_
        refine w_iald (n := 8) (L := 8) hK d_Mod_currentOf_17 (by decide) rfl rfl k rfl (by omega) (v := N 8 k) (rfl) ?_
        refine r_iconst (v := nI 2) hK d_Mod_currentOf_18 (by decide) ?_
        refine r_icmp_ne (tgt := 36) hK d_Mod_currentOf_19 (by decide) (fun c19 => ?_) (fun c19 => ?_)
        · refine r_iload_n hK d_Mod_currentOf_36 rfl 2 rfl ?_
          refine r_istore_n (lv' := [(2, .int (dI (s_cur N p k))), (0, .ref h), (1, .int p), (3, .int (nI k))]) hK d_Mod_currentOf_37 rfl (by decide) rfl ?_
          refine r_iinc (w := nI (k + 1)) (lv' := [(3, .int (nI (k + 1))), (2, .int (dI (s_cur N p k))), (0, .ref h), (1, .int p)]) hK d_Mod_currentOf_38 3 rfl (nI_add _ 1) (by decide) rfl ?_
          refine r_goto (tgt := 4) hK d_Mod_currentOf_41 (by decide) ?_
          have e2 : s_cur N p (k + 1) = s_cur N p k := by rw [s_cur.eq_2]; rw [if_neg c19]
          have ih2 := ih (k + 1) (by omega) (by omega)
          rw [e2] at ih2
          exact r_loc hK [2, 3, 1, 0] rfl ih2
        · refine r_aload_n hK d_Mod_currentOf_22 rfl 0 rfl ?_
          refine w_where hK d_Mod_currentOf_23 rfl ?_
          refine r_iload_n hK d_Mod_currentOf_26 rfl 3 rfl ?_
          refine w_iald (n := 7) (L := 8) hK d_Mod_currentOf_27 (by decide) rfl rfl k rfl (by omega) (v := N 7 k) (rfl) ?_
          refine r_iload_n hK d_Mod_currentOf_28 rfl 1 rfl ?_
          refine r_icmp_ne (tgt := 36) hK d_Mod_currentOf_29 (by decide) (fun c29 => ?_) (fun c29 => ?_)
          · refine r_iload_n hK d_Mod_currentOf_36 rfl 2 rfl ?_
            refine r_istore_n (lv' := [(2, .int (dI (s_cur N p k))), (0, .ref h), (1, .int p), (3, .int (nI k))]) hK d_Mod_currentOf_37 rfl (by decide) rfl ?_
            refine r_iinc (w := nI (k + 1)) (lv' := [(3, .int (nI (k + 1))), (2, .int (dI (s_cur N p k))), (0, .ref h), (1, .int p)]) hK d_Mod_currentOf_38 3 rfl (nI_add _ 1) (by decide) rfl ?_
            refine r_goto (tgt := 4) hK d_Mod_currentOf_41 (by decide) ?_
            have e2 : s_cur N p (k + 1) = s_cur N p k := by rw [s_cur.eq_2]; rw [if_pos c19, if_neg c29]
            have ih2 := ih (k + 1) (by omega) (by omega)
            rw [e2] at ih2
            exact r_loc hK [2, 3, 1, 0] rfl ih2
          · refine r_iload_n hK d_Mod_currentOf_32 rfl 3 rfl ?_
            refine r_goto (tgt := 37) hK d_Mod_currentOf_33 (by decide) ?_
            refine r_istore_n (lv' := [(2, .int (nI k)), (0, .ref h), (1, .int p), (3, .int (nI k))]) hK d_Mod_currentOf_37 rfl (by decide) rfl ?_
            refine r_iinc (w := nI (k + 1)) (lv' := [(3, .int (nI (k + 1))), (2, .int (nI k)), (0, .ref h), (1, .int p)]) hK d_Mod_currentOf_38 3 rfl (nI_add _ 1) (by decide) rfl ?_
            refine r_goto (tgt := 4) hK d_Mod_currentOf_41 (by decide) ?_
            have e2 : s_cur N p (k + 1) = k + 1 := by rw [s_cur.eq_2]; rw [if_pos c19, if_pos c29]
            have ih2 := ih (k + 1) (by omega) (by omega)
            rw [e2] at ih2
            exact r_loc hK [2, 3, 1, 0] rfl ih2
  show K 0 [(0, .ref h), (1, .int p)] [] N 0 0
  refine r_iconst (v := -1) hK d_Mod_currentOf_0 (by decide) ?_
  refine r_istore_n (lv' := [(2, .int (-1)), (0, .ref h), (1, .int p)]) hK d_Mod_currentOf_1 rfl (by decide) rfl ?_
  refine r_iconst (v := nI 0) hK d_Mod_currentOf_2 (by decide) ?_
  refine r_istore_n (lv' := [(3, .int (nI 0)), (2, .int (-1)), (0, .ref h), (1, .int p)]) hK d_Mod_currentOf_3 rfl (by decide) rfl ?_
  exact r_loc hK [2, 3, 1, 0] rfl (key (n + 1) 0 (by omega) (by omega))
def s_len (N : tS) (p : Int32) : Nat → Nat
  | 0 => 0
  | k + 1 => if N 8 k = nI 1 then (if N 7 k = p then s_len N p k + 1
      else s_len N p k + 0)
    else s_len N p k + 0
set_option maxHeartbeats 1000000 in
theorem c_Mod_lengthOf (X : gCx) (l : Launch) (h nx : Nat) (N : tS) (p : Int32) (n : Nat) (hn : N 30 0 = nI n) (hn8 : n ≤ 8) : gMi X l (HoldT X h nx) M_Mod_lengthOf 0 0 0 [.ref h, .int p] N (nI (s_len N p n)) N := by
  refine gM_intro (by decide) (Nat.le_of_ble_eq_true rfl) (fun K hK => ?_)
  have key : ∀ (m k : Nat), n < k + m → k ≤ n → K 4 [(0, .ref h), (1, .int p), (2, .int (nI (s_len N p k))), (3, .int (nI k))] [] N 0 0 := by
    intro m
    induction m with
    | zero => intro k h1 h2; exact absurd h1 (by omega)
    | succ m ih =>
      intro k h1 h2
      refine r_iload_n hK d_Mod_lengthOf_4 rfl 3 rfl ?_
      refine r_aload_n hK d_Mod_lengthOf_5 rfl 0 rfl ?_
      refine w_threads hK d_Mod_lengthOf_6 rfl (v := nI n) (hn) ?_
      refine r_ncmp_ge (a := k) (b := n) (tgt := 46) hK d_Mod_lengthOf_9 (by decide) (by omega) (by omega) (fun c9 => ?_) (fun c9 => ?_)
      · refine r_iload_n hK d_Mod_lengthOf_46 rfl 2 rfl ?_
        refine r_iret hK d_Mod_lengthOf_47 rfl (rfl) ?_
        have hkn : k = n := by omega
        subst hkn
        exact ⟨rfl, rfl⟩
      · refine r_iload_n hK d_Mod_lengthOf_12 rfl 2 rfl ?_
        refine r_aload_n hK d_Mod_lengthOf_13 rfl 0 rfl ?_
        refine w_how hK d_Mod_lengthOf_14 rfl ?_
        refine r_iload_n hK d_Mod_lengthOf_17 rfl 3 rfl ?_
        refine w_iald (n := 8) (L := 8) hK d_Mod_lengthOf_18 (by decide) rfl rfl k rfl (by omega) (v := N 8 k) (rfl) ?_
        refine r_iconst (v := nI 1) hK d_Mod_lengthOf_19 (by decide) ?_
        refine r_icmp_ne (tgt := 37) hK d_Mod_lengthOf_20 (by decide) (fun c20 => ?_) (fun c20 => ?_)
        · refine r_iconst (v := nI 0) hK d_Mod_lengthOf_37 (by decide) ?_
          refine r_iadd hK d_Mod_lengthOf_38 ?_
          refine r_tp (b := nI (s_len N p k + 0)) (nI_add _ _) ?_
          refine r_istore_n (lv' := [(2, .int (nI (s_len N p k + 0))), (0, .ref h), (1, .int p), (3, .int (nI k))]) hK d_Mod_lengthOf_39 rfl (by decide) rfl ?_
          refine r_iinc (w := nI (k + 1)) (lv' := [(3, .int (nI (k + 1))), (2, .int (nI (s_len N p k + 0))), (0, .ref h), (1, .int p)]) hK d_Mod_lengthOf_40 3 rfl (nI_add _ 1) (by decide) rfl ?_
          refine r_goto (tgt := 4) hK d_Mod_lengthOf_43 (by decide) ?_
          have e2 : s_len N p (k + 1) = s_len N p k + 0 := by rw [s_len.eq_2]; rw [if_neg c20]
          have ih2 := ih (k + 1) (by omega) (by omega)
          rw [e2] at ih2
          exact r_loc hK [2, 3, 1, 0] rfl ih2
        · refine r_aload_n hK d_Mod_lengthOf_23 rfl 0 rfl ?_
          refine w_where hK d_Mod_lengthOf_24 rfl ?_
          refine r_iload_n hK d_Mod_lengthOf_27 rfl 3 rfl ?_
          refine w_iald (n := 7) (L := 8) hK d_Mod_lengthOf_28 (by decide) rfl rfl k rfl (by omega) (v := N 7 k) (rfl) ?_
          refine r_iload_n hK d_Mod_lengthOf_29 rfl 1 rfl ?_
          refine r_icmp_ne (tgt := 37) hK d_Mod_lengthOf_30 (by decide) (fun c30 => ?_) (fun c30 => ?_)
          · refine r_iconst (v := nI 0) hK d_Mod_lengthOf_37 (by decide) ?_
            refine r_iadd hK d_Mod_lengthOf_38 ?_
            refine r_tp (b := nI (s_len N p k + 0)) (nI_add _ _) ?_
            refine r_istore_n (lv' := [(2, .int (nI (s_len N p k + 0))), (0, .ref h), (1, .int p), (3, .int (nI k))]) hK d_Mod_lengthOf_39 rfl (by decide) rfl ?_
            refine r_iinc (w := nI (k + 1)) (lv' := [(3, .int (nI (k + 1))), (2, .int (nI (s_len N p k + 0))), (0, .ref h), (1, .int p)]) hK d_Mod_lengthOf_40 3 rfl (nI_add _ 1) (by decide) rfl ?_
            refine r_goto (tgt := 4) hK d_Mod_lengthOf_43 (by decide) ?_
            have e2 : s_len N p (k + 1) = s_len N p k + 0 := by rw [s_len.eq_2]; rw [if_pos c20, if_neg c30]
            have ih2 := ih (k + 1) (by omega) (by omega)
            rw [e2] at ih2
            exact r_loc hK [2, 3, 1, 0] rfl ih2
          · refine r_iconst (v := nI 1) hK d_Mod_lengthOf_33 (by decide) ?_
            refine r_goto (tgt := 38) hK d_Mod_lengthOf_34 (by decide) ?_
            refine r_iadd hK d_Mod_lengthOf_38 ?_
            refine r_tp (b := nI (s_len N p k + 1)) (nI_add _ _) ?_
            refine r_istore_n (lv' := [(2, .int (nI (s_len N p k + 1))), (0, .ref h), (1, .int p), (3, .int (nI k))]) hK d_Mod_lengthOf_39 rfl (by decide) rfl ?_
            refine r_iinc (w := nI (k + 1)) (lv' := [(3, .int (nI (k + 1))), (2, .int (nI (s_len N p k + 1))), (0, .ref h), (1, .int p)]) hK d_Mod_lengthOf_40 3 rfl (nI_add _ 1) (by decide) rfl ?_
            refine r_goto (tgt := 4) hK d_Mod_lengthOf_43 (by decide) ?_
            have e2 : s_len N p (k + 1) = s_len N p k + 1 := by rw [s_len.eq_2]; rw [if_pos c20, if_pos c30]
            have ih2 := ih (k + 1) (by omega) (by omega)
            rw [e2] at ih2
            exact r_loc hK [2, 3, 1, 0] rfl ih2
  show K 0 [(0, .ref h), (1, .int p)] [] N 0 0
  refine r_iconst (v := nI 0) hK d_Mod_lengthOf_0 (by decide) ?_
  refine r_istore_n (lv' := [(2, .int (nI 0)), (0, .ref h), (1, .int p)]) hK d_Mod_lengthOf_1 rfl (by decide) rfl ?_
  refine r_iconst (v := nI 0) hK d_Mod_lengthOf_2 (by decide) ?_
  refine r_istore_n (lv' := [(3, .int (nI 0)), (2, .int (nI 0)), (0, .ref h), (1, .int p)]) hK d_Mod_lengthOf_3 rfl (by decide) rfl ?_
  exact r_loc hK [2, 3, 1, 0] rfl (key (n + 1) 0 (by omega) (by omega))
def s_ahead (N : tS) (p : Int32) (t : Nat) : Nat → Nat
  | 0 => 0
  | k + 1 => if N 8 k = nI 1 then (if N 7 k = p then (if N 9 t ≤ N 9 k then s_ahead N p t k + 0
        else s_ahead N p t k + 1)
      else s_ahead N p t k + 0)
    else s_ahead N p t k + 0
set_option maxHeartbeats 1000000 in
theorem c_Mod_ahead (X : gCx) (l : Launch) (h nx : Nat) (N : tS) (p : Int32) (t : Nat) (ht : t < 8) (n : Nat) (hn : N 30 0 = nI n) (hn8 : n ≤ 8) : gMi X l (HoldT X h nx) M_Mod_ahead 0 0 0 [.ref h, .int p, .int (nI t)] N (nI (s_ahead N p t n)) N := by
  refine gM_intro (by decide) (Nat.le_of_ble_eq_true rfl) (fun K hK => ?_)
  have key : ∀ (m k : Nat), n < k + m → k ≤ n → K 5 [(0, .ref h), (1, .int p), (2, .int (nI t)), (3, .int (nI (s_ahead N p t k))), (4, .int (nI k))] [] N 0 0 := by
    intro m
    induction m with
    | zero => intro k h1 h2; exact absurd h1 (by omega)
    | succ m ih =>
      intro k h1 h2
      refine r_iload hK d_Mod_ahead_5 4 rfl ?_
      refine r_aload_n hK d_Mod_ahead_7 rfl 0 rfl ?_
      refine w_threads hK d_Mod_ahead_8 rfl (v := nI n) (hn) ?_
      refine r_ncmp_ge (a := k) (b := n) (tgt := 66) hK d_Mod_ahead_11 (by decide) (by omega) (by omega) (fun c11 => ?_) (fun c11 => ?_)
      · refine r_iload_n hK d_Mod_ahead_66 rfl 3 rfl ?_
        refine r_iret hK d_Mod_ahead_67 rfl (rfl) ?_
        have hkn : k = n := by omega
        subst hkn
        exact ⟨rfl, rfl⟩
      · refine r_iload_n hK d_Mod_ahead_14 rfl 3 rfl ?_
        refine r_aload_n hK d_Mod_ahead_15 rfl 0 rfl ?_
        refine w_how hK d_Mod_ahead_16 rfl ?_
        refine r_iload hK d_Mod_ahead_19 4 rfl ?_
        refine w_iald (n := 8) (L := 8) hK d_Mod_ahead_21 (by decide) rfl rfl k rfl (by omega) (v := N 8 k) (rfl) ?_
        refine r_iconst (v := nI 1) hK d_Mod_ahead_22 (by decide) ?_
        refine r_icmp_ne (tgt := 57) hK d_Mod_ahead_23 (by decide) (fun c23 => ?_) (fun c23 => ?_)
        · refine r_iconst (v := nI 0) hK d_Mod_ahead_57 (by decide) ?_
          refine r_iadd hK d_Mod_ahead_58 ?_
          refine r_tp (b := nI (s_ahead N p t k + 0)) (nI_add _ _) ?_
          refine r_istore_n (lv' := [(3, .int (nI (s_ahead N p t k + 0))), (0, .ref h), (1, .int p), (2, .int (nI t)), (4, .int (nI k))]) hK d_Mod_ahead_59 rfl (by decide) rfl ?_
          refine r_iinc (w := nI (k + 1)) (lv' := [(4, .int (nI (k + 1))), (3, .int (nI (s_ahead N p t k + 0))), (0, .ref h), (1, .int p), (2, .int (nI t))]) hK d_Mod_ahead_60 4 rfl (nI_add _ 1) (by decide) rfl ?_
          refine r_goto (tgt := 5) hK d_Mod_ahead_63 (by decide) ?_
          have e3 : s_ahead N p t (k + 1) = s_ahead N p t k + 0 := by rw [s_ahead.eq_2]; rw [if_neg c23]
          have ih2 := ih (k + 1) (by omega) (by omega)
          rw [e3] at ih2
          exact r_loc hK [2, 3, 4, 1, 0] rfl ih2
        · refine r_aload_n hK d_Mod_ahead_26 rfl 0 rfl ?_
          refine w_where hK d_Mod_ahead_27 rfl ?_
          refine r_iload hK d_Mod_ahead_30 4 rfl ?_
          refine w_iald (n := 7) (L := 8) hK d_Mod_ahead_32 (by decide) rfl rfl k rfl (by omega) (v := N 7 k) (rfl) ?_
          refine r_iload_n hK d_Mod_ahead_33 rfl 1 rfl ?_
          refine r_icmp_ne (tgt := 57) hK d_Mod_ahead_34 (by decide) (fun c34 => ?_) (fun c34 => ?_)
          · refine r_iconst (v := nI 0) hK d_Mod_ahead_57 (by decide) ?_
            refine r_iadd hK d_Mod_ahead_58 ?_
            refine r_tp (b := nI (s_ahead N p t k + 0)) (nI_add _ _) ?_
            refine r_istore_n (lv' := [(3, .int (nI (s_ahead N p t k + 0))), (0, .ref h), (1, .int p), (2, .int (nI t)), (4, .int (nI k))]) hK d_Mod_ahead_59 rfl (by decide) rfl ?_
            refine r_iinc (w := nI (k + 1)) (lv' := [(4, .int (nI (k + 1))), (3, .int (nI (s_ahead N p t k + 0))), (0, .ref h), (1, .int p), (2, .int (nI t))]) hK d_Mod_ahead_60 4 rfl (nI_add _ 1) (by decide) rfl ?_
            refine r_goto (tgt := 5) hK d_Mod_ahead_63 (by decide) ?_
            have e3 : s_ahead N p t (k + 1) = s_ahead N p t k + 0 := by rw [s_ahead.eq_2]; rw [if_pos c23, if_neg c34]
            have ih2 := ih (k + 1) (by omega) (by omega)
            rw [e3] at ih2
            exact r_loc hK [2, 3, 4, 1, 0] rfl ih2
          · refine r_aload_n hK d_Mod_ahead_37 rfl 0 rfl ?_
            refine w_since hK d_Mod_ahead_38 rfl ?_
            refine r_iload hK d_Mod_ahead_41 4 rfl ?_
            refine w_iald (n := 9) (L := 8) hK d_Mod_ahead_43 (by decide) rfl rfl k rfl (by omega) (v := N 9 k) (rfl) ?_
            refine r_aload_n hK d_Mod_ahead_44 rfl 0 rfl ?_
            refine w_since hK d_Mod_ahead_45 rfl ?_
            refine r_iload_n hK d_Mod_ahead_48 rfl 2 rfl ?_
            refine w_iald (n := 9) (L := 8) hK d_Mod_ahead_49 (by decide) rfl rfl t rfl (by omega) (v := N 9 t) (rfl) ?_
            refine r_icmp_ge (tgt := 57) hK d_Mod_ahead_50 (by decide) (fun c50 => ?_) (fun c50 => ?_)
            · refine r_iconst (v := nI 0) hK d_Mod_ahead_57 (by decide) ?_
              refine r_iadd hK d_Mod_ahead_58 ?_
              refine r_tp (b := nI (s_ahead N p t k + 0)) (nI_add _ _) ?_
              refine r_istore_n (lv' := [(3, .int (nI (s_ahead N p t k + 0))), (0, .ref h), (1, .int p), (2, .int (nI t)), (4, .int (nI k))]) hK d_Mod_ahead_59 rfl (by decide) rfl ?_
              refine r_iinc (w := nI (k + 1)) (lv' := [(4, .int (nI (k + 1))), (3, .int (nI (s_ahead N p t k + 0))), (0, .ref h), (1, .int p), (2, .int (nI t))]) hK d_Mod_ahead_60 4 rfl (nI_add _ 1) (by decide) rfl ?_
              refine r_goto (tgt := 5) hK d_Mod_ahead_63 (by decide) ?_
              have e3 : s_ahead N p t (k + 1) = s_ahead N p t k + 0 := by rw [s_ahead.eq_2]; rw [if_pos c23, if_pos c34, if_pos c50]
              have ih2 := ih (k + 1) (by omega) (by omega)
              rw [e3] at ih2
              exact r_loc hK [2, 3, 4, 1, 0] rfl ih2
            · refine r_iconst (v := nI 1) hK d_Mod_ahead_53 (by decide) ?_
              refine r_goto (tgt := 58) hK d_Mod_ahead_54 (by decide) ?_
              refine r_iadd hK d_Mod_ahead_58 ?_
              refine r_tp (b := nI (s_ahead N p t k + 1)) (nI_add _ _) ?_
              refine r_istore_n (lv' := [(3, .int (nI (s_ahead N p t k + 1))), (0, .ref h), (1, .int p), (2, .int (nI t)), (4, .int (nI k))]) hK d_Mod_ahead_59 rfl (by decide) rfl ?_
              refine r_iinc (w := nI (k + 1)) (lv' := [(4, .int (nI (k + 1))), (3, .int (nI (s_ahead N p t k + 1))), (0, .ref h), (1, .int p), (2, .int (nI t))]) hK d_Mod_ahead_60 4 rfl (nI_add _ 1) (by decide) rfl ?_
              refine r_goto (tgt := 5) hK d_Mod_ahead_63 (by decide) ?_
              have e3 : s_ahead N p t (k + 1) = s_ahead N p t k + 1 := by rw [s_ahead.eq_2]; rw [if_pos c23, if_pos c34, if_neg c50]
              have ih2 := ih (k + 1) (by omega) (by omega)
              rw [e3] at ih2
              exact r_loc hK [2, 3, 4, 1, 0] rfl ih2
  show K 0 [(0, .ref h), (1, .int p), (2, .int (nI t))] [] N 0 0
  refine r_iconst (v := nI 0) hK d_Mod_ahead_0 (by decide) ?_
  refine r_istore_n (lv' := [(3, .int (nI 0)), (0, .ref h), (1, .int p), (2, .int (nI t))]) hK d_Mod_ahead_1 rfl (by decide) rfl ?_
  refine r_iconst (v := nI 0) hK d_Mod_ahead_2 (by decide) ?_
  refine r_istore (lv' := [(4, .int (nI 0)), (3, .int (nI 0)), (0, .ref h), (1, .int p), (2, .int (nI t))]) hK d_Mod_ahead_3 (by decide) rfl ?_
  exact r_loc hK [2, 3, 4, 1, 0] rfl (key (n + 1) 0 (by omega) (by omega))
def s_frames (N : tS) (p : Int32) : Nat → Nat
  | 0 => 0
  | k + 1 => if N 25 k = p then s_frames N p k + 1
    else s_frames N p k + 0
set_option maxHeartbeats 1000000 in
theorem c_Mod_framesAt (X : gCx) (l : Launch) (h nx : Nat) (N : tS) (p : Int32)  : gMi X l (HoldT X h nx) M_Mod_framesAt 0 0 0 [.ref h, .int p] N (nI (s_frames N p 10)) N := by
  refine gM_intro (by decide) (Nat.le_of_ble_eq_true rfl) (fun K hK => ?_)
  have key : ∀ (m k : Nat), 10 < k + m → k ≤ 10 → K 4 [(0, .ref h), (1, .int p), (2, .int (nI (s_frames N p k))), (3, .int (nI k))] [] N 0 0 := by
    intro m
    induction m with
    | zero => intro k h1 h2; exact absurd h1 (by omega)
    | succ m ih =>
      intro k h1 h2
      refine r_iload_n hK d_Mod_framesAt_4 rfl 3 rfl ?_
      refine r_bipush (v := nI 10) hK d_Mod_framesAt_5 (by decide) ?_
      refine r_ncmp_ge (a := k) (b := 10) (tgt := 34) hK d_Mod_framesAt_7 (by decide) (by omega) (by omega) (fun c7 => ?_) (fun c7 => ?_)
      · refine r_iload_n hK d_Mod_framesAt_34 rfl 2 rfl ?_
        refine r_iret hK d_Mod_framesAt_35 rfl (rfl) ?_
        have hkn : k = 10 := by omega
        subst hkn
        exact ⟨rfl, rfl⟩
      · refine r_iload_n hK d_Mod_framesAt_10 rfl 2 rfl ?_
        refine r_aload_n hK d_Mod_framesAt_11 rfl 0 rfl ?_
        refine w_home hK d_Mod_framesAt_12 rfl ?_
        refine r_iload_n hK d_Mod_framesAt_15 rfl 3 rfl ?_
        refine w_iald (n := 25) (L := 10) hK d_Mod_framesAt_16 (by decide) rfl rfl k rfl (by omega) (v := N 25 k) (rfl) ?_
        refine r_iload_n hK d_Mod_framesAt_17 rfl 1 rfl ?_
        refine r_icmp_ne (tgt := 25) hK d_Mod_framesAt_18 (by decide) (fun c18 => ?_) (fun c18 => ?_)
        · refine r_iconst (v := nI 0) hK d_Mod_framesAt_25 (by decide) ?_
          refine r_iadd hK d_Mod_framesAt_26 ?_
          refine r_tp (b := nI (s_frames N p k + 0)) (nI_add _ _) ?_
          refine r_istore_n (lv' := [(2, .int (nI (s_frames N p k + 0))), (0, .ref h), (1, .int p), (3, .int (nI k))]) hK d_Mod_framesAt_27 rfl (by decide) rfl ?_
          refine r_iinc (w := nI (k + 1)) (lv' := [(3, .int (nI (k + 1))), (2, .int (nI (s_frames N p k + 0))), (0, .ref h), (1, .int p)]) hK d_Mod_framesAt_28 3 rfl (nI_add _ 1) (by decide) rfl ?_
          refine r_goto (tgt := 4) hK d_Mod_framesAt_31 (by decide) ?_
          have e2 : s_frames N p (k + 1) = s_frames N p k + 0 := by rw [s_frames.eq_2]; rw [if_neg c18]
          have ih2 := ih (k + 1) (by omega) (by omega)
          rw [e2] at ih2
          exact r_loc hK [2, 3, 1, 0] rfl ih2
        · refine r_iconst (v := nI 1) hK d_Mod_framesAt_21 (by decide) ?_
          refine r_goto (tgt := 26) hK d_Mod_framesAt_22 (by decide) ?_
          refine r_iadd hK d_Mod_framesAt_26 ?_
          refine r_tp (b := nI (s_frames N p k + 1)) (nI_add _ _) ?_
          refine r_istore_n (lv' := [(2, .int (nI (s_frames N p k + 1))), (0, .ref h), (1, .int p), (3, .int (nI k))]) hK d_Mod_framesAt_27 rfl (by decide) rfl ?_
          refine r_iinc (w := nI (k + 1)) (lv' := [(3, .int (nI (k + 1))), (2, .int (nI (s_frames N p k + 1))), (0, .ref h), (1, .int p)]) hK d_Mod_framesAt_28 3 rfl (nI_add _ 1) (by decide) rfl ?_
          refine r_goto (tgt := 4) hK d_Mod_framesAt_31 (by decide) ?_
          have e2 : s_frames N p (k + 1) = s_frames N p k + 1 := by rw [s_frames.eq_2]; rw [if_pos c18]
          have ih2 := ih (k + 1) (by omega) (by omega)
          rw [e2] at ih2
          exact r_loc hK [2, 3, 1, 0] rfl ih2
  show K 0 [(0, .ref h), (1, .int p)] [] N 0 0
  refine r_iconst (v := nI 0) hK d_Mod_framesAt_0 (by decide) ?_
  refine r_istore_n (lv' := [(2, .int (nI 0)), (0, .ref h), (1, .int p)]) hK d_Mod_framesAt_1 rfl (by decide) rfl ?_
  refine r_iconst (v := nI 0) hK d_Mod_framesAt_2 (by decide) ?_
  refine r_istore_n (lv' := [(3, .int (nI 0)), (2, .int (nI 0)), (0, .ref h), (1, .int p)]) hK d_Mod_framesAt_3 rfl (by decide) rfl ?_
  exact r_loc hK [2, 3, 1, 0] rfl (key (10 + 1) 0 (by omega) (by omega))
