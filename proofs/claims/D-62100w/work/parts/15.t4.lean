def s_long (N : tS) (n : Nat) : Nat → Nat
  | 0 => 0
  | k + 1 => if s_len N (nI k) n ≤ s_len N (nI (s_long N n k)) n then s_long N n k
    else k
theorem s_long_1 (N : tS) (n : Nat) : s_long N n 1 = 0 := by
  rw [s_long.eq_2, s_long.eq_1]; exact ite_self _
theorem s_long_lt (N : tS) (n : Nat) : ∀ k, s_long N n k ≤ k - 1 := by
  intro k
  induction k with
  | zero => exact Nat.le_refl _
  | succ k ih => rw [s_long.eq_2]; split
                 all_goals omega
set_option maxHeartbeats 1000000 in
theorem c_Mod_longest (X : gCx) (l : Launch) (h nx : Nat) (N : tS)  (n : Nat) (hn : N 30 0 = nI n) (hn8 : n ≤ 8) : gMi X l (HoldT X h nx) M_Mod_longest 1 0 0 [.ref h] N (nI (s_long N n 4)) N := by
  refine gM_intro (by decide) (Nat.le_of_ble_eq_true rfl) (fun K hK => ?_)
  have key : ∀ (m k : Nat), 4 < k + m → k ≤ 4 → K 4 [(0, .ref h), (1, .int (nI (s_long N n k))), (2, .int (nI k))] [] N 0 0 := by
    intro m
    induction m with
    | zero => intro k h1 h2; exact absurd h1 (by omega)
    | succ m ih =>
      intro k h1 h2
      refine r_iload_n hK d_Mod_longest_4 rfl 2 rfl ?_
      refine r_iconst (v := nI 4) hK d_Mod_longest_5 (by decide) ?_
      refine r_ncmp_ge (a := k) (b := 4) (tgt := 34) hK d_Mod_longest_6 (by decide) (by omega) (by omega) (fun c6 => ?_) (fun c6 => ?_)
      · refine r_iload_n hK d_Mod_longest_34 rfl 1 rfl ?_
        refine r_iret hK d_Mod_longest_35 rfl (rfl) ?_
        have hkn : k = 4 := by omega
        subst hkn
        exact ⟨rfl, rfl⟩
      · refine r_aload_n hK d_Mod_longest_9 rfl 0 rfl ?_
        refine r_iload_n hK d_Mod_longest_10 rfl 2 rfl ?_
        refine r_callVi (As := [.int (nI k)]) (b := h) (st := []) hK (c_Mod_lengthOf X l h nx N (nI k) n hn hn8) d_Mod_longest_11 ml_Mod_132 cv_Mod_lengthOf rfl (by decide) w_recv (Nat.le_of_ble_eq_true rfl) ?_ rfl
        refine r_aload_n hK d_Mod_longest_14 rfl 0 rfl ?_
        refine r_iload_n hK d_Mod_longest_15 rfl 1 rfl ?_
        refine r_callVi (As := [.int (nI (s_long N n k))]) (b := h) (st := [.int (nI (s_len N (nI k) n))]) hK (c_Mod_lengthOf X l h nx N (nI (s_long N n k)) n hn hn8) d_Mod_longest_16 ml_Mod_132 cv_Mod_lengthOf rfl (by decide) w_recv (Nat.le_of_ble_eq_true rfl) ?_ rfl
        have b1 := s_len_le N (nI k) n
        have b2 := s_len_le N (nI (s_long N n k)) n
        refine r_ncmp_le (a := s_len N (nI k) n) (b := s_len N (nI (s_long N n k)) n) (tgt := 26) hK d_Mod_longest_19 (by decide) (by omega) (by omega) (fun c19 => ?_) (fun c19 => ?_)
        · refine r_iload_n hK d_Mod_longest_26 rfl 1 rfl ?_
          refine r_istore_n (lv' := [(1, .int (nI (s_long N n k))), (0, .ref h), (2, .int (nI k))]) hK d_Mod_longest_27 rfl (by decide) rfl ?_
          refine r_iinc (w := nI (k + 1)) (lv' := [(2, .int (nI (k + 1))), (1, .int (nI (s_long N n k))), (0, .ref h)]) hK d_Mod_longest_28 2 rfl (nI_add _ 1) (by decide) rfl ?_
          refine r_goto (tgt := 4) hK d_Mod_longest_31 (by decide) ?_
          have e1 : s_long N n (k + 1) = s_long N n k := by rw [s_long.eq_2]; rw [if_pos c19]
          have ih2 := ih (k + 1) (by omega) (by omega)
          rw [e1] at ih2
          exact r_loc hK [2, 1, 0] rfl ih2
        · refine r_iload_n hK d_Mod_longest_22 rfl 2 rfl ?_
          refine r_goto (tgt := 27) hK d_Mod_longest_23 (by decide) ?_
          refine r_istore_n (lv' := [(1, .int (nI k)), (0, .ref h), (2, .int (nI k))]) hK d_Mod_longest_27 rfl (by decide) rfl ?_
          refine r_iinc (w := nI (k + 1)) (lv' := [(2, .int (nI (k + 1))), (1, .int (nI k)), (0, .ref h)]) hK d_Mod_longest_28 2 rfl (nI_add _ 1) (by decide) rfl ?_
          refine r_goto (tgt := 4) hK d_Mod_longest_31 (by decide) ?_
          have e1 : s_long N n (k + 1) = k := by rw [s_long.eq_2]; rw [if_neg (Nat.not_le.mpr c19)]
          have ih2 := ih (k + 1) (by omega) (by omega)
          rw [e1] at ih2
          exact r_loc hK [2, 1, 0] rfl ih2
  show K 0 [(0, .ref h)] [] N 0 0
  refine r_iconst (v := nI 0) hK d_Mod_longest_0 (by decide) ?_
  refine r_istore_n (lv' := [(1, .int (nI 0)), (0, .ref h)]) hK d_Mod_longest_1 rfl (by decide) rfl ?_
  refine r_iconst (v := nI 1) hK d_Mod_longest_2 (by decide) ?_
  refine r_istore_n (lv' := [(2, .int (nI 1)), (1, .int (nI 0)), (0, .ref h)]) hK d_Mod_longest_3 rfl (by decide) rfl ?_
  have ky := key (4 + 1) 1 (by omega) (by omega)
  rw [s_long_1] at ky
  exact r_loc hK [2, 1, 0] rfl ky
def s_some (N : tS) (fs : Nat) : Nat → Nat
  | 0 => 0
  | k + 1 => if s_some N fs k = 0 then (if N 18 (fs + k) < 0 then 0
      else 1)
    else 1
theorem s_some_le (N : tS) (fs : Nat) : ∀ k, s_some N fs k ≤ 1 := by
  intro k
  induction k with
  | zero => exact Nat.zero_le _
  | succ k ih => rw [s_some.eq_2]; repeat' split
                 all_goals omega
set_option maxHeartbeats 1000000 in
theorem c_Mod_some (X : gCx) (l : Launch) (h nx : Nat) (N : tS) (k0 fs mn : Nat) (hk0 : k0 < 80) (hfs : N 3 k0 = nI fs) (hmn : N 4 k0 = nI mn) (hr : fs + mn ≤ 16) : gMi X l (HoldT X h nx) M_Mod_some 0 0 0 [.ref h, .int (nI k0)] N (nI (s_some N fs mn)) N := by
  refine gM_intro (by decide) (Nat.le_of_ble_eq_true rfl) (fun K hK => ?_)
  have key : ∀ (m k : Nat), mn < k + m → k ≤ mn → K 4 [(0, .ref h), (1, .int (nI k0)), (2, .int (nI (s_some N fs k))), (3, .int (nI k))] [] N 0 0 := by
    intro m
    induction m with
    | zero => intro k h1 h2; exact absurd h1 (by omega)
    | succ m ih =>
      intro k h1 h2
      refine r_iload_n hK d_Mod_some_4 rfl 3 rfl ?_
      refine r_aload_n hK d_Mod_some_5 rfl 0 rfl ?_
      refine w_many hK d_Mod_some_6 rfl ?_
      refine r_iload_n hK d_Mod_some_9 rfl 1 rfl ?_
      refine w_iald (n := 4) (L := 80) hK d_Mod_some_10 (by decide) rfl rfl k0 rfl (by omega) (v := nI mn) (hmn) ?_
      refine r_ncmp_ge (a := k) (b := mn) (tgt := 46) hK d_Mod_some_11 (by decide) (by omega) (by omega) (fun c11 => ?_) (fun c11 => ?_)
      · refine r_iload_n hK d_Mod_some_46 rfl 2 rfl ?_
        refine r_iret hK d_Mod_some_47 rfl (nb1 (s_some_le _ _ _)) ?_
        have hkn : k = mn := by omega
        subst hkn
        exact ⟨rfl, rfl⟩
      · refine r_iload_n hK d_Mod_some_14 rfl 2 rfl ?_
        have b1 := s_some_le N fs k
        refine r_nif_ne (a := s_some N fs k) (tgt := 34) hK d_Mod_some_15 (by decide) (by omega) (fun c15 => ?_) (fun c15 => ?_)
        · refine r_iconst (v := nI 1) hK d_Mod_some_34 (by decide) ?_
          refine r_goto (tgt := 39) hK d_Mod_some_35 (by decide) ?_
          refine r_istore_n (lv' := [(2, .int (nI 1)), (0, .ref h), (1, .int (nI k0)), (3, .int (nI k))]) hK d_Mod_some_39 rfl (by decide) rfl ?_
          refine r_iinc (w := nI (k + 1)) (lv' := [(3, .int (nI (k + 1))), (2, .int (nI 1)), (0, .ref h), (1, .int (nI k0))]) hK d_Mod_some_40 3 rfl (nI_add _ 1) (by decide) rfl ?_
          refine r_goto (tgt := 4) hK d_Mod_some_43 (by decide) ?_
          have e2 : s_some N fs (k + 1) = 1 := by rw [s_some.eq_2]; rw [if_neg c15]
          have ih2 := ih (k + 1) (by omega) (by omega)
          rw [e2] at ih2
          exact r_loc hK [2, 3, 1, 0] rfl ih2
        · refine r_aload_n hK d_Mod_some_18 rfl 0 rfl ?_
          refine w_frameOf hK d_Mod_some_19 rfl ?_
          refine r_aload_n hK d_Mod_some_22 rfl 0 rfl ?_
          refine w_first hK d_Mod_some_23 rfl ?_
          refine r_iload_n hK d_Mod_some_26 rfl 1 rfl ?_
          refine w_iald (n := 3) (L := 80) hK d_Mod_some_27 (by decide) rfl rfl k0 rfl (by omega) (v := nI fs) (hfs) ?_
          refine r_iload_n hK d_Mod_some_28 rfl 3 rfl ?_
          refine r_iadd hK d_Mod_some_29 ?_
          refine r_tp (b := nI (fs + k)) (nI_add _ _) ?_
          refine w_iald (n := 18) (L := 16) hK d_Mod_some_30 (by decide) rfl rfl (fs + k) rfl (by omega) (v := N 18 (fs + k)) (rfl) ?_
          refine r_if_lt (tgt := 38) hK d_Mod_some_31 (by decide) (fun c31 => ?_) (fun c31 => ?_)
          · refine r_iconst (v := nI 0) hK d_Mod_some_38 (by decide) ?_
            refine r_istore_n (lv' := [(2, .int (nI 0)), (0, .ref h), (1, .int (nI k0)), (3, .int (nI k))]) hK d_Mod_some_39 rfl (by decide) rfl ?_
            refine r_iinc (w := nI (k + 1)) (lv' := [(3, .int (nI (k + 1))), (2, .int (nI 0)), (0, .ref h), (1, .int (nI k0))]) hK d_Mod_some_40 3 rfl (nI_add _ 1) (by decide) rfl ?_
            refine r_goto (tgt := 4) hK d_Mod_some_43 (by decide) ?_
            have e2 : s_some N fs (k + 1) = 0 := by rw [s_some.eq_2]; rw [if_pos c15, if_pos c31]
            have ih2 := ih (k + 1) (by omega) (by omega)
            rw [e2] at ih2
            exact r_loc hK [2, 3, 1, 0] rfl ih2
          · refine r_iconst (v := nI 1) hK d_Mod_some_34 (by decide) ?_
            refine r_goto (tgt := 39) hK d_Mod_some_35 (by decide) ?_
            refine r_istore_n (lv' := [(2, .int (nI 1)), (0, .ref h), (1, .int (nI k0)), (3, .int (nI k))]) hK d_Mod_some_39 rfl (by decide) rfl ?_
            refine r_iinc (w := nI (k + 1)) (lv' := [(3, .int (nI (k + 1))), (2, .int (nI 1)), (0, .ref h), (1, .int (nI k0))]) hK d_Mod_some_40 3 rfl (nI_add _ 1) (by decide) rfl ?_
            refine r_goto (tgt := 4) hK d_Mod_some_43 (by decide) ?_
            have e2 : s_some N fs (k + 1) = 1 := by rw [s_some.eq_2]; rw [if_pos c15, if_neg c31]
            have ih2 := ih (k + 1) (by omega) (by omega)
            rw [e2] at ih2
            exact r_loc hK [2, 3, 1, 0] rfl ih2
  show K 0 [(0, .ref h), (1, .int (nI k0))] [] N 0 0
  refine r_iconst (v := nI 0) hK d_Mod_some_0 (by decide) ?_
  refine r_istore_n (lv' := [(2, .int (nI 0)), (0, .ref h), (1, .int (nI k0))]) hK d_Mod_some_1 rfl (by decide) rfl ?_
  refine r_iconst (v := nI 0) hK d_Mod_some_2 (by decide) ?_
  refine r_istore_n (lv' := [(3, .int (nI 0)), (2, .int (nI 0)), (0, .ref h), (1, .int (nI k0))]) hK d_Mod_some_3 rfl (by decide) rfl ?_
  have ky := key (mn + 1) 0 (by omega) (by omega)
  exact r_loc hK [2, 3, 1, 0] rfl ky
def s_fr1 (N : tS) (p : Int32) : Nat → Nat
  | 0 => 0
  | k + 1 => if N 25 k = p then (if s_fr1 N p k = 0 then k + 1
      else if N 26 k ≤ N 26 (s_fr1 N p k - 1) then s_fr1 N p k
        else k + 1)
    else s_fr1 N p k
def s_fr2 (N : tS) : Nat → Nat
  | 0 => 0
  | k + 1 => if N 25 k = nI 4 then (if s_fr2 N k = 0 then k + 1
      else if N 26 (s_fr2 N k - 1) ≤ N 26 k then s_fr2 N k
        else k + 1)
    else s_fr2 N k
theorem s_fr1_le (N : tS) (p : Int32) : ∀ k, s_fr1 N p k ≤ k := by
  intro k
  induction k with
  | zero => exact Nat.le_refl _
  | succ k ih => rw [s_fr1.eq_2]; repeat' split
                 all_goals omega
theorem s_fr2_le (N : tS) : ∀ k, s_fr2 N k ≤ k := by
  intro k
  induction k with
  | zero => exact Nat.le_refl _
  | succ k ih => rw [s_fr2.eq_2]; repeat' split
                 all_goals omega
/-- the frame that is taken next, by its code -/
def s_frame (N : tS) (p : Int32) : Nat := if s_fr1 N p 10 = 0 then s_fr2 N 10 else s_fr1 N p 10
theorem s_frame_le (N : tS) (p : Int32) : s_frame N p ≤ 10 := by
  unfold s_frame; split
  · exact s_fr2_le N 10
  · exact s_fr1_le N p 10
set_option maxHeartbeats 1000000 in
theorem c_Mod_frameFor (X : gCx) (l : Launch) (h nx : Nat) (N : tS) (p : Int32) : gMi X l (HoldT X h nx) M_Mod_frameFor 0 0 0 [.ref h, .int p] N (dI (s_frame N p)) N := by
  refine gM_intro (by decide) (Nat.le_of_ble_eq_true rfl) (fun K hK => ?_)
  have key2 : s_fr1 N p 10 = 0 → ∀ (m k : Nat), 10 < k + m → k ≤ 10 → K 59 [(0, .ref h), (1, .int p), (2, .int (dI (s_fr2 N k))), (3, .int (nI k))] [] N 0 0 := by
    intro hz m
    induction m with
    | zero => intro k h1 h2; exact absurd h1 (by omega)
    | succ m ih =>
      intro k h1 h2
      refine r_iload_n hK d_Mod_frameFor_59 rfl 3 rfl ?_
      refine r_bipush (v := nI 10) hK d_Mod_frameFor_60 (by decide) ?_
      refine r_ncmp_ge (a := k) (b := 10) (tgt := 106) hK d_Mod_frameFor_62 (by decide) (by omega) (by omega) (fun c62 => ?_) (fun c62 => ?_)
      · refine r_iload_n hK d_Mod_frameFor_106 rfl 2 rfl ?_
        refine r_iret hK d_Mod_frameFor_107 rfl (rfl) ?_
        have hkn : k = 10 := by omega
        subst hkn
        have hs : s_frame N p = s_fr2 N 10 := by unfold s_frame; rw [if_pos hz]
        exact ⟨by rw [hs], rfl⟩
      · refine r_aload_n hK d_Mod_frameFor_65 rfl 0 rfl ?_
        refine w_home hK d_Mod_frameFor_66 rfl ?_
        refine r_iload_n hK d_Mod_frameFor_69 rfl 3 rfl ?_
        refine w_iald (n := 25) (L := 10) hK d_Mod_frameFor_70 (by decide) rfl rfl k rfl (by omega) (v := N 25 k) (rfl) ?_
        refine r_iconst (v := nI 4) hK d_Mod_frameFor_71 (by decide) ?_
        refine r_icmp_ne (tgt := 98) hK d_Mod_frameFor_72 (by decide) (fun c72 => ?_) (fun c72 => ?_)
        · refine r_iload_n hK d_Mod_frameFor_98 rfl 2 rfl ?_
          refine r_istore_n (lv' := [(2, .int (dI (s_fr2 N k))), (0, .ref h), (1, .int p), (3, .int (nI k))]) hK d_Mod_frameFor_99 rfl (by decide) rfl ?_
          refine r_iinc (w := nI (k + 1)) (lv' := [(3, .int (nI (k + 1))), (2, .int (dI (s_fr2 N k))), (0, .ref h), (1, .int p)]) hK d_Mod_frameFor_100 3 rfl (nI_add _ 1) (by decide) rfl ?_
          refine r_goto (tgt := 59) hK d_Mod_frameFor_103 (by decide) ?_
          have e2 : s_fr2 N (k + 1) = s_fr2 N k := by rw [s_fr2.eq_2]; rw [if_neg c72]
          have ih2 := ih (k + 1) (by omega) (by omega)
          rw [e2] at ih2
          exact r_loc hK [2, 3, 1, 0] rfl ih2
        · have b1 := s_fr2_le N k
          refine r_iload_n hK d_Mod_frameFor_75 rfl 2 rfl ?_
          refine r_dif_lt (c := s_fr2 N k) (tgt := 94) hK d_Mod_frameFor_76 (by decide) (by omega) (fun c76 => ?_) (fun c76 => ?_)
          · refine r_iload_n hK d_Mod_frameFor_94 rfl 3 rfl ?_
            refine r_goto (tgt := 99) hK d_Mod_frameFor_95 (by decide) ?_
            refine r_istore_n (lv' := [(2, .int (nI k)), (0, .ref h), (1, .int p), (3, .int (nI k))]) hK d_Mod_frameFor_99 rfl (by decide) rfl ?_
            refine r_iinc (w := nI (k + 1)) (lv' := [(3, .int (nI (k + 1))), (2, .int (nI k)), (0, .ref h), (1, .int p)]) hK d_Mod_frameFor_100 3 rfl (nI_add _ 1) (by decide) rfl ?_
            refine r_goto (tgt := 59) hK d_Mod_frameFor_103 (by decide) ?_
            have e2 : s_fr2 N (k + 1) = k + 1 := by rw [s_fr2.eq_2]; rw [if_pos c72, if_pos c76]
            have ih2 := ih (k + 1) (by omega) (by omega)
            rw [e2] at ih2
            exact r_loc hK [2, 3, 1, 0] rfl ih2
          · refine r_aload_n hK d_Mod_frameFor_79 rfl 0 rfl ?_
            refine w_laid hK d_Mod_frameFor_80 rfl ?_
            refine r_iload_n hK d_Mod_frameFor_83 rfl 3 rfl ?_
            refine w_iald (n := 26) (L := 10) hK d_Mod_frameFor_84 (by decide) rfl rfl k rfl (by omega) (v := N 26 k) (rfl) ?_
            refine r_aload_n hK d_Mod_frameFor_85 rfl 0 rfl ?_
            refine w_laid hK d_Mod_frameFor_86 rfl ?_
            refine r_iload_n hK d_Mod_frameFor_89 rfl 2 rfl ?_
            refine r_tp (b := nI (s_fr2 N k - 1)) (dI_ne c76) ?_
            refine w_iald (n := 26) (L := 10) hK d_Mod_frameFor_90 (by decide) rfl rfl (s_fr2 N k - 1) rfl (by omega) (v := N 26 (s_fr2 N k - 1)) (rfl) ?_
            refine r_icmp_ge (tgt := 98) hK d_Mod_frameFor_91 (by decide) (fun c91 => ?_) (fun c91 => ?_)
            · refine r_iload_n hK d_Mod_frameFor_98 rfl 2 rfl ?_
              refine r_istore_n (lv' := [(2, .int (dI (s_fr2 N k))), (0, .ref h), (1, .int p), (3, .int (nI k))]) hK d_Mod_frameFor_99 rfl (by decide) rfl ?_
              refine r_iinc (w := nI (k + 1)) (lv' := [(3, .int (nI (k + 1))), (2, .int (dI (s_fr2 N k))), (0, .ref h), (1, .int p)]) hK d_Mod_frameFor_100 3 rfl (nI_add _ 1) (by decide) rfl ?_
              refine r_goto (tgt := 59) hK d_Mod_frameFor_103 (by decide) ?_
              have e2 : s_fr2 N (k + 1) = s_fr2 N k := by rw [s_fr2.eq_2]; rw [if_pos c72, if_neg c76, if_pos c91]
              have ih2 := ih (k + 1) (by omega) (by omega)
              rw [e2] at ih2
              exact r_loc hK [2, 3, 1, 0] rfl ih2
            · refine r_iload_n hK d_Mod_frameFor_94 rfl 3 rfl ?_
              refine r_goto (tgt := 99) hK d_Mod_frameFor_95 (by decide) ?_
              refine r_istore_n (lv' := [(2, .int (nI k)), (0, .ref h), (1, .int p), (3, .int (nI k))]) hK d_Mod_frameFor_99 rfl (by decide) rfl ?_
              refine r_iinc (w := nI (k + 1)) (lv' := [(3, .int (nI (k + 1))), (2, .int (nI k)), (0, .ref h), (1, .int p)]) hK d_Mod_frameFor_100 3 rfl (nI_add _ 1) (by decide) rfl ?_
              refine r_goto (tgt := 59) hK d_Mod_frameFor_103 (by decide) ?_
              have e2 : s_fr2 N (k + 1) = k + 1 := by rw [s_fr2.eq_2]; rw [if_pos c72, if_neg c76, if_neg c91]
              have ih2 := ih (k + 1) (by omega) (by omega)
              rw [e2] at ih2
              exact r_loc hK [2, 3, 1, 0] rfl ih2
  have key : ∀ (m k : Nat), 10 < k + m → k ≤ 10 → K 4 [(0, .ref h), (1, .int p), (2, .int (dI (s_fr1 N p k))), (3, .int (nI k))] [] N 0 0 := by
    intro m
    induction m with
    | zero => intro k h1 h2; exact absurd h1 (by omega)
    | succ m ih =>
      intro k h1 h2
      refine r_iload_n hK d_Mod_frameFor_4 rfl 3 rfl ?_
      refine r_bipush (v := nI 10) hK d_Mod_frameFor_5 (by decide) ?_
      refine r_ncmp_ge (a := k) (b := 10) (tgt := 51) hK d_Mod_frameFor_7 (by decide) (by omega) (by omega) (fun c7 => ?_) (fun c7 => ?_)
      · refine r_iload_n hK d_Mod_frameFor_51 rfl 2 rfl ?_
        have b1 := s_fr1_le N p k
        refine r_dif_lt (c := s_fr1 N p k) (tgt := 57) hK d_Mod_frameFor_52 (by decide) (by omega) (fun c52 => ?_) (fun c52 => ?_)
        · refine r_iconst (v := nI 0) hK d_Mod_frameFor_57 (by decide) ?_
          refine r_istore_n (lv' := [(3, .int (nI 0)), (0, .ref h), (1, .int p), (2, .int (dI (s_fr1 N p k)))]) hK d_Mod_frameFor_58 rfl (by decide) rfl ?_
          have hkn : k = 10 := by omega
          subst hkn
          have ky := key2 c52 11 0 (by omega) (by omega)
          refine r_loc hK [1, 2, 3, 0] (lv' := [(0, .ref h), (1, .int p), (2, .int (dI (s_fr1 N p 10))), (3, .int (nI 0))]) rfl ?_
          rw [c52]
          exact ky
        · refine r_iload_n hK d_Mod_frameFor_55 rfl 2 rfl ?_
          refine r_iret hK d_Mod_frameFor_56 rfl (rfl) ?_
          have hkn : k = 10 := by omega
          subst hkn
          have hs : s_frame N p = s_fr1 N p 10 := by unfold s_frame; rw [if_neg c52]
          exact ⟨by rw [hs], rfl⟩
      · refine r_aload_n hK d_Mod_frameFor_10 rfl 0 rfl ?_
        refine w_home hK d_Mod_frameFor_11 rfl ?_
        refine r_iload_n hK d_Mod_frameFor_14 rfl 3 rfl ?_
        refine w_iald (n := 25) (L := 10) hK d_Mod_frameFor_15 (by decide) rfl rfl k rfl (by omega) (v := N 25 k) (rfl) ?_
        refine r_iload_n hK d_Mod_frameFor_16 rfl 1 rfl ?_
        refine r_icmp_ne (tgt := 43) hK d_Mod_frameFor_17 (by decide) (fun c17 => ?_) (fun c17 => ?_)
        · refine r_iload_n hK d_Mod_frameFor_43 rfl 2 rfl ?_
          refine r_istore_n (lv' := [(2, .int (dI (s_fr1 N p k))), (0, .ref h), (1, .int p), (3, .int (nI k))]) hK d_Mod_frameFor_44 rfl (by decide) rfl ?_
          refine r_iinc (w := nI (k + 1)) (lv' := [(3, .int (nI (k + 1))), (2, .int (dI (s_fr1 N p k))), (0, .ref h), (1, .int p)]) hK d_Mod_frameFor_45 3 rfl (nI_add _ 1) (by decide) rfl ?_
          refine r_goto (tgt := 4) hK d_Mod_frameFor_48 (by decide) ?_
          have e2 : s_fr1 N p (k + 1) = s_fr1 N p k := by rw [s_fr1.eq_2]; rw [if_neg c17]
          have ih2 := ih (k + 1) (by omega) (by omega)
          rw [e2] at ih2
          exact r_loc hK [2, 3, 1, 0] rfl ih2
        · have b1 := s_fr1_le N p k
          refine r_iload_n hK d_Mod_frameFor_20 rfl 2 rfl ?_
          refine r_dif_lt (c := s_fr1 N p k) (tgt := 39) hK d_Mod_frameFor_21 (by decide) (by omega) (fun c21 => ?_) (fun c21 => ?_)
          · refine r_iload_n hK d_Mod_frameFor_39 rfl 3 rfl ?_
            refine r_goto (tgt := 44) hK d_Mod_frameFor_40 (by decide) ?_
            refine r_istore_n (lv' := [(2, .int (nI k)), (0, .ref h), (1, .int p), (3, .int (nI k))]) hK d_Mod_frameFor_44 rfl (by decide) rfl ?_
            refine r_iinc (w := nI (k + 1)) (lv' := [(3, .int (nI (k + 1))), (2, .int (nI k)), (0, .ref h), (1, .int p)]) hK d_Mod_frameFor_45 3 rfl (nI_add _ 1) (by decide) rfl ?_
            refine r_goto (tgt := 4) hK d_Mod_frameFor_48 (by decide) ?_
            have e2 : s_fr1 N p (k + 1) = k + 1 := by rw [s_fr1.eq_2]; rw [if_pos c17, if_pos c21]
            have ih2 := ih (k + 1) (by omega) (by omega)
            rw [e2] at ih2
            exact r_loc hK [2, 3, 1, 0] rfl ih2
          · refine r_aload_n hK d_Mod_frameFor_24 rfl 0 rfl ?_
            refine w_laid hK d_Mod_frameFor_25 rfl ?_
            refine r_iload_n hK d_Mod_frameFor_28 rfl 3 rfl ?_
            refine w_iald (n := 26) (L := 10) hK d_Mod_frameFor_29 (by decide) rfl rfl k rfl (by omega) (v := N 26 k) (rfl) ?_
            refine r_aload_n hK d_Mod_frameFor_30 rfl 0 rfl ?_
            refine w_laid hK d_Mod_frameFor_31 rfl ?_
            refine r_iload_n hK d_Mod_frameFor_34 rfl 2 rfl ?_
            refine r_tp (b := nI (s_fr1 N p k - 1)) (dI_ne c21) ?_
            refine w_iald (n := 26) (L := 10) hK d_Mod_frameFor_35 (by decide) rfl rfl (s_fr1 N p k - 1) rfl (by omega) (v := N 26 (s_fr1 N p k - 1)) (rfl) ?_
            refine r_icmp_le (tgt := 43) hK d_Mod_frameFor_36 (by decide) (fun c36 => ?_) (fun c36 => ?_)
            · refine r_iload_n hK d_Mod_frameFor_43 rfl 2 rfl ?_
              refine r_istore_n (lv' := [(2, .int (dI (s_fr1 N p k))), (0, .ref h), (1, .int p), (3, .int (nI k))]) hK d_Mod_frameFor_44 rfl (by decide) rfl ?_
              refine r_iinc (w := nI (k + 1)) (lv' := [(3, .int (nI (k + 1))), (2, .int (dI (s_fr1 N p k))), (0, .ref h), (1, .int p)]) hK d_Mod_frameFor_45 3 rfl (nI_add _ 1) (by decide) rfl ?_
              refine r_goto (tgt := 4) hK d_Mod_frameFor_48 (by decide) ?_
              have e2 : s_fr1 N p (k + 1) = s_fr1 N p k := by rw [s_fr1.eq_2]; rw [if_pos c17, if_neg c21, if_pos c36]
              have ih2 := ih (k + 1) (by omega) (by omega)
              rw [e2] at ih2
              exact r_loc hK [2, 3, 1, 0] rfl ih2
            · refine r_iload_n hK d_Mod_frameFor_39 rfl 3 rfl ?_
              refine r_goto (tgt := 44) hK d_Mod_frameFor_40 (by decide) ?_
              refine r_istore_n (lv' := [(2, .int (nI k)), (0, .ref h), (1, .int p), (3, .int (nI k))]) hK d_Mod_frameFor_44 rfl (by decide) rfl ?_
              refine r_iinc (w := nI (k + 1)) (lv' := [(3, .int (nI (k + 1))), (2, .int (nI k)), (0, .ref h), (1, .int p)]) hK d_Mod_frameFor_45 3 rfl (nI_add _ 1) (by decide) rfl ?_
              refine r_goto (tgt := 4) hK d_Mod_frameFor_48 (by decide) ?_
              have e2 : s_fr1 N p (k + 1) = k + 1 := by rw [s_fr1.eq_2]; rw [if_pos c17, if_neg c21, if_neg c36]
              have ih2 := ih (k + 1) (by omega) (by omega)
              rw [e2] at ih2
              exact r_loc hK [2, 3, 1, 0] rfl ih2
  show K 0 [(0, .ref h), (1, .int p)] [] N 0 0
  refine r_iconst (v := -1) hK d_Mod_frameFor_0 (by decide) ?_
  refine r_istore_n (lv' := [(2, .int (-1)), (0, .ref h), (1, .int p)]) hK d_Mod_frameFor_1 rfl (by decide) rfl ?_
  refine r_iconst (v := nI 0) hK d_Mod_frameFor_2 (by decide) ?_
  refine r_istore_n (lv' := [(3, .int (nI 0)), (2, .int (-1)), (0, .ref h), (1, .int p)]) hK d_Mod_frameFor_3 rfl (by decide) rfl ?_
  exact r_loc hK [2, 3, 1, 0] rfl (key 11 0 (by omega) (by omega))
/-- the pages b, b+1 .. are no longer known -/
def s_forget (N : tS) (b : Nat) : Nat → tS
  | 0 => N
  | k + 1 => tset (s_forget N b k) 22 (b + k) (nI 0)
theorem s_forget_nk (N : tS) (b : Nat) {a j : Nat} (h : a ≠ 22) : ∀ k, s_forget N b k a j = N a j := by
  intro k
  induction k with
  | zero => rfl
  | succ k ih => rw [s_forget.eq_2, tset_nk _ _ h]; exact ih
set_option maxHeartbeats 1000000 in
theorem c_Mod_forget (X : gCx) (l : Launch) (h nx : Nat) (N : tS) (p t dd fs mn : Nat) (hp : p < 4) (ht : t < 8) (hdd : N 1 t = nI dd) (h80 : 10 * t + dd < 80) (hfs : N 3 (10 * t + dd) = nI fs) (hmn : N 4 (10 * t + dd) = nI mn) (hr : fs + mn ≤ 16) : gMv X l (HoldT X h nx) M_Mod_forget 0 0 0 [.ref h, .int (nI p), .int (nI t)] N (s_forget N (16 * p + fs) mn) := by
  refine gM_intro (by decide) (Nat.le_of_ble_eq_true rfl) (fun K hK => ?_)
  have key : ∀ (m q : Nat), mn < q + m → q ≤ mn → K 15 [(0, .ref h), (1, .int (nI p)), (2, .int (nI t)), (3, .int (nI (10 * t + dd))), (4, .int (nI q))] [] (s_forget N (16 * p + fs) q) 0 0 := by
    intro m
    induction m with
    | zero => intro q h1 h2; exact absurd h1 (by omega)
    | succ m ih =>
      intro q h1 h2
      refine r_iload hK d_Mod_forget_15 4 rfl ?_
      refine r_aload_n hK d_Mod_forget_17 rfl 0 rfl ?_
      refine w_many hK d_Mod_forget_18 rfl ?_
      refine r_iload_n hK d_Mod_forget_21 rfl 3 rfl ?_
      refine w_iald (n := 4) (L := 80) hK d_Mod_forget_22 (by decide) rfl rfl (10 * t + dd) rfl (by omega) (v := nI mn) (by rw [s_forget_nk N (16 * p + fs) (by decide) q, hmn]) ?_
      refine r_ncmp_ge (a := q) (b := mn) (tgt := 52) hK d_Mod_forget_23 (by decide) (by omega) (by omega) (fun c23 => ?_) (fun c23 => ?_)
      · refine r_vret hK d_Mod_forget_52 rfl ?_
        have hkn : q = mn := by omega
        subst hkn
        exact ⟨rfl, rfl⟩
      · refine r_aload_n hK d_Mod_forget_26 rfl 0 rfl ?_
        refine w_known hK d_Mod_forget_27 rfl ?_
        refine r_bipush (v := nI 16) hK d_Mod_forget_30 (by decide) ?_
        refine r_iload_n hK d_Mod_forget_32 rfl 1 rfl ?_
        refine r_imul hK d_Mod_forget_33 ?_
        refine r_tp (b := nI (16 * p)) (pk_mul _ _) ?_
        refine r_aload_n hK d_Mod_forget_34 rfl 0 rfl ?_
        refine w_first hK d_Mod_forget_35 rfl ?_
        refine r_iload_n hK d_Mod_forget_38 rfl 3 rfl ?_
        refine w_iald (n := 3) (L := 80) hK d_Mod_forget_39 (by decide) rfl rfl (10 * t + dd) rfl (by omega) (v := nI fs) (by rw [s_forget_nk N (16 * p + fs) (by decide) q, hfs]) ?_
        refine r_iadd hK d_Mod_forget_40 ?_
        refine r_tp (b := nI (16 * p + fs)) (nI_add _ _) ?_
        refine r_iload hK d_Mod_forget_41 4 rfl ?_
        refine r_iadd hK d_Mod_forget_43 ?_
        refine r_tp (b := nI (16 * p + fs + q)) (nI_add _ _) ?_
        refine r_iconst (v := nI 0) hK d_Mod_forget_44 (by decide) ?_
        refine w_iast (n := 22) (L := 64) hK d_Mod_forget_45 (by decide) rfl rfl (16 * p + fs + q) rfl (by omega) ?_
        refine r_iinc (w := nI (q + 1)) (lv' := [(4, .int (nI (q + 1))), (0, .ref h), (1, .int (nI p)), (2, .int (nI t)), (3, .int (nI (10 * t + dd)))]) hK d_Mod_forget_46 4 rfl (nI_add _ 1) (by decide) rfl ?_
        refine r_goto (tgt := 15) hK d_Mod_forget_49 (by decide) ?_
        have ih2 := ih (q + 1) (by omega) (by omega)
        exact r_loc hK [1, 2, 3, 4, 0] rfl ih2
  show K 0 [(0, .ref h), (1, .int (nI p)), (2, .int (nI t))] [] N 0 0
  refine r_bipush (v := nI 10) hK d_Mod_forget_0 (by decide) ?_
  refine r_iload_n hK d_Mod_forget_2 rfl 2 rfl ?_
  refine r_imul hK d_Mod_forget_3 ?_
  refine r_tp (b := nI (10 * t)) (pk_mul _ _) ?_
  refine r_aload_n hK d_Mod_forget_4 rfl 0 rfl ?_
  refine w_done hK d_Mod_forget_5 rfl ?_
  refine r_iload_n hK d_Mod_forget_8 rfl 2 rfl ?_
  refine w_iald (n := 1) (L := 8) hK d_Mod_forget_9 (by decide) rfl rfl t rfl (by omega) (v := nI dd) (hdd) ?_
  refine r_iadd hK d_Mod_forget_10 ?_
  refine r_tp (b := nI (10 * t + dd)) (nI_add _ _) ?_
  refine r_istore_n (lv' := [(3, .int (nI (10 * t + dd))), (0, .ref h), (1, .int (nI p)), (2, .int (nI t))]) hK d_Mod_forget_11 rfl (by decide) rfl ?_
  refine r_iconst (v := nI 0) hK d_Mod_forget_12 (by decide) ?_
  refine r_istore (lv' := [(4, .int (nI 0)), (3, .int (nI (10 * t + dd))), (0, .ref h), (1, .int (nI p)), (2, .int (nI t))]) hK d_Mod_forget_13 (by decide) rfl ?_
  exact r_loc hK [2, 3, 4, 1, 0] rfl (key (mn + 1) 0 (by omega) (by omega))
def s_kn (N : tS) (p : Nat) : Nat → Nat
  | 0 => 0
  | k + 1 => if N 22 (16 * p + k) ≤ 0 then s_kn N p k else s_kn N p k + 1
def s_ke (N : tS) (p : Nat) : Nat → Nat
  | 0 => 0
  | k + 1 => if N 22 (16 * p + k) ≤ 0 then s_ke N p k
    else if s_ke N p k = 0 then 16 * p + k + 1
      else if N 22 (s_ke N p k - 1) ≤ N 22 (16 * p + k) then s_ke N p k
        else 16 * p + k + 1
theorem s_kn_le (N : tS) (p : Nat) : ∀ k, s_kn N p k ≤ k := by
  intro k
  induction k with
  | zero => exact Nat.le_refl _
  | succ k ih => rw [s_kn.eq_2]; split
                 all_goals omega
theorem s_ke_le (N : tS) (p : Nat) : ∀ k, s_ke N p k ≤ 16 * p + k := by
  intro k
  induction k with
  | zero => exact Nat.zero_le _
  | succ k ih => rw [s_ke.eq_2]; repeat' split
                 all_goals omega
theorem s_ke_ne (N : tS) (p : Nat) : ∀ k, s_kn N p k ≠ 0 → s_ke N p k ≠ 0 := by
  intro k
  induction k with
  | zero => intro h; exact absurd rfl h
  | succ k ih =>
    intro h
    rw [s_kn.eq_2] at h
    rw [s_ke.eq_2]
    split
    · rename_i c; rw [if_pos c] at h; exact ih h
    · split
      · omega
      · split
        all_goals omega
def s_know (N : tS) (p pg : Nat) (c : Int32) : tS :=
  if s_kn N p 16 = 3 then tset (tset (tset (tset (tset N 22 (s_ke N p 16 - 1) (nI 0)) 31 0 (c + nI 1)) 22 (16 * p + pg) (c + nI 1)) 23 (16 * p + pg) (N 18 pg)) 24 (16 * p + pg) (N 19 pg)
  else tset (tset (tset (tset N 31 0 (c + nI 1)) 22 (16 * p + pg) (c + nI 1)) 23 (16 * p + pg) (N 18 pg)) 24 (16 * p + pg) (N 19 pg)
set_option maxHeartbeats 1000000 in
theorem c_Mod_know (X : gCx) (l : Launch) (h nx : Nat) (N : tS) (p pg : Nat) (c : Int32) (hp : p < 4) (hpg : pg < 16) (hc : N 31 0 = c) (hwb : narrow .boolean (.int (N 19 pg)) = .int (N 19 pg)) : gMv X l (HoldT X h nx) M_Mod_know 1 0 0 [.ref h, .int (nI p), .int (nI pg)] N (s_know N p pg c) := by
  refine gM_intro (by decide) (Nat.le_of_ble_eq_true rfl) (fun K hK => ?_)
  have key : ∀ (m k : Nat), 16 < k + m → k ≤ 16 → K 11 [(0, .ref h), (1, .int (nI p)), (2, .int (nI pg)), (3, .int (nI (s_kn N p k))), (4, .int (dI (s_ke N p k))), (5, .int (nI (16 * p + k)))] [] N 0 0 := by
    intro m
    induction m with
    | zero => intro k h1 h2; exact absurd h1 (by omega)
    | succ m ih =>
      intro k h1 h2
      refine r_iload hK d_Mod_know_11 5 rfl ?_
      refine r_bipush (v := nI 16) hK d_Mod_know_13 (by decide) ?_
      refine r_iload_n hK d_Mod_know_15 rfl 1 rfl ?_
      refine r_imul hK d_Mod_know_16 ?_
      refine r_tp (b := nI (16 * p)) (pk_mul _ _) ?_
      refine r_bipush (v := nI 16) hK d_Mod_know_17 (by decide) ?_
      refine r_iadd hK d_Mod_know_19 ?_
      refine r_tp (b := nI (16 * p + 16)) (nI_add _ _) ?_
      refine r_ncmp_ge (a := 16 * p + k) (b := 16 * p + 16) (tgt := 73) hK d_Mod_know_20 (by decide) (by omega) (by omega) (fun c20 => ?_) (fun c20 => ?_)
      · have hkn : k = 16 := by omega
        subst hkn
        refine r_iload_n hK d_Mod_know_73 rfl 3 rfl ?_
        have b2 := s_kn_le N p 16
        refine r_iconst (v := nI 3) hK d_Mod_know_74 (by decide) ?_
        refine r_ncmp_ne (a := s_kn N p 16) (b := 3) (tgt := 86) hK d_Mod_know_75 (by decide) (by omega) (by omega) (fun c75 => ?_) (fun c75 => ?_)
        · refine r_aload_n hK d_Mod_know_86 rfl 0 rfl ?_
          refine w_known hK d_Mod_know_87 rfl ?_
          refine r_bipush (v := nI 16) hK d_Mod_know_90 (by decide) ?_
          refine r_iload_n hK d_Mod_know_92 rfl 1 rfl ?_
          refine r_imul hK d_Mod_know_93 ?_
          refine r_tp (b := nI (16 * p)) (pk_mul _ _) ?_
          refine r_iload_n hK d_Mod_know_94 rfl 2 rfl ?_
          refine r_iadd hK d_Mod_know_95 ?_
          refine r_tp (b := nI (16 * p + pg)) (nI_add _ _) ?_
          refine r_aload_n hK d_Mod_know_96 rfl 0 rfl ?_
          refine r_callVi (As := []) (b := h) (st := [.int (nI (16 * p + pg)), .ref (h + 1 + 22)]) hK (c_Mod_tick X l h nx N c (hc)) d_Mod_know_97 ml_Mod_109 cv_Mod_tick rfl (by decide) w_recv (Nat.le_of_ble_eq_true rfl) ?_ rfl
          refine w_iast (n := 22) (L := 64) hK d_Mod_know_100 (by decide) rfl rfl (16 * p + pg) rfl (by omega) ?_
          refine r_aload_n hK d_Mod_know_101 rfl 0 rfl ?_
          refine w_knownFrame hK d_Mod_know_102 rfl ?_
          refine r_bipush (v := nI 16) hK d_Mod_know_105 (by decide) ?_
          refine r_iload_n hK d_Mod_know_107 rfl 1 rfl ?_
          refine r_imul hK d_Mod_know_108 ?_
          refine r_tp (b := nI (16 * p)) (pk_mul _ _) ?_
          refine r_iload_n hK d_Mod_know_109 rfl 2 rfl ?_
          refine r_iadd hK d_Mod_know_110 ?_
          refine r_tp (b := nI (16 * p + pg)) (nI_add _ _) ?_
          refine r_aload_n hK d_Mod_know_111 rfl 0 rfl ?_
          refine w_frameOf hK d_Mod_know_112 rfl ?_
          refine r_iload_n hK d_Mod_know_115 rfl 2 rfl ?_
          refine w_iald (n := 18) (L := 16) hK d_Mod_know_116 (by decide) rfl rfl pg rfl (by omega) (v := N 18 pg) (by simp [tset]) ?_
          refine w_iast (n := 23) (L := 64) hK d_Mod_know_117 (by decide) rfl rfl (16 * p + pg) rfl (by omega) ?_
          refine r_aload_n hK d_Mod_know_118 rfl 0 rfl ?_
          refine w_knownWritable hK d_Mod_know_119 rfl ?_
          refine r_bipush (v := nI 16) hK d_Mod_know_122 (by decide) ?_
          refine r_iload_n hK d_Mod_know_124 rfl 1 rfl ?_
          refine r_imul hK d_Mod_know_125 ?_
          refine r_tp (b := nI (16 * p)) (pk_mul _ _) ?_
          refine r_iload_n hK d_Mod_know_126 rfl 2 rfl ?_
          refine r_iadd hK d_Mod_know_127 ?_
          refine r_tp (b := nI (16 * p + pg)) (nI_add _ _) ?_
          refine r_aload_n hK d_Mod_know_128 rfl 0 rfl ?_
          refine w_writableOf hK d_Mod_know_129 rfl ?_
          refine r_iload_n hK d_Mod_know_132 rfl 2 rfl ?_
          refine w_zald (n := 19) (L := 16) hK d_Mod_know_133 (by decide) rfl rfl pg rfl (by omega) (v := N 19 pg) (by simp [tset]) ?_
          refine w_zast (n := 24) (L := 64) hK (by first | rfl | assumption) d_Mod_know_134 (by decide) rfl rfl (16 * p + pg) rfl (by omega) ?_
          refine r_vret hK d_Mod_know_135 rfl ?_
          have hs : s_know N p pg c = tset (tset (tset (tset N 31 0 (c + nI 1)) 22 (16 * p + pg) (c + nI 1)) 23 (16 * p + pg) (N 18 pg)) 24 (16 * p + pg) (N 19 pg) := by unfold s_know; rw [if_neg c75]
          exact ⟨rfl, by rw [hs]⟩
        · refine r_aload_n hK d_Mod_know_78 rfl 0 rfl ?_
          refine w_known hK d_Mod_know_79 rfl ?_
          have c0 : s_ke N p 16 ≠ 0 := s_ke_ne N p 16 (by omega)
          have b1 := s_ke_le N p 16
          refine r_iload hK d_Mod_know_82 4 rfl ?_
          refine r_iconst (v := nI 0) hK d_Mod_know_84 (by decide) ?_
          refine w_iast (n := 22) (L := 64) hK d_Mod_know_85 (by decide) rfl rfl (s_ke N p 16 - 1) (dI_ne c0) (by omega) ?_
          refine r_aload_n hK d_Mod_know_86 rfl 0 rfl ?_
          refine w_known hK d_Mod_know_87 rfl ?_
          refine r_bipush (v := nI 16) hK d_Mod_know_90 (by decide) ?_
          refine r_iload_n hK d_Mod_know_92 rfl 1 rfl ?_
          refine r_imul hK d_Mod_know_93 ?_
          refine r_tp (b := nI (16 * p)) (pk_mul _ _) ?_
          refine r_iload_n hK d_Mod_know_94 rfl 2 rfl ?_
          refine r_iadd hK d_Mod_know_95 ?_
          refine r_tp (b := nI (16 * p + pg)) (nI_add _ _) ?_
          refine r_aload_n hK d_Mod_know_96 rfl 0 rfl ?_
          refine r_callVi (As := []) (b := h) (st := [.int (nI (16 * p + pg)), .ref (h + 1 + 22)]) hK (c_Mod_tick X l h nx (tset N 22 (s_ke N p 16 - 1) (nI 0)) c (by simp [tset, hc])) d_Mod_know_97 ml_Mod_109 cv_Mod_tick rfl (by decide) w_recv (Nat.le_of_ble_eq_true rfl) ?_ rfl
          refine w_iast (n := 22) (L := 64) hK d_Mod_know_100 (by decide) rfl rfl (16 * p + pg) rfl (by omega) ?_
          refine r_aload_n hK d_Mod_know_101 rfl 0 rfl ?_
          refine w_knownFrame hK d_Mod_know_102 rfl ?_
          refine r_bipush (v := nI 16) hK d_Mod_know_105 (by decide) ?_
          refine r_iload_n hK d_Mod_know_107 rfl 1 rfl ?_
          refine r_imul hK d_Mod_know_108 ?_
          refine r_tp (b := nI (16 * p)) (pk_mul _ _) ?_
          refine r_iload_n hK d_Mod_know_109 rfl 2 rfl ?_
          refine r_iadd hK d_Mod_know_110 ?_
          refine r_tp (b := nI (16 * p + pg)) (nI_add _ _) ?_
          refine r_aload_n hK d_Mod_know_111 rfl 0 rfl ?_
          refine w_frameOf hK d_Mod_know_112 rfl ?_
          refine r_iload_n hK d_Mod_know_115 rfl 2 rfl ?_
          refine w_iald (n := 18) (L := 16) hK d_Mod_know_116 (by decide) rfl rfl pg rfl (by omega) (v := N 18 pg) (by simp [tset]) ?_
          refine w_iast (n := 23) (L := 64) hK d_Mod_know_117 (by decide) rfl rfl (16 * p + pg) rfl (by omega) ?_
          refine r_aload_n hK d_Mod_know_118 rfl 0 rfl ?_
          refine w_knownWritable hK d_Mod_know_119 rfl ?_
          refine r_bipush (v := nI 16) hK d_Mod_know_122 (by decide) ?_
          refine r_iload_n hK d_Mod_know_124 rfl 1 rfl ?_
          refine r_imul hK d_Mod_know_125 ?_
          refine r_tp (b := nI (16 * p)) (pk_mul _ _) ?_
          refine r_iload_n hK d_Mod_know_126 rfl 2 rfl ?_
          refine r_iadd hK d_Mod_know_127 ?_
          refine r_tp (b := nI (16 * p + pg)) (nI_add _ _) ?_
          refine r_aload_n hK d_Mod_know_128 rfl 0 rfl ?_
          refine w_writableOf hK d_Mod_know_129 rfl ?_
          refine r_iload_n hK d_Mod_know_132 rfl 2 rfl ?_
          refine w_zald (n := 19) (L := 16) hK d_Mod_know_133 (by decide) rfl rfl pg rfl (by omega) (v := N 19 pg) (by simp [tset]) ?_
          refine w_zast (n := 24) (L := 64) hK (by first | rfl | assumption) d_Mod_know_134 (by decide) rfl rfl (16 * p + pg) rfl (by omega) ?_
          refine r_vret hK d_Mod_know_135 rfl ?_
          have hs : s_know N p pg c = tset (tset (tset (tset (tset N 22 (s_ke N p 16 - 1) (nI 0)) 31 0 (c + nI 1)) 22 (16 * p + pg) (c + nI 1)) 23 (16 * p + pg) (N 18 pg)) 24 (16 * p + pg) (N 19 pg) := by unfold s_know; rw [if_pos c75]
          exact ⟨rfl, by rw [hs]⟩
      · refine r_aload_n hK d_Mod_know_23 rfl 0 rfl ?_
        refine w_known hK d_Mod_know_24 rfl ?_
        refine r_iload hK d_Mod_know_27 5 rfl ?_
        refine w_iald (n := 22) (L := 64) hK d_Mod_know_29 (by decide) rfl rfl (16 * p + k) rfl (by omega) (v := N 22 (16 * p + k)) (rfl) ?_
        refine r_if_le (tgt := 67) hK d_Mod_know_30 (by decide) (fun c30 => ?_) (fun c30 => ?_)
        · refine r_iinc (w := nI (16 * p + k + 1)) (lv' := [(5, .int (nI (16 * p + k + 1))), (0, .ref h), (1, .int (nI p)), (2, .int (nI pg)), (3, .int (nI (s_kn N p k))), (4, .int (dI (s_ke N p k)))]) hK d_Mod_know_67 5 rfl (nI_add _ 1) (by decide) rfl ?_
          refine r_goto (tgt := 11) hK d_Mod_know_70 (by decide) ?_
          have e3 : s_kn N p (k + 1) = s_kn N p k := by rw [s_kn.eq_2]; rw [if_pos c30]
          have e4 : s_ke N p (k + 1) = s_ke N p k := by rw [s_ke.eq_2]; rw [if_pos c30]
          have ih2 := ih (k + 1) (by omega) (by omega)
          rw [e3, e4] at ih2
          exact r_loc hK [1, 2, 3, 4, 5, 0] rfl ih2
        · refine r_iinc (w := nI (s_kn N p k + 1)) (lv' := [(3, .int (nI (s_kn N p k + 1))), (0, .ref h), (1, .int (nI p)), (2, .int (nI pg)), (4, .int (dI (s_ke N p k))), (5, .int (nI (16 * p + k)))]) hK d_Mod_know_33 3 rfl (nI_add _ 1) (by decide) rfl ?_
          refine r_iload hK d_Mod_know_36 4 rfl ?_
          have b1 := s_ke_le N p k
          refine r_dif_lt (c := s_ke N p k) (tgt := 58) hK d_Mod_know_38 (by decide) (by omega) (fun c38 => ?_) (fun c38 => ?_)
          · refine r_iload hK d_Mod_know_58 5 rfl ?_
            refine r_goto (tgt := 65) hK d_Mod_know_60 (by decide) ?_
            refine r_istore (lv' := [(4, .int (nI (16 * p + k))), (3, .int (nI (s_kn N p k + 1))), (0, .ref h), (1, .int (nI p)), (2, .int (nI pg)), (5, .int (nI (16 * p + k)))]) hK d_Mod_know_65 (by decide) rfl ?_
            refine r_iinc (w := nI (16 * p + k + 1)) (lv' := [(5, .int (nI (16 * p + k + 1))), (4, .int (nI (16 * p + k))), (3, .int (nI (s_kn N p k + 1))), (0, .ref h), (1, .int (nI p)), (2, .int (nI pg))]) hK d_Mod_know_67 5 rfl (nI_add _ 1) (by decide) rfl ?_
            refine r_goto (tgt := 11) hK d_Mod_know_70 (by decide) ?_
            have e3 : s_kn N p (k + 1) = s_kn N p k + 1 := by rw [s_kn.eq_2]; rw [if_neg c30]
            have e4 : s_ke N p (k + 1) = 16 * p + k + 1 := by rw [s_ke.eq_2]; rw [if_neg c30, if_pos c38]
            have ih2 := ih (k + 1) (by omega) (by omega)
            rw [e3, e4] at ih2
            exact r_loc hK [3, 4, 5, 2, 1, 0] rfl ih2
          · refine r_aload_n hK d_Mod_know_41 rfl 1 rfl ?_
            refine w_known hK d_Mod_know_42 rfl ?_
            refine r_iload hK d_Mod_know_45 5 rfl ?_
            refine w_iald (n := 22) (L := 64) hK d_Mod_know_47 (by decide) rfl rfl (16 * p + k) rfl (by omega) (v := N 22 (16 * p + k)) (rfl) ?_
            refine r_aload_n hK d_Mod_know_48 rfl 1 rfl ?_
            refine w_known hK d_Mod_know_49 rfl ?_
            refine r_iload hK d_Mod_know_52 4 rfl ?_
            refine r_tp (b := nI (s_ke N p k - 1)) (dI_ne c38) ?_
            refine w_iald (n := 22) (L := 64) hK d_Mod_know_54 (by decide) rfl rfl (s_ke N p k - 1) rfl (by omega) (v := N 22 (s_ke N p k - 1)) (rfl) ?_
            refine r_icmp_ge (tgt := 63) hK d_Mod_know_55 (by decide) (fun c55 => ?_) (fun c55 => ?_)
            · refine r_iload hK d_Mod_know_63 4 rfl ?_
              refine r_istore (lv' := [(4, .int (dI (s_ke N p k))), (3, .int (nI (s_kn N p k + 1))), (0, .ref h), (1, .int (nI p)), (2, .int (nI pg)), (5, .int (nI (16 * p + k)))]) hK d_Mod_know_65 (by decide) rfl ?_
              refine r_iinc (w := nI (16 * p + k + 1)) (lv' := [(5, .int (nI (16 * p + k + 1))), (4, .int (dI (s_ke N p k))), (3, .int (nI (s_kn N p k + 1))), (0, .ref h), (1, .int (nI p)), (2, .int (nI pg))]) hK d_Mod_know_67 5 rfl (nI_add _ 1) (by decide) rfl ?_
              refine r_goto (tgt := 11) hK d_Mod_know_70 (by decide) ?_
              have e3 : s_kn N p (k + 1) = s_kn N p k + 1 := by rw [s_kn.eq_2]; rw [if_neg c30]
              have e4 : s_ke N p (k + 1) = s_ke N p k := by rw [s_ke.eq_2]; rw [if_neg c30, if_neg c38, if_pos c55]
              have ih2 := ih (k + 1) (by omega) (by omega)
              rw [e3, e4] at ih2
              exact r_loc hK [3, 4, 5, 2, 1, 0] rfl ih2
            · refine r_iload hK d_Mod_know_58 5 rfl ?_
              refine r_goto (tgt := 65) hK d_Mod_know_60 (by decide) ?_
              refine r_istore (lv' := [(4, .int (nI (16 * p + k))), (3, .int (nI (s_kn N p k + 1))), (0, .ref h), (1, .int (nI p)), (2, .int (nI pg)), (5, .int (nI (16 * p + k)))]) hK d_Mod_know_65 (by decide) rfl ?_
              refine r_iinc (w := nI (16 * p + k + 1)) (lv' := [(5, .int (nI (16 * p + k + 1))), (4, .int (nI (16 * p + k))), (3, .int (nI (s_kn N p k + 1))), (0, .ref h), (1, .int (nI p)), (2, .int (nI pg))]) hK d_Mod_know_67 5 rfl (nI_add _ 1) (by decide) rfl ?_
              refine r_goto (tgt := 11) hK d_Mod_know_70 (by decide) ?_
              have e3 : s_kn N p (k + 1) = s_kn N p k + 1 := by rw [s_kn.eq_2]; rw [if_neg c30]
              have e4 : s_ke N p (k + 1) = 16 * p + k + 1 := by rw [s_ke.eq_2]; rw [if_neg c30, if_neg c38, if_neg c55]
              have ih2 := ih (k + 1) (by omega) (by omega)
              rw [e3, e4] at ih2
              exact r_loc hK [3, 4, 5, 2, 1, 0] rfl ih2
  show K 0 [(0, .ref h), (1, .int (nI p)), (2, .int (nI pg))] [] N 0 0
  refine r_iconst (v := nI 0) hK d_Mod_know_0 (by decide) ?_
  refine r_istore_n (lv' := [(3, .int (nI 0)), (0, .ref h), (1, .int (nI p)), (2, .int (nI pg))]) hK d_Mod_know_1 rfl (by decide) rfl ?_
  refine r_iconst (v := -1) hK d_Mod_know_2 (by decide) ?_
  refine r_istore (lv' := [(4, .int (-1)), (3, .int (nI 0)), (0, .ref h), (1, .int (nI p)), (2, .int (nI pg))]) hK d_Mod_know_3 (by decide) rfl ?_
  refine r_bipush (v := nI 16) hK d_Mod_know_5 (by decide) ?_
  refine r_iload_n hK d_Mod_know_7 rfl 3 rfl ?_
  refine r_imul hK d_Mod_know_8 ?_
  refine r_tp (b := nI (16 * p)) (pk_mul _ _) ?_
  refine r_istore (lv' := [(5, .int (nI (16 * p))), (4, .int (-1)), (3, .int (nI 0)), (0, .ref h), (1, .int (nI p)), (2, .int (nI pg))]) hK d_Mod_know_9 (by decide) rfl ?_
  exact r_loc hK [3, 4, 5, 2, 1, 0] rfl (key 17 0 (by omega) (by omega))
