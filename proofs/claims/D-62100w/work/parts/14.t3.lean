theorem s_ahead_le (N : tS) (p : Int32) (t : Nat) : ∀ n, s_ahead N p t n ≤ n := by
  intro n
  induction n with
  | zero => exact Nat.le_refl _
  | succ k ih => rw [s_ahead.eq_2]; repeat' split
                 all_goals omega
theorem s_len_le (N : tS) (p : Int32) : ∀ n, s_len N p n ≤ n := by
  intro n
  induction n with
  | zero => exact Nat.le_refl _
  | succ k ih => rw [s_len.eq_2]; repeat' split
                 all_goals omega
theorem s_cur_le (N : tS) (p : Int32) : ∀ n, s_cur N p n ≤ n := by
  intro n
  induction n with
  | zero => exact Nat.le_refl _
  | succ k ih => rw [s_cur.eq_2]; repeat' split
                 all_goals omega
theorem s_frames_le (N : tS) (p : Int32) : ∀ n, s_frames N p n ≤ n := by
  intro n
  induction n with
  | zero => exact Nat.le_refl _
  | succ k ih => rw [s_frames.eq_2]; repeat' split
                 all_goals omega
def s_at (N : tS) (p : Int32) (pl : Int32) (n : Nat) : Nat → Nat
  | 0 => 0
  | k + 1 => if N 8 k = nI 1 then (if N 7 k = p then (if nI (s_ahead N p k n) = pl then k + 1
        else s_at N p pl n k)
      else s_at N p pl n k)
    else s_at N p pl n k
set_option maxHeartbeats 1000000 in
theorem c_Mod_at (X : gCx) (l : Launch) (h nx : Nat) (N : tS) (p pl : Int32) (n : Nat) (hn : N 30 0 = nI n) (hn8 : n ≤ 8) : gMi X l (HoldT X h nx) M_Mod_at 1 0 0 [.ref h, .int p, .int pl] N (dI (s_at N p pl n n)) N := by
  refine gM_intro (by decide) (Nat.le_of_ble_eq_true rfl) (fun K hK => ?_)
  have key : ∀ (m k : Nat), n < k + m → k ≤ n → K 5 [(0, .ref h), (1, .int p), (2, .int pl), (3, .int (dI (s_at N p pl n k))), (4, .int (nI k))] [] N 0 0 := by
    intro m
    induction m with
    | zero => intro k h1 h2; exact absurd h1 (by omega)
    | succ m ih =>
      intro k h1 h2
      refine r_iload hK d_Mod_at_5 4 rfl ?_
      refine r_aload_n hK d_Mod_at_7 rfl 0 rfl ?_
      refine w_threads hK d_Mod_at_8 rfl (v := nI n) (hn) ?_
      refine r_ncmp_ge (a := k) (b := n) (tgt := 60) hK d_Mod_at_11 (by decide) (by omega) (by omega) (fun c11 => ?_) (fun c11 => ?_)
      · refine r_iload_n hK d_Mod_at_60 rfl 3 rfl ?_
        refine r_iret hK d_Mod_at_61 rfl (rfl) ?_
        have hkn : k = n := by omega
        subst hkn
        exact ⟨rfl, rfl⟩
      · refine r_aload_n hK d_Mod_at_14 rfl 0 rfl ?_
        refine w_how hK d_Mod_at_15 rfl ?_
        refine r_iload hK d_Mod_at_18 4 rfl ?_
        refine w_iald (n := 8) (L := 8) hK d_Mod_at_20 (by decide) rfl rfl k rfl (by omega) (v := N 8 k) (rfl) ?_
        refine r_iconst (v := nI 1) hK d_Mod_at_21 (by decide) ?_
        refine r_icmp_ne (tgt := 52) hK d_Mod_at_22 (by decide) (fun c22 => ?_) (fun c22 => ?_)
        · refine r_iload_n hK d_Mod_at_52 rfl 3 rfl ?_
          refine r_istore_n (lv' := [(3, .int (dI (s_at N p pl n k))), (0, .ref h), (1, .int p), (2, .int pl), (4, .int (nI k))]) hK d_Mod_at_53 rfl (by decide) rfl ?_
          refine r_iinc (w := nI (k + 1)) (lv' := [(4, .int (nI (k + 1))), (3, .int (dI (s_at N p pl n k))), (0, .ref h), (1, .int p), (2, .int pl)]) hK d_Mod_at_54 4 rfl (nI_add _ 1) (by decide) rfl ?_
          refine r_goto (tgt := 5) hK d_Mod_at_57 (by decide) ?_
          have e3 : s_at N p pl n (k + 1) = s_at N p pl n k := by rw [s_at.eq_2]; rw [if_neg c22]
          have ih2 := ih (k + 1) (by omega) (by omega)
          rw [e3] at ih2
          exact r_loc hK [2, 3, 4, 1, 0] rfl ih2
        · refine r_aload_n hK d_Mod_at_25 rfl 0 rfl ?_
          refine w_where hK d_Mod_at_26 rfl ?_
          refine r_iload hK d_Mod_at_29 4 rfl ?_
          refine w_iald (n := 7) (L := 8) hK d_Mod_at_31 (by decide) rfl rfl k rfl (by omega) (v := N 7 k) (rfl) ?_
          refine r_iload_n hK d_Mod_at_32 rfl 1 rfl ?_
          refine r_icmp_ne (tgt := 52) hK d_Mod_at_33 (by decide) (fun c33 => ?_) (fun c33 => ?_)
          · refine r_iload_n hK d_Mod_at_52 rfl 3 rfl ?_
            refine r_istore_n (lv' := [(3, .int (dI (s_at N p pl n k))), (0, .ref h), (1, .int p), (2, .int pl), (4, .int (nI k))]) hK d_Mod_at_53 rfl (by decide) rfl ?_
            refine r_iinc (w := nI (k + 1)) (lv' := [(4, .int (nI (k + 1))), (3, .int (dI (s_at N p pl n k))), (0, .ref h), (1, .int p), (2, .int pl)]) hK d_Mod_at_54 4 rfl (nI_add _ 1) (by decide) rfl ?_
            refine r_goto (tgt := 5) hK d_Mod_at_57 (by decide) ?_
            have e3 : s_at N p pl n (k + 1) = s_at N p pl n k := by rw [s_at.eq_2]; rw [if_pos c22, if_neg c33]
            have ih2 := ih (k + 1) (by omega) (by omega)
            rw [e3] at ih2
            exact r_loc hK [2, 3, 4, 1, 0] rfl ih2
          · refine r_aload_n hK d_Mod_at_36 rfl 0 rfl ?_
            refine r_iload_n hK d_Mod_at_37 rfl 1 rfl ?_
            refine r_iload hK d_Mod_at_38 4 rfl ?_
            refine r_callVi (As := [.int p, .int (nI k)]) (b := h) (st := []) hK (c_Mod_ahead X l h nx N p k (by omega) n hn hn8) d_Mod_at_40 ml_Mod_128 cv_Mod_ahead rfl (by decide) w_recv (Nat.le_of_ble_eq_true rfl) ?_ rfl
            refine r_iload_n hK d_Mod_at_43 rfl 2 rfl ?_
            refine r_icmp_ne (tgt := 52) hK d_Mod_at_44 (by decide) (fun c44 => ?_) (fun c44 => ?_)
            · refine r_iload_n hK d_Mod_at_52 rfl 3 rfl ?_
              refine r_istore_n (lv' := [(3, .int (dI (s_at N p pl n k))), (0, .ref h), (1, .int p), (2, .int pl), (4, .int (nI k))]) hK d_Mod_at_53 rfl (by decide) rfl ?_
              refine r_iinc (w := nI (k + 1)) (lv' := [(4, .int (nI (k + 1))), (3, .int (dI (s_at N p pl n k))), (0, .ref h), (1, .int p), (2, .int pl)]) hK d_Mod_at_54 4 rfl (nI_add _ 1) (by decide) rfl ?_
              refine r_goto (tgt := 5) hK d_Mod_at_57 (by decide) ?_
              have e3 : s_at N p pl n (k + 1) = s_at N p pl n k := by rw [s_at.eq_2]; rw [if_pos c22, if_pos c33, if_neg c44]
              have ih2 := ih (k + 1) (by omega) (by omega)
              rw [e3] at ih2
              exact r_loc hK [2, 3, 4, 1, 0] rfl ih2
            · refine r_iload hK d_Mod_at_47 4 rfl ?_
              refine r_goto (tgt := 53) hK d_Mod_at_49 (by decide) ?_
              refine r_istore_n (lv' := [(3, .int (nI k)), (0, .ref h), (1, .int p), (2, .int pl), (4, .int (nI k))]) hK d_Mod_at_53 rfl (by decide) rfl ?_
              refine r_iinc (w := nI (k + 1)) (lv' := [(4, .int (nI (k + 1))), (3, .int (nI k)), (0, .ref h), (1, .int p), (2, .int pl)]) hK d_Mod_at_54 4 rfl (nI_add _ 1) (by decide) rfl ?_
              refine r_goto (tgt := 5) hK d_Mod_at_57 (by decide) ?_
              have e3 : s_at N p pl n (k + 1) = k + 1 := by rw [s_at.eq_2]; rw [if_pos c22, if_pos c33, if_pos c44]
              have ih2 := ih (k + 1) (by omega) (by omega)
              rw [e3] at ih2
              exact r_loc hK [2, 3, 4, 1, 0] rfl ih2
  show K 0 [(0, .ref h), (1, .int p), (2, .int pl)] [] N 0 0
  refine r_iconst (v := -1) hK d_Mod_at_0 (by decide) ?_
  refine r_istore_n (lv' := [(3, .int (-1)), (0, .ref h), (1, .int p), (2, .int pl)]) hK d_Mod_at_1 rfl (by decide) rfl ?_
  refine r_iconst (v := nI 0) hK d_Mod_at_2 (by decide) ?_
  refine r_istore (lv' := [(4, .int (nI 0)), (3, .int (-1)), (0, .ref h), (1, .int p), (2, .int pl)]) hK d_Mod_at_3 (by decide) rfl ?_
  have ky := key (n + 1) 0 (by omega) (by omega)
  exact r_loc hK [2, 3, 4, 1, 0] rfl ky
theorem s_at_le (N : tS) (p pl : Int32) (n : Nat) : ∀ m, s_at N p pl n m ≤ m := by
  intro m
  induction m with
  | zero => exact Nat.le_refl _
  | succ k ih => rw [s_at.eq_2]; repeat' split
                 all_goals omega
