abbrev eqG : gG → gG → Prop := fun g s => g = s
theorem va_rf_cat (v : Option Nat) : (va_rf v).category = 1 := by cases v <;> rfl
theorem cat_i (v : Int32) : (Value.int v).category = 1 := rfl
theorem cat_r (v : Nat) : (Value.ref v).category = 1 := rfl
theorem cat_n : Value.null.category = 1 := rfl
theorem flt_ok (l : List (Nat × Value)) (i : Nat) (h : ∀ q ∈ l, q.2.category = 1) : l.filter (fun q => !(q.1 == i) && !(q.1 + 1 == i && q.2.category == 2)) = l.filter (fun q => !(q.1 == i)) := by
  refine List.filter_congr (fun q hq => ?_)
  rw [h q hq]
  simp
set_option maxHeartbeats 1000000 in
theorem c_Cell_init (X : gCx) (l : Launch) (g : gG) (c v : Nat) (hc : gk g c = 5) : gMv X l (HoldP X eqG) M_Cell_init 1 0 0 [.ref c, .ref v] g (gSetR g 22 c (some v)) := by
  refine gM_intro (by decide) (Nat.le_of_ble_eq_true rfl) (fun K hK => ?_)
  show K 0 [(0, .ref c), (1, .ref v)] [] g 0 0
  refine r_aload_n hK d_Cell_init_0 rfl 0 rfl ?_
  refine r_objInit hK d_Cell_init_1 ml_Cell_1 ow_1 ow_2 (by decide) (by decide) ?_
  refine r_aload_n hK d_Cell_init_4 rfl 0 rfl ?_
  refine r_aload_n hK d_Cell_init_5 rfl 1 rfl ?_
  refine p_putFR (k := 0) (f := 22) (v := some v) hK d_Cell_init_6 k_Cell fl_Cell_7 rfl rfl (by decide) rfl rfl rfl (by rintro g rfl; exact ⟨hc, rfl⟩) ?_
  refine r_vret hK d_Cell_init_9 rfl ?_
  exact ⟨rfl, rfl⟩
set_option maxHeartbeats 1000000 in
theorem c_Line_init (X : gCx) (l : Launch) (g : gG) (a : Nat) : gMv X l (HoldP X eqG) M_Line_init 1 0 0 [.ref a] g g := by
  refine gM_intro (by decide) (Nat.le_of_ble_eq_true rfl) (fun K hK => ?_)
  show K 0 [(0, .ref a)] [] g 0 0
  refine r_aload_n hK d_Line_init_0 rfl 0 rfl ?_
  refine r_objInit hK d_Line_init_1 ml_Line_1 ow_1 ow_2 (by decide) (by decide) ?_
  refine r_vret hK d_Line_init_4 rfl ?_
  exact ⟨rfl, rfl⟩
set_option maxHeartbeats 1000000 in
theorem c_Line_add_0 (X : gCx) (l : Launch) (g : gG) (a v q m : Nat) (ha : gk g a = 4) (hq : gx g = q) (n1 : a ≠ q) (hm : gi g 21 a = nI m) (hl : gr g 20 a = none) : gMv X l (HoldP X eqG) M_Line_add 2 1 2 [.ref a, .ref v] g (gSetI (gSetR (gSetR (gSetR (gNew g 4) 22 q (some v)) 19 a (some q)) 20 a (some q)) 21 a (nI (m + 1))) := by
  refine gM_intro (by decide) (Nat.le_of_ble_eq_true rfl) (fun K hK => ?_)
  show K 0 [(0, .ref a), (1, .ref v)] [] g 1 2
  refine p_new (ci := 4) (a := q) hK d_Line_add_0 k_Cell cl_Line_7 in_Cell ii_Cell (by rintro g rfl; exact ⟨hq, rfl⟩) ?_
  refine r_dup hK d_Line_add_3 rfl ?_
  refine r_aload_n hK d_Line_add_4 rfl 1 rfl ?_
  refine r_callIv (As := [.ref v]) (b := q) (st := [.ref q]) hK (c_Cell_init X l (gNew g 4) q v (by simp [gSetI, gSetR, gSetA, gSetB, gNew, gNewA, up2, up1, gx, gk, gl, gi, gr, ga, gb, hq, n1])) d_Line_add_5 ml_Line_9 ci_Cell_init rfl (by decide) (Nat.le_of_ble_eq_true rfl) ?_ rfl
  refine r_astore_n (lv' := [(2, .ref q), (0, .ref a), (1, .ref v)]) hK d_Line_add_8 rfl (by decide) rfl ?_
  refine r_aload_n hK d_Line_add_9 rfl 1 rfl ?_
  refine p_getR (f := 20) (v := none) hK d_Line_add_10 k_Line fd_Line_12_Line (by decide) rfl rfl (by rintro g rfl; exact ⟨(by simp [gSetI, gSetR, gSetA, gSetB, gNew, gNewA, up2, up1, gx, gk, gl, gi, gr, ga, gb, hq, n1, ha]), (by simp [gSetI, gSetR, gSetA, gSetB, gNew, gNewA, up2, up1, gx, gk, gl, gi, gr, ga, gb, hq, n1, hl])⟩) ?_
  refine r_ifnonnull (v := none) (tgt := 24) hK d_Line_add_13 (by decide) (fun _ z => absurd z (by simp)) (fun _ => ?_)
  refine r_aload_n hK d_Line_add_16 rfl 1 rfl ?_
  refine r_aload_n hK d_Line_add_17 rfl 0 rfl ?_
  refine p_putR (k := 0) (f := 19) (v := some q) hK d_Line_add_18 k_Line fd_Line_18_Line (by decide) rfl rfl rfl (by rintro g rfl; exact ⟨(by simp [gSetI, gSetR, gSetA, gSetB, gNew, gNewA, up2, up1, gx, gk, gl, gi, gr, ga, gb, hq, n1, ha]), rfl⟩) ?_
  refine r_goto (tgt := 32) hK d_Line_add_21 (by decide) ?_
  refine r_aload_n hK d_Line_add_32 rfl 1 rfl ?_
  refine r_aload_n hK d_Line_add_33 rfl 0 rfl ?_
  refine p_putR (k := 1) (f := 20) (v := some q) hK d_Line_add_34 k_Line fd_Line_12_Line (by decide) rfl rfl rfl (by rintro g rfl; exact ⟨(by simp [gSetI, gSetR, gSetA, gSetB, gNew, gNewA, up2, up1, gx, gk, gl, gi, gr, ga, gb, hq, n1, ha]), rfl⟩) ?_
  refine r_aload_n hK d_Line_add_37 rfl 1 rfl ?_
  refine r_dup hK d_Line_add_38 rfl ?_
  refine p_getI (f := 21) (v := nI m) hK d_Line_add_39 k_Line fd_Line_24_Line (by decide) rfl rfl (by rintro g rfl; exact ⟨(by simp [gSetI, gSetR, gSetA, gSetB, gNew, gNewA, up2, up1, gx, gk, gl, gi, gr, ga, gb, hq, n1, ha]), (by simp [gSetI, gSetR, gSetA, gSetB, gNew, gNewA, up2, up1, gx, gk, gl, gi, gr, ga, gb, hq, n1, hm])⟩) ?_
  refine r_iconst (v := nI 1) hK d_Line_add_42 (by decide) ?_
  refine r_iadd hK d_Line_add_43 ?_
  refine r_tp (b := nI (m + 1)) (nI_add _ _) ?_
  refine p_putI (k := 2) (f := 21) hK d_Line_add_44 k_Line fd_Line_24_Line (by decide) rfl rfl rfl rfl rfl (by rintro g rfl; exact ⟨(by simp [gSetI, gSetR, gSetA, gSetB, gNew, gNewA, up2, up1, gx, gk, gl, gi, gr, ga, gb, hq, n1, ha]), rfl⟩) ?_
  refine r_vret hK d_Line_add_47 rfl ?_
  exact ⟨rfl, rfl⟩
set_option maxHeartbeats 1000000 in
theorem c_Line_add_1 (X : gCx) (l : Launch) (g : gG) (a v q m : Nat) (ha : gk g a = 4) (hq : gx g = q) (n1 : a ≠ q) (hm : gi g 21 a = nI m) (z : Nat) (hl : gr g 20 a = some z) (hz : gk g z = 5) (n2 : z ≠ q) : gMv X l (HoldP X eqG) M_Line_add 2 1 2 [.ref a, .ref v] g (gSetI (gSetR (gSetR (gSetR (gNew g 4) 22 q (some v)) 23 z (some q)) 20 a (some q)) 21 a (nI (m + 1))) := by
  refine gM_intro (by decide) (Nat.le_of_ble_eq_true rfl) (fun K hK => ?_)
  show K 0 [(0, .ref a), (1, .ref v)] [] g 1 2
  refine p_new (ci := 4) (a := q) hK d_Line_add_0 k_Cell cl_Line_7 in_Cell ii_Cell (by rintro g rfl; exact ⟨hq, rfl⟩) ?_
  refine r_dup hK d_Line_add_3 rfl ?_
  refine r_aload_n hK d_Line_add_4 rfl 1 rfl ?_
  refine r_callIv (As := [.ref v]) (b := q) (st := [.ref q]) hK (c_Cell_init X l (gNew g 4) q v (by simp [gSetI, gSetR, gSetA, gSetB, gNew, gNewA, up2, up1, gx, gk, gl, gi, gr, ga, gb, hq, n1, n2])) d_Line_add_5 ml_Line_9 ci_Cell_init rfl (by decide) (Nat.le_of_ble_eq_true rfl) ?_ rfl
  refine r_astore_n (lv' := [(2, .ref q), (0, .ref a), (1, .ref v)]) hK d_Line_add_8 rfl (by decide) rfl ?_
  refine r_aload_n hK d_Line_add_9 rfl 1 rfl ?_
  refine p_getR (f := 20) (v := some z) hK d_Line_add_10 k_Line fd_Line_12_Line (by decide) rfl rfl (by rintro g rfl; exact ⟨(by simp [gSetI, gSetR, gSetA, gSetB, gNew, gNewA, up2, up1, gx, gk, gl, gi, gr, ga, gb, hq, n1, n2, ha]), (by simp [gSetI, gSetR, gSetA, gSetB, gNew, gNewA, up2, up1, gx, gk, gl, gi, gr, ga, gb, hq, n1, n2, hl])⟩) ?_
  refine r_ifnonnull (v := some z) (tgt := 24) hK d_Line_add_13 (by decide) (fun _ _ => ?_) (fun z => absurd z (by simp))
  refine r_aload_n hK d_Line_add_24 rfl 1 rfl ?_
  refine p_getR (f := 20) (v := some z) hK d_Line_add_25 k_Line fd_Line_12_Line (by decide) rfl rfl (by rintro g rfl; exact ⟨(by simp [gSetI, gSetR, gSetA, gSetB, gNew, gNewA, up2, up1, gx, gk, gl, gi, gr, ga, gb, hq, n1, n2, ha]), (by simp [gSetI, gSetR, gSetA, gSetB, gNew, gNewA, up2, up1, gx, gk, gl, gi, gr, ga, gb, hq, n1, n2, hl])⟩) ?_
  refine r_aload_n hK d_Line_add_28 rfl 0 rfl ?_
  refine p_putR (k := 1) (f := 23) (v := some q) hK d_Line_add_29 k_Cell fd_Line_21_Cell (by decide) rfl rfl rfl (by rintro g rfl; exact ⟨(by simp [gSetI, gSetR, gSetA, gSetB, gNew, gNewA, up2, up1, gx, gk, gl, gi, gr, ga, gb, hq, n1, n2, hz]), rfl⟩) ?_
  refine r_aload_n hK d_Line_add_32 rfl 1 rfl ?_
  refine r_aload_n hK d_Line_add_33 rfl 0 rfl ?_
  refine p_putR (k := 1) (f := 20) (v := some q) hK d_Line_add_34 k_Line fd_Line_12_Line (by decide) rfl rfl rfl (by rintro g rfl; exact ⟨(by simp [gSetI, gSetR, gSetA, gSetB, gNew, gNewA, up2, up1, gx, gk, gl, gi, gr, ga, gb, hq, n1, n2, ha]), rfl⟩) ?_
  refine r_aload_n hK d_Line_add_37 rfl 1 rfl ?_
  refine r_dup hK d_Line_add_38 rfl ?_
  refine p_getI (f := 21) (v := nI m) hK d_Line_add_39 k_Line fd_Line_24_Line (by decide) rfl rfl (by rintro g rfl; exact ⟨(by simp [gSetI, gSetR, gSetA, gSetB, gNew, gNewA, up2, up1, gx, gk, gl, gi, gr, ga, gb, hq, n1, n2, ha]), (by simp [gSetI, gSetR, gSetA, gSetB, gNew, gNewA, up2, up1, gx, gk, gl, gi, gr, ga, gb, hq, n1, n2, hm])⟩) ?_
  refine r_iconst (v := nI 1) hK d_Line_add_42 (by decide) ?_
  refine r_iadd hK d_Line_add_43 ?_
  refine r_tp (b := nI (m + 1)) (nI_add _ _) ?_
  refine p_putI (k := 2) (f := 21) hK d_Line_add_44 k_Line fd_Line_24_Line (by decide) rfl rfl rfl rfl rfl (by rintro g rfl; exact ⟨(by simp [gSetI, gSetR, gSetA, gSetB, gNew, gNewA, up2, up1, gx, gk, gl, gi, gr, ga, gb, hq, n1, n2, ha]), rfl⟩) ?_
  refine r_vret hK d_Line_add_47 rfl ?_
  exact ⟨rfl, rfl⟩
set_option maxHeartbeats 1000000 in
theorem c_Line_take_0 (X : gCx) (l : Launch) (g : gG) (a : Nat) (ha : gk g a = 4) (hf : gr g 19 a = none) : gMr X l (HoldP X eqG) M_Line_take 0 0 0 [.ref a] g none g := by
  refine gM_intro (by decide) (Nat.le_of_ble_eq_true rfl) (fun K hK => ?_)
  show K 0 [(0, .ref a)] [] g 0 0
  refine r_aload_n hK d_Line_take_0 rfl 0 rfl ?_
  refine p_getR (f := 19) (v := none) hK d_Line_take_1 k_Line fd_Line_18_Line (by decide) rfl rfl (by rintro g rfl; exact ⟨ha, hf⟩) ?_
  refine r_ifnonnull (v := none) (tgt := 9) hK d_Line_take_4 (by decide) (fun _ z => absurd z (by simp)) (fun _ => ?_)
  refine r_null hK d_Line_take_7 ?_
  refine r_aret (v := none) hK d_Line_take_8 rfl (Or.inl ⟨_, rfl⟩) ?_
  exact ⟨rfl, rfl⟩
set_option maxHeartbeats 1000000 in
theorem c_Line_take_1 (X : gCx) (l : Launch) (g : gG) (a : Nat) (ha : gk g a = 4) (c m : Nat) (v : Option Nat) (hc : gk g c = 5) (hf : gr g 19 a = some c) (hv : gr g 22 c = v) (hx : gr g 23 c = none) (hm : gi g 21 a = nI (m + 1)) : gMr X l (HoldP X eqG) M_Line_take 0 0 0 [.ref a] g v (gSetI (gSetR (gSetR g 19 a none) 20 a none) 21 a (nI m)) := by
  refine gM_intro (by decide) (Nat.le_of_ble_eq_true rfl) (fun K hK => ?_)
  show K 0 [(0, .ref a)] [] g 0 0
  refine r_aload_n hK d_Line_take_0 rfl 0 rfl ?_
  refine p_getR (f := 19) (v := some c) hK d_Line_take_1 k_Line fd_Line_18_Line (by decide) rfl rfl (by rintro g rfl; exact ⟨ha, hf⟩) ?_
  refine r_ifnonnull (v := some c) (tgt := 9) hK d_Line_take_4 (by decide) (fun _ _ => ?_) (fun z => absurd z (by simp))
  refine r_aload_n hK d_Line_take_9 rfl 0 rfl ?_
  refine p_getR (f := 19) (v := some c) hK d_Line_take_10 k_Line fd_Line_18_Line (by decide) rfl rfl (by rintro g rfl; exact ⟨ha, hf⟩) ?_
  refine p_getR (f := 22) (v := v) hK d_Line_take_13 k_Cell fd_Line_28_Cell (by decide) rfl rfl (by rintro g rfl; exact ⟨hc, hv⟩) ?_
  refine r_astore_nQ (lv' := [(1, va_rf v), (0, .ref a)]) hK d_Line_take_16 rfl (by decide) (by rw [flt_ok _ _ (by simp [va_rf_cat, cat_i, cat_r, cat_n])]; rfl) ?_
  refine r_aload_n hK d_Line_take_17 rfl 1 rfl ?_
  refine r_aload_n hK d_Line_take_18 rfl 1 rfl ?_
  refine p_getR (f := 19) (v := some c) hK d_Line_take_19 k_Line fd_Line_18_Line (by decide) rfl rfl (by rintro g rfl; exact ⟨ha, hf⟩) ?_
  refine p_getR (f := 23) (v := none) hK d_Line_take_22 k_Cell fd_Line_21_Cell (by decide) rfl rfl (by rintro g rfl; exact ⟨hc, hx⟩) ?_
  refine p_putR (k := 0) (f := 19) (v := none) hK d_Line_take_25 k_Line fd_Line_18_Line (by decide) rfl rfl rfl (by rintro g rfl; exact ⟨ha, rfl⟩) ?_
  refine r_aload_n hK d_Line_take_28 rfl 1 rfl ?_
  refine r_aload_n hK d_Line_take_29 rfl 1 rfl ?_
  refine p_getR (f := 19) (v := none) hK d_Line_take_30 k_Line fd_Line_18_Line (by decide) rfl rfl (by rintro g rfl; exact ⟨ha, (by simp [gSetI, gSetR, gSetA, gSetB, gNew, gNewA, up2, up1, gx, gk, gl, gi, gr, ga, gb])⟩) ?_
  refine r_ifnonnull (v := none) (tgt := 40) hK d_Line_take_33 (by decide) (fun _ z => absurd z (by simp)) (fun _ => ?_)
  refine r_null hK d_Line_take_36 ?_
  refine r_goto (tgt := 44) hK d_Line_take_37 (by decide) ?_
  refine p_putR (k := 1) (f := 20) (v := none) hK d_Line_take_44 k_Line fd_Line_12_Line (by decide) rfl rfl rfl (by rintro g rfl; exact ⟨ha, rfl⟩) ?_
  refine r_aload_n hK d_Line_take_47 rfl 1 rfl ?_
  refine r_dup hK d_Line_take_48 rfl ?_
  refine p_getI (f := 21) (v := nI (m + 1)) hK d_Line_take_49 k_Line fd_Line_24_Line (by decide) rfl rfl (by rintro g rfl; exact ⟨ha, (by simp [gSetI, gSetR, gSetA, gSetB, gNew, gNewA, up2, up1, gx, gk, gl, gi, gr, ga, gb, hm])⟩) ?_
  refine r_iconst (v := nI 1) hK d_Line_take_52 (by decide) ?_
  refine r_isub hK d_Line_take_53 ?_
  refine r_tp (b := nI m) (nI_pred m) ?_
  refine p_putI (k := 2) (f := 21) hK d_Line_take_54 k_Line fd_Line_24_Line (by decide) rfl rfl rfl rfl rfl (by rintro g rfl; exact ⟨ha, rfl⟩) ?_
  refine r_aload_nQ hK d_Line_take_57 rfl 0 rfl ?_
  refine r_aret (v := v) hK d_Line_take_58 rfl (Or.inl ⟨_, rfl⟩) ?_
  exact ⟨rfl, rfl⟩
set_option maxHeartbeats 1000000 in
theorem c_Line_take_2 (X : gCx) (l : Launch) (g : gG) (a : Nat) (ha : gk g a = 4) (c c2 m : Nat) (v z : Option Nat) (hc : gk g c = 5) (hf : gr g 19 a = some c) (hv : gr g 22 c = v) (hx : gr g 23 c = some c2) (hz : gr g 20 a = z) (hm : gi g 21 a = nI (m + 1)) : gMr X l (HoldP X eqG) M_Line_take 0 0 0 [.ref a] g v (gSetI (gSetR (gSetR g 19 a (some c2)) 20 a z) 21 a (nI m)) := by
  refine gM_intro (by decide) (Nat.le_of_ble_eq_true rfl) (fun K hK => ?_)
  show K 0 [(0, .ref a)] [] g 0 0
  refine r_aload_n hK d_Line_take_0 rfl 0 rfl ?_
  refine p_getR (f := 19) (v := some c) hK d_Line_take_1 k_Line fd_Line_18_Line (by decide) rfl rfl (by rintro g rfl; exact ⟨ha, hf⟩) ?_
  refine r_ifnonnull (v := some c) (tgt := 9) hK d_Line_take_4 (by decide) (fun _ _ => ?_) (fun z => absurd z (by simp))
  refine r_aload_n hK d_Line_take_9 rfl 0 rfl ?_
  refine p_getR (f := 19) (v := some c) hK d_Line_take_10 k_Line fd_Line_18_Line (by decide) rfl rfl (by rintro g rfl; exact ⟨ha, hf⟩) ?_
  refine p_getR (f := 22) (v := v) hK d_Line_take_13 k_Cell fd_Line_28_Cell (by decide) rfl rfl (by rintro g rfl; exact ⟨hc, hv⟩) ?_
  refine r_astore_nQ (lv' := [(1, va_rf v), (0, .ref a)]) hK d_Line_take_16 rfl (by decide) (by rw [flt_ok _ _ (by simp [va_rf_cat, cat_i, cat_r, cat_n])]; rfl) ?_
  refine r_aload_n hK d_Line_take_17 rfl 1 rfl ?_
  refine r_aload_n hK d_Line_take_18 rfl 1 rfl ?_
  refine p_getR (f := 19) (v := some c) hK d_Line_take_19 k_Line fd_Line_18_Line (by decide) rfl rfl (by rintro g rfl; exact ⟨ha, hf⟩) ?_
  refine p_getR (f := 23) (v := some c2) hK d_Line_take_22 k_Cell fd_Line_21_Cell (by decide) rfl rfl (by rintro g rfl; exact ⟨hc, hx⟩) ?_
  refine p_putR (k := 0) (f := 19) (v := some c2) hK d_Line_take_25 k_Line fd_Line_18_Line (by decide) rfl rfl rfl (by rintro g rfl; exact ⟨ha, rfl⟩) ?_
  refine r_aload_n hK d_Line_take_28 rfl 1 rfl ?_
  refine r_aload_n hK d_Line_take_29 rfl 1 rfl ?_
  refine p_getR (f := 19) (v := some c2) hK d_Line_take_30 k_Line fd_Line_18_Line (by decide) rfl rfl (by rintro g rfl; exact ⟨ha, (by simp [gSetI, gSetR, gSetA, gSetB, gNew, gNewA, up2, up1, gx, gk, gl, gi, gr, ga, gb])⟩) ?_
  refine r_ifnonnull (v := some c2) (tgt := 40) hK d_Line_take_33 (by decide) (fun _ _ => ?_) (fun z => absurd z (by simp))
  refine r_aload_n hK d_Line_take_40 rfl 1 rfl ?_
  refine p_getR (f := 20) (v := z) hK d_Line_take_41 k_Line fd_Line_12_Line (by decide) rfl rfl (by rintro g rfl; exact ⟨ha, (by simp [gSetI, gSetR, gSetA, gSetB, gNew, gNewA, up2, up1, gx, gk, gl, gi, gr, ga, gb, hz])⟩) ?_
  refine p_putR (k := 1) (f := 20) (v := z) hK d_Line_take_44 k_Line fd_Line_12_Line (by decide) rfl rfl rfl (by rintro g rfl; exact ⟨ha, rfl⟩) ?_
  refine r_aload_n hK d_Line_take_47 rfl 1 rfl ?_
  refine r_dup hK d_Line_take_48 rfl ?_
  refine p_getI (f := 21) (v := nI (m + 1)) hK d_Line_take_49 k_Line fd_Line_24_Line (by decide) rfl rfl (by rintro g rfl; exact ⟨ha, (by simp [gSetI, gSetR, gSetA, gSetB, gNew, gNewA, up2, up1, gx, gk, gl, gi, gr, ga, gb, hm])⟩) ?_
  refine r_iconst (v := nI 1) hK d_Line_take_52 (by decide) ?_
  refine r_isub hK d_Line_take_53 ?_
  refine r_tp (b := nI m) (nI_pred m) ?_
  refine p_putI (k := 2) (f := 21) hK d_Line_take_54 k_Line fd_Line_24_Line (by decide) rfl rfl rfl rfl rfl (by rintro g rfl; exact ⟨ha, rfl⟩) ?_
  refine r_aload_nQ hK d_Line_take_57 rfl 0 rfl ?_
  refine r_aret (v := v) hK d_Line_take_58 rfl (Or.inl ⟨_, rfl⟩) ?_
  exact ⟨rfl, rfl⟩
theorem LineAt.cell {g : gG} {a : Nat} {cs l : List Nat} (h : LineAt g a cs l) {i c : Nat} (hc : cs[i]? = some c) : gr g 22 c = l[i]? ∧ gr g 23 c = cs[i + 1]? := h.2.2.2.2.2 i c hc
set_option maxHeartbeats 1000000 in
theorem c_Line_get (X : gCx) (l : Launch) (g : gG) (a k : Nat) (cs l2 : List Nat) (ha : gk g a = 4) (hk : k < 2 ^ 31) (hL : LineAt g a cs l2) (hcs : ∀ (i c : Nat), cs[i]? = some c → gk g c = 5) (hb : cs.length < 2 ^ 30) : gMr X l (HoldP X eqG) M_Line_get 0 0 0 [.ref a, .int (nI k)] g (l2[k]?) g := by
  refine gM_intro (by decide) (Nat.le_of_ble_eq_true rfl) (fun K hK => ?_)
  have key : ∀ (m i : Nat), k < i + m → i ≤ k → K 7 [(0, .ref a), (1, .int (nI k)), (2, va_rf (cs[i]?)), (3, .int (nI i))] [] g 0 0 := by
    intro m
    induction m with
    | zero => intro i h1 h2; exact absurd h1 (by omega)
    | succ m ih =>
      intro i h1 h2
      refine r_iload_n hK d_Line_get_7 rfl 3 rfl ?_
      refine r_iload_n hK d_Line_get_8 rfl 1 rfl ?_
      refine r_ncmp_ge (a := i) (b := k) (tgt := 27) hK d_Line_get_9 (by decide) (by omega) (by omega) (fun c9 => ?_) (fun c9 => ?_)
      · refine r_aload_nQ hK d_Line_get_27 rfl 2 rfl ?_
        refine r_ifnonnull (v := cs[i]?) (tgt := 35) hK d_Line_get_28 (by decide) (fun b28 c28 => ?_) (fun c28 => ?_)
        · rw [c28]
          refine r_aload_n hK d_Line_get_35 rfl 2 rfl ?_
          refine p_getR (f := 22) (v := l2[i]?) hK d_Line_get_36 k_Cell fd_Line_28_Cell (by decide) rfl rfl (by rintro g rfl; exact ⟨(hcs i b28 c28), ((hL.cell c28).1)⟩) ?_
          refine r_aret (v := l2[i]?) hK d_Line_get_39 rfl (Or.inl ⟨_, rfl⟩) ?_
          have hik : i = k := by omega
          subst hik
          exact ⟨rfl, rfl⟩
        · rw [c28]
          refine r_null hK d_Line_get_31 ?_
          refine r_goto (tgt := 39) hK d_Line_get_32 (by decide) ?_
          refine r_aret (v := none) hK d_Line_get_39 rfl (Or.inl ⟨_, rfl⟩) ?_
          have e1 : l2[k]? = none := by
            have h0 := List.getElem?_eq_none_iff.mp c28
            exact List.getElem?_eq_none_iff.mpr (by have := hL.2.2.2.1; omega)
          exact ⟨by rw [e1], rfl⟩
      · refine r_aload_nQ hK d_Line_get_12 rfl 2 rfl ?_
        refine r_ifnull (v := cs[i]?) (tgt := 27) hK d_Line_get_13 (by decide) (fun c13 => ?_) (fun b13 c13 => ?_)
        · rw [c13]
          refine r_aload_nN hK d_Line_get_27 rfl 2 rfl ?_
          refine r_ifnonnull (v := none) (tgt := 35) hK d_Line_get_28 (by decide) (fun _ z => absurd z (by simp)) (fun _ => ?_)
          refine r_null hK d_Line_get_31 ?_
          refine r_goto (tgt := 39) hK d_Line_get_32 (by decide) ?_
          refine r_aret (v := none) hK d_Line_get_39 rfl (Or.inl ⟨_, rfl⟩) ?_
          have e1 : l2[k]? = none := by
            have h0 := List.getElem?_eq_none_iff.mp c13
            exact List.getElem?_eq_none_iff.mpr (by have := hL.2.2.2.1; omega)
          exact ⟨by rw [e1], rfl⟩
        · rw [c13]
          refine r_aload_n hK d_Line_get_16 rfl 2 rfl ?_
          refine p_getR (f := 23) (v := cs[i + 1]?) hK d_Line_get_17 k_Cell fd_Line_21_Cell (by decide) rfl rfl (by rintro g rfl; exact ⟨(hcs i b13 c13), ((hL.cell c13).2)⟩) ?_
          refine r_astore_nQ (lv' := [(2, va_rf (cs[i + 1]?)), (0, .ref a), (1, .int (nI k)), (3, .int (nI i))]) hK d_Line_get_20 rfl (by decide) (by rw [flt_ok _ _ (by simp [va_rf_cat, cat_i, cat_r, cat_n])]; rfl) ?_
          refine r_iinc (w := nI (i + 1)) (lv' := [(3, .int (nI (i + 1))), (2, va_rf (cs[i + 1]?)), (0, .ref a), (1, .int (nI k))]) hK d_Line_get_21 3 rfl (nI_add _ 1) (by decide) (by rw [flt_ok _ _ (by simp [va_rf_cat, cat_i, cat_r, cat_n])]; rfl) ?_
          refine r_goto (tgt := 7) hK d_Line_get_24 (by decide) ?_
          exact r_loc hK [2, 3, 1, 0] rfl (ih (i + 1) (by omega) (by omega))
  show K 0 [(0, .ref a), (1, .int (nI k))] [] g 0 0
  refine r_aload_n hK d_Line_get_0 rfl 0 rfl ?_
  refine p_getR (f := 19) (v := cs[0]?) hK d_Line_get_1 k_Line fd_Line_18_Line (by decide) rfl rfl (by rintro g rfl; exact ⟨ha, (hL.1.trans List.head?_eq_getElem?)⟩) ?_
  refine r_astore_nQ (lv' := [(2, va_rf (cs[0]?)), (0, .ref a), (1, .int (nI k))]) hK d_Line_get_4 rfl (by decide) (by rw [flt_ok _ _ (by simp [va_rf_cat, cat_i, cat_r, cat_n])]; rfl) ?_
  refine r_iconst (v := nI 0) hK d_Line_get_5 (by decide) ?_
  refine r_istore_n (lv' := [(3, .int (nI 0)), (2, va_rf (cs[0]?)), (0, .ref a), (1, .int (nI k))]) hK d_Line_get_6 rfl (by decide) (by rw [flt_ok _ _ (by simp [va_rf_cat, cat_i, cat_r, cat_n])]; rfl) ?_
  exact r_loc hK [2, 3, 1, 0] rfl (key (k + 1) 0 (by omega) (by omega))
theorem nodup_eq {l : List Nat} (h : l.Nodup) {i j c : Nat} (hi : l[i]? = some c) (hj : l[j]? = some c) : i = j := by
  obtain ⟨h1, e1⟩ := List.getElem?_eq_some_iff.mp hi
  obtain ⟨h2, e2⟩ := List.getElem?_eq_some_iff.mp hj
  exact (List.getElem_inj h).mp (e1.trans e2.symm)
set_option maxHeartbeats 1000000 in
theorem c_Line_takeLast (X : gCx) (l : Launch) (g g2 : gG) (a m z : Nat) (v : Option Nat) (cs l2 : List Nat) (ha : gk g a = 4) (hL : LineAt g a cs l2) (hcs : ∀ (i c : Nat), cs[i]? = some c → gk g c = 5) (hlen : cs.length = m + 2) (hz : cs[m + 1]? = some z) (hval : l2[m + 1]? = v) (hsz : gi g 21 a = nI (m + 2)) (hla : gr g 20 a = some z) (hbd : m < 2 ^ 30) (hPo : ∀ c, cs[m]? = some c → gSetI (gSetR (gSetR g 23 c none) 20 a (some c)) 21 a (nI (m + 1)) = g2) : gMr X l (HoldP X eqG) M_Line_takeLast 1 0 0 [.ref a] g v g2 := by
  refine gM_intro (by decide) (Nat.le_of_ble_eq_true rfl) (fun K hK => ?_)
  have key : ∀ (n i : Nat), m + 1 < i + n → i ≤ m → ∀ c, cs[i]? = some c → K 28 [(0, .ref a), (1, .ref c)] [] g 0 0 := by
    intro n
    induction n with
    | zero => intro i h1 h2; exact absurd h1 (by omega)
    | succ n ih =>
      intro i h1 h2 c hc
      obtain ⟨c2, hc2⟩ : ∃ c2, cs[i + 1]? = some c2 := ⟨_, List.getElem?_eq_getElem (by omega)⟩
      refine r_aload_n hK d_Line_takeLast_28 rfl 1 rfl ?_
      refine p_getR (f := 23) (v := some c2) hK d_Line_takeLast_29 k_Cell fd_Line_21_Cell (by decide) rfl rfl (by rintro g rfl; exact ⟨(hcs i c hc), ((hL.cell hc).2.trans hc2)⟩) ?_
      refine r_ifnull (v := some c2) (tgt := 54) hK d_Line_takeLast_32 (by decide) (fun z => absurd z (by simp)) (fun _ _ => ?_)
      refine r_aload_n hK d_Line_takeLast_35 rfl 1 rfl ?_
      refine p_getR (f := 23) (v := some c2) hK d_Line_takeLast_36 k_Cell fd_Line_21_Cell (by decide) rfl rfl (by rintro g rfl; exact ⟨(hcs i c hc), ((hL.cell hc).2.trans hc2)⟩) ?_
      refine r_aload_n hK d_Line_takeLast_39 rfl 0 rfl ?_
      refine p_getR (f := 20) (v := some z) hK d_Line_takeLast_40 k_Line fd_Line_12_Line (by decide) rfl rfl (by rintro g rfl; exact ⟨ha, hla⟩) ?_
      refine r_acmp_eq (a := some c2) (b := some z) (tgt := 54) hK d_Line_takeLast_43 (by decide) (fun c43 => ?_) (fun c43 => ?_)
      · have hiz : i + 1 = m + 1 := nodup_eq hL.2.2.2.2.1 hc2 (by rw [Option.some.inj c43]; exact hz)
        have him : i = m := by omega
        subst him
        refine r_aload_n hK d_Line_takeLast_54 rfl 0 rfl ?_
        refine p_getR (f := 20) (v := some z) hK d_Line_takeLast_55 k_Line fd_Line_12_Line (by decide) rfl rfl (by rintro g rfl; exact ⟨ha, hla⟩) ?_
        refine p_getR (f := 22) (v := v) hK d_Line_takeLast_58 k_Cell fd_Line_28_Cell (by decide) rfl rfl (by rintro g rfl; exact ⟨(hcs (i + 1) z hz), ((hL.cell hz).1.trans hval)⟩) ?_
        refine r_astore_nQ (lv' := [(2, va_rf v), (0, .ref a), (1, .ref c)]) hK d_Line_takeLast_61 rfl (by decide) (by rw [flt_ok _ _ (by simp [va_rf_cat, cat_i, cat_r, cat_n])]; rfl) ?_
        refine r_aload_n hK d_Line_takeLast_62 rfl 2 rfl ?_
        refine r_null hK d_Line_takeLast_63 ?_
        refine p_putR (k := 1) (f := 23) (v := none) hK d_Line_takeLast_64 k_Cell fd_Line_21_Cell (by decide) rfl rfl rfl (by rintro g rfl; exact ⟨(hcs i c hc), rfl⟩) ?_
        refine r_aload_n hK d_Line_takeLast_67 rfl 1 rfl ?_
        refine r_aload_n hK d_Line_takeLast_68 rfl 2 rfl ?_
        refine p_putR (k := 1) (f := 20) (v := some c) hK d_Line_takeLast_69 k_Line fd_Line_12_Line (by decide) rfl rfl rfl (by rintro g rfl; exact ⟨ha, rfl⟩) ?_
        refine r_aload_n hK d_Line_takeLast_72 rfl 1 rfl ?_
        refine r_dup hK d_Line_takeLast_73 rfl ?_
        refine p_getI (f := 21) (v := nI (i + 2)) hK d_Line_takeLast_74 k_Line fd_Line_24_Line (by decide) rfl rfl (by rintro g rfl; exact ⟨ha, (by simp [gSetI, gSetR, gSetA, gSetB, gNew, gNewA, up2, up1, gx, gk, gl, gi, gr, ga, gb, hsz])⟩) ?_
        refine r_iconst (v := nI 1) hK d_Line_takeLast_77 (by decide) ?_
        refine r_isub hK d_Line_takeLast_78 ?_
        refine r_tp (b := nI (i + 1)) (nI_pred (i + 1)) ?_
        refine p_putI (k := 2) (f := 21) hK d_Line_takeLast_79 k_Line fd_Line_24_Line (by decide) rfl rfl rfl rfl rfl (by rintro g rfl; exact ⟨ha, rfl⟩) ?_
        refine r_aload_nQ hK d_Line_takeLast_82 rfl 0 rfl ?_
        refine r_aret (v := v) hK d_Line_takeLast_83 rfl (Or.inl ⟨_, rfl⟩) ?_
        exact ⟨rfl, hPo c hc⟩
      · refine r_aload_n hK d_Line_takeLast_46 rfl 1 rfl ?_
        refine p_getR (f := 23) (v := some c2) hK d_Line_takeLast_47 k_Cell fd_Line_21_Cell (by decide) rfl rfl (by rintro g rfl; exact ⟨(hcs i c hc), ((hL.cell hc).2.trans hc2)⟩) ?_
        refine r_astore_n (lv' := [(1, .ref c2), (0, .ref a)]) hK d_Line_takeLast_50 rfl (by decide) rfl ?_
        refine r_goto (tgt := 28) hK d_Line_takeLast_51 (by decide) ?_
        have hne : i + 1 ≠ m + 1 := fun q => c43 (by rw [q, hz] at hc2; exact hc2.symm)
        exact r_loc hK [1, 0] rfl (ih (i + 1) (by omega) (by omega) c2 hc2)
  obtain ⟨c0, hc0⟩ : ∃ c0, cs[0]? = some c0 := ⟨_, List.getElem?_eq_getElem (by omega)⟩
  show K 0 [(0, .ref a)] [] g 0 0
  refine r_aload_n hK d_Line_takeLast_0 rfl 0 rfl ?_
  refine p_getR (f := 19) (v := some c0) hK d_Line_takeLast_1 k_Line fd_Line_18_Line (by decide) rfl rfl (by rintro g rfl; exact ⟨ha, (hL.1.trans (List.head?_eq_getElem?.trans hc0))⟩) ?_
  refine r_ifnull (v := some c0) (tgt := 18) hK d_Line_takeLast_4 (by decide) (fun z => absurd z (by simp)) (fun _ _ => ?_)
  refine r_aload_n hK d_Line_takeLast_7 rfl 0 rfl ?_
  refine p_getR (f := 19) (v := some c0) hK d_Line_takeLast_8 k_Line fd_Line_18_Line (by decide) rfl rfl (by rintro g rfl; exact ⟨ha, (hL.1.trans (List.head?_eq_getElem?.trans hc0))⟩) ?_
  refine r_aload_n hK d_Line_takeLast_11 rfl 0 rfl ?_
  refine p_getR (f := 20) (v := some z) hK d_Line_takeLast_12 k_Line fd_Line_12_Line (by decide) rfl rfl (by rintro g rfl; exact ⟨ha, hla⟩) ?_
  refine r_acmp_ne (a := some c0) (b := some z) (tgt := 23) hK d_Line_takeLast_15 (by decide) (fun c15 => ?_) (fun z => False.elim (absurd (nodup_eq hL.2.2.2.2.1 hc0 (by rw [Option.some.inj z]; exact hz)) (by omega)))
  refine r_aload_n hK d_Line_takeLast_23 rfl 0 rfl ?_
  refine p_getR (f := 19) (v := some c0) hK d_Line_takeLast_24 k_Line fd_Line_18_Line (by decide) rfl rfl (by rintro g rfl; exact ⟨ha, (hL.1.trans (List.head?_eq_getElem?.trans hc0))⟩) ?_
  refine r_astore_n (lv' := [(1, .ref c0), (0, .ref a)]) hK d_Line_takeLast_27 rfl (by decide) rfl ?_
  exact r_loc hK [1, 0] rfl (key (m + 2) 0 (by omega) (by omega) c0 hc0)
