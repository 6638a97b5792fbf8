set_option maxHeartbeats 1000000 in
theorem c_Prec_checkIndex {σ : Type} (X : gCx) (l : Launch) (Hd : σ → Heap → Prop) (x : σ) (i n : Nat) (hi : i < n) (hn : n < 2 ^ 31) : gMi X l Hd M_Prec_checkIndex 0 0 0 [.int (nI i), .int (nI n), .null] x (nI i) x := by
  refine gM_intro (by decide) (Nat.le_of_ble_eq_true rfl) (fun K hK => ?_)
  show K 0 [(0, .int (nI i)), (1, .int (nI n)), (2, .null)] [] x 0 0
  refine r_iload_n hK d_Prec_checkIndex_0 rfl 0 rfl ?_
  refine r_nif_lt (a := i) (tgt := 9) hK d_Prec_checkIndex_1 (by decide) (by omega) ?_
  refine r_iload_n hK d_Prec_checkIndex_4 rfl 0 rfl ?_
  refine r_iload_n hK d_Prec_checkIndex_5 rfl 1 rfl ?_
  refine r_ncmp_lt (a := i) (b := n) (tgt := 16) hK d_Prec_checkIndex_6 (by decide) (by omega) (by omega) (fun c6 => ?_) (fun z => False.elim (by omega))
  refine r_iload_n hK d_Prec_checkIndex_16 rfl 0 rfl ?_
  refine r_iret hK d_Prec_checkIndex_17 rfl (rfl) ?_
  exact ⟨rfl, rfl⟩
set_option maxHeartbeats 1000000 in
theorem c_Objs_checkIndex {σ : Type} (X : gCx) (l : Launch) (Hd : σ → Heap → Prop) (x : σ) (i n : Nat) (hi : i < n) (hn : n < 2 ^ 31) : gMi X l Hd M_Objs_checkIndex 1 0 0 [.int (nI i), .int (nI n)] x (nI i) x := by
  refine gM_intro (by decide) (Nat.le_of_ble_eq_true rfl) (fun K hK => ?_)
  show K 0 [(0, .int (nI i)), (1, .int (nI n))] [] x 0 0
  refine r_iload_n hK d_Objs_checkIndex_0 rfl 0 rfl ?_
  refine r_iload_n hK d_Objs_checkIndex_1 rfl 1 rfl ?_
  refine r_null hK d_Objs_checkIndex_2 ?_
  refine r_callSi (As := [.int (nI i), .int (nI n), .null]) (st := []) hK (c_Prec_checkIndex X l Hd x i n hi hn) d_Objs_checkIndex_3 ml_Objs_105 cs_Prec_checkIndex rfl (by decide) (Nat.le_of_ble_eq_true rfl) ?_ rfl
  refine r_iret hK d_Objs_checkIndex_6 rfl (rfl) ?_
  exact ⟨rfl, rfl⟩
theorem r_mmax {σ : Type} {X : gCx} {l : Launch} {Hd : σ → Heap → Prop} {M : gMd} {d : Nat} {Po : Option Value → σ → Prop} {K : Nat → List (Nat × Value) → List Value → σ → Nat → Nat → Prop} {pc kc ks i : Nat} {lv : List (Nat × Value)} {st : List Value} {x : σ} (hK : Good X l Hd M d Po K) {a b c : Int32} (hd : decode M.2.1 pc = .ok (.invokestatic i, 3)) (hw : Cond.methodLink M.1.cls i y_Math_max ∈ gtbl) (hc : (if a < b then b else a) = c) (hdd : 1 ≤ d) (hst : (st.map fun v => v.category).sum ≤ 8) (k : K (pc + 3) lv (.int c :: st) x kc ks) : K pc lv (.int b :: .int a :: st) x kc ks := by
  obtain ⟨p, e, R, s, m, args, below, meth, cc, Q, ⟨hx, hb, hml, hown, hts⟩, ⟨hT, hA⟩, ⟨hfr, hlo⟩, hnm, hret, rfl⟩ := hK
  intro H locs ls cells slots hH hS hl h1 h2
  subst hc
  obtain ⟨⟨g1, _, _, g3⟩, g2⟩ := cs_Math_max
  exact va_mmax hx hb (hml.trans hl.1.symm) hown (hts _ hw) (hts _ g2) (hts _ g3) (hts _ g1) (by omega) (by omega) (by omega) (by omega) hd (k H locs ls cells slots hH hS hl h1 h2)
set_option maxHeartbeats 1000000 in
theorem c_Enum_ordinal {σ : Type} (X : gCx) (l : Launch) (Hd : σ → Heap → Prop) (x : σ) (e : Nat) (v : Int32) (he : e < 12) (hv : ([0, 1, 2, 3, 4, 5, 6, 7, 8, 9, 10, 11] : List Int32).getD e 0 = v) : gMi X l Hd M_Enum_ordinal 0 0 0 [.ref (cxE X e)] x v x := by
  refine gM_intro (by decide) (Nat.le_of_ble_eq_true rfl) (fun K hK => ?_)
  show K 0 [(0, .ref (cxE X e))] [] x 0 0
  refine r_aload_n hK d_Enum_ordinal_0 rfl 0 rfl ?_
  refine p_ordinal (e0 := e) (v := v) hK d_Enum_ordinal_1 he hv fs_Enum_7 ?_
  refine r_iret hK d_Enum_ordinal_4 rfl (rfl) ?_
  exact ⟨rfl, rfl⟩
set_option maxHeartbeats 1000000 in
theorem c_Phase_code {σ : Type} (X : gCx) (l : Launch) (Hd : σ → Heap → Prop) (x : σ) (e : Nat) (v : Int32) (he : e < 12) (hv : ([4, 5, 6, 7, 8, 9, 10, 11, 12, 13, 14, 15] : List Int32).getD e 0 = v) : gMi X l Hd M_Phase_code 0 0 0 [.ref (cxE X e)] x v x := by
  refine gM_intro (by decide) (Nat.le_of_ble_eq_true rfl) (fun K hK => ?_)
  show K 0 [(0, .ref (cxE X e))] [] x 0 0
  refine r_aload_n hK d_Phase_code_0 rfl 0 rfl ?_
  refine p_code (e0 := e) (v := v) hK d_Phase_code_1 he hv fs_Phase_59 ?_
  refine r_iret hK d_Phase_code_4 rfl (rfl) ?_
  exact ⟨rfl, rfl⟩
set_option maxHeartbeats 1000000 in
theorem c_Int_intValue {σ : Type} (X : gCx) (l : Launch) (Hd : σ → Heap → Prop) (x : σ) (j : Nat) (hj : j < 256) : gMi X l Hd M_Int_intValue 0 0 0 [.ref (cxI X j)] x (vb_c j) x := by
  refine gM_intro (by decide) (Nat.le_of_ble_eq_true rfl) (fun K hK => ?_)
  show K 0 [(0, .ref (cxI X j))] [] x 0 0
  refine r_aload_n hK d_Int_intValue_0 rfl 0 rfl ?_
  refine p_ival (j := j) hK d_Int_intValue_1 hj fs_Int_205 ?_
  refine r_iret hK d_Int_intValue_4 rfl (rfl) ?_
  exact ⟨rfl, rfl⟩
set_option maxHeartbeats 1000000 in
theorem c_Int_valueOf {σ : Type} (X : gCx) (l : Launch) (Hd : σ → Heap → Prop) (x : σ) (f : Nat) (hf : f < 100) : gMr X l Hd M_Int_valueOf 0 0 0 [.int (nI f)] x (some (cxI X (f + 128))) x := by
  refine gM_intro (by decide) (Nat.le_of_ble_eq_true rfl) (fun K hK => ?_)
  show K 0 [(0, .int (nI f))] [] x 0 0
  refine r_iload_n hK d_Int_valueOf_0 rfl 0 rfl ?_
  refine r_bipush (v := -128) hK d_Int_valueOf_1 (by decide) ?_
  refine r_icmp_lt (tgt := 23) hK d_Int_valueOf_3 (by decide) (fun z => False.elim (absurd z (by rw [Int32.not_lt]; exact Int32.le_trans (by decide) (nI_pos' (by omega))))) (fun c3 => ?_)
  refine r_iload_n hK d_Int_valueOf_6 rfl 0 rfl ?_
  refine p_high hK d_Int_valueOf_7 fs_Int_191 ?_
  refine r_ncmp_gt (a := f) (b := 127) (tgt := 23) hK d_Int_valueOf_10 (by decide) (by omega) (by omega) (fun z => False.elim (by omega)) (fun c10 => ?_)
  refine p_cache hK d_Int_valueOf_13 fs_Int_195 ?_
  refine r_iload_n hK d_Int_valueOf_16 rfl 0 rfl ?_
  refine r_sipush (v := nI 128) hK d_Int_valueOf_17 (by decide) ?_
  refine r_iadd hK d_Int_valueOf_20 ?_
  refine r_tp (b := nI (f + 128)) (nI_add _ _) ?_
  refine p_cached hK (f + 128) d_Int_valueOf_21 rfl (by omega) ?_
  refine r_aret (v := some (cxI X (f + 128))) hK d_Int_valueOf_22 rfl (Or.inl ⟨_, rfl⟩) ?_
  exact ⟨rfl, rfl⟩
set_option maxHeartbeats 1000000 in
theorem c_AbC_init {σ : Type} (X : gCx) (l : Launch) (Hd : σ → Heap → Prop) (x : σ) (a : Nat) : gMv X l Hd M_AbC_init 1 0 0 [.ref a] x x := by
  refine gM_intro (by decide) (Nat.le_of_ble_eq_true rfl) (fun K hK => ?_)
  show K 0 [(0, .ref a)] [] x 0 0
  refine r_aload_n hK d_AbC_init_0 rfl 0 rfl ?_
  refine r_objInit hK d_AbC_init_1 ml_AbC_1 ow_1 ow_2 (by decide) (by decide) ?_
  refine r_vret hK d_AbC_init_4 rfl ?_
  exact ⟨rfl, rfl⟩
set_option maxHeartbeats 1000000 in
theorem c_Rec_init {σ : Type} (X : gCx) (l : Launch) (Hd : σ → Heap → Prop) (x : σ) (a : Nat) : gMv X l Hd M_Rec_init 1 0 0 [.ref a] x x := by
  refine gM_intro (by decide) (Nat.le_of_ble_eq_true rfl) (fun K hK => ?_)
  show K 0 [(0, .ref a)] [] x 0 0
  refine r_aload_n hK d_Rec_init_0 rfl 0 rfl ?_
  refine r_objInit hK d_Rec_init_1 ml_Rec_1 ow_1 ow_2 (by decide) (by decide) ?_
  refine r_vret hK d_Rec_init_4 rfl ?_
  exact ⟨rfl, rfl⟩
set_option maxHeartbeats 1000000 in
theorem c_AbL_init (X : gCx) (l : Launch) (g : gG) (a : Nat) (ha : gk g a = 14) : gMv X l (HoldP X eqG) M_AbL_init 2 0 0 [.ref a] g (gSetI g 56 a (nI 0)) := by
  refine gM_intro (by decide) (Nat.le_of_ble_eq_true rfl) (fun K hK => ?_)
  show K 0 [(0, .ref a)] [] g 0 0
  refine r_aload_n hK d_AbL_init_0 rfl 0 rfl ?_
  refine r_callIv (As := []) (b := a) (st := []) hK (c_AbC_init X l (HoldP X eqG) g a) d_AbL_init_1 ml_AbL_1 ci_AbC_init rfl (by decide) (Nat.le_of_ble_eq_true rfl) ?_ rfl
  refine r_aload_n hK d_AbL_init_4 rfl 0 rfl ?_
  refine r_iconst (v := nI 0) hK d_AbL_init_5 (by decide) ?_
  refine p_putI (k := 2) (f := 56) hK d_AbL_init_6 k_AL fd_AbL_7_AL (by decide) rfl rfl rfl rfl rfl (by rintro g rfl; exact ⟨ha, rfl⟩) ?_
  refine r_vret hK d_AbL_init_9 rfl ?_
  exact ⟨rfl, rfl⟩
set_option maxHeartbeats 1000000 in
theorem c_AL_init (X : gCx) (l : Launch) (g : gG) (a : Nat) (ha : gk g a = 14) : gMv X l (HoldP X eqG) M_AL_init 3 0 0 [.ref a] g (gSetR (gSetI g 56 a (nI 0)) 54 a (some (cxZ X))) := by
  refine gM_intro (by decide) (Nat.le_of_ble_eq_true rfl) (fun K hK => ?_)
  show K 0 [(0, .ref a)] [] g 0 0
  refine r_aload_n hK d_AL_init_0 rfl 0 rfl ?_
  refine r_callIv (As := []) (b := a) (st := []) hK (c_AbL_init X l g a ha) d_AL_init_1 ml_AL_1 ci_AbL_init rfl (by decide) (Nat.le_of_ble_eq_true rfl) ?_ rfl
  refine r_aload_n hK d_AL_init_4 rfl 0 rfl ?_
  refine p_empty hK d_AL_init_5 fs_AL_39 ?_
  refine p_putR (k := 0) (f := 54) (v := some (cxZ X)) hK d_AL_init_8 k_AL fd_AL_9_AL (by decide) rfl rfl rfl (by rintro g rfl; exact ⟨ha, rfl⟩) ?_
  refine r_vret hK d_AL_init_11 rfl ?_
  exact ⟨rfl, rfl⟩
set_option maxHeartbeats 1000000 in
theorem c_AL_size (X : gCx) (l : Launch) (g : gG) (a n : Nat) (ha : gk g a = 14) (hn : gi g 55 a = nI n) : gMi X l (HoldP X eqG) M_AL_size 0 0 0 [.ref a] g (nI n) g := by
  refine gM_intro (by decide) (Nat.le_of_ble_eq_true rfl) (fun K hK => ?_)
  show K 0 [(0, .ref a)] [] g 0 0
  refine r_aload_n hK d_AL_size_0 rfl 0 rfl ?_
  refine p_getI (f := 55) (v := nI n) hK d_AL_size_1 k_AL fd_AL_48_AL (by decide) rfl rfl (by rintro g rfl; exact ⟨ha, hn⟩) ?_
  refine r_iret hK d_AL_size_4 rfl (rfl) ?_
  exact ⟨rfl, rfl⟩
set_option maxHeartbeats 1000000 in
theorem c_AL_elementData (X : gCx) (l : Launch) (g : gG) (a b j v : Nat) (ha : gk g a = 14) (hab : gr g 54 a = some b) (hb : gk g b = 104) (hl : gl g b = 10) (hj : j < 10) (hv : gb g b j = some v) : gMr X l (HoldP X eqG) M_AL_elementData 0 0 0 [.ref a, .int (nI j)] g (some v) g := by
  refine gM_intro (by decide) (Nat.le_of_ble_eq_true rfl) (fun K hK => ?_)
  show K 0 [(0, .ref a), (1, .int (nI j))] [] g 0 0
  refine r_aload_n hK d_AL_elementData_0 rfl 0 rfl ?_
  refine p_getR (f := 54) (v := some b) hK d_AL_elementData_1 k_AL fd_AL_9_AL (by decide) rfl rfl (by rintro g rfl; exact ⟨ha, hab⟩) ?_
  refine r_iload_n hK d_AL_elementData_4 rfl 1 rfl ?_
  refine p_aald (t := 4) (v := some v) hK j 10 d_AL_elementData_5 (by decide) (by decide) rfl rfl (by omega) (by rintro g rfl; exact ⟨hb, hl, hv⟩) ?_
  refine r_aret (v := some v) hK d_AL_elementData_6 rfl (Or.inl ⟨_, rfl⟩) ?_
  exact ⟨rfl, rfl⟩
set_option maxHeartbeats 1000000 in
theorem c_AL_get (X : gCx) (l : Launch) (g : gG) (a b j n v : Nat) (ha : gk g a = 14) (hn : gi g 55 a = nI n) (hjn : j < n) (hn10 : n ≤ 10) (hab : gr g 54 a = some b) (hb : gk g b = 104) (hl : gl g b = 10) (hv : gb g b j = some v) : gMr X l (HoldP X eqG) M_AL_get 2 0 0 [.ref a, .int (nI j)] g (some v) g := by
  refine gM_intro (by decide) (Nat.le_of_ble_eq_true rfl) (fun K hK => ?_)
  show K 0 [(0, .ref a), (1, .int (nI j))] [] g 0 0
  refine r_iload_n hK d_AL_get_0 rfl 1 rfl ?_
  refine r_aload_n hK d_AL_get_1 rfl 0 rfl ?_
  refine p_getI (f := 55) (v := nI n) hK d_AL_get_2 k_AL fd_AL_48_AL (by decide) rfl rfl (by rintro g rfl; exact ⟨ha, hn⟩) ?_
  refine r_callSi (As := [.int (nI j), .int (nI n)]) (st := []) hK (c_Objs_checkIndex X l (HoldP X eqG) g j n hjn (by omega)) d_AL_get_5 ml_AL_118 cs_Objs_checkIndex rfl (by decide) (Nat.le_of_ble_eq_true rfl) ?_ rfl
  refine r_pop hK d_AL_get_8 rfl ?_
  refine r_aload_n hK d_AL_get_9 rfl 0 rfl ?_
  refine r_iload_n hK d_AL_get_10 rfl 1 rfl ?_
  refine r_callVr (As := [.int (nI j)]) (b := a) (st := []) hK (c_AL_elementData X l g a b j v ha hab hb hl (by omega) hv) d_AL_get_11 ml_AL_123 cv_AL_elementData rfl (by decide) (p_recv k_AL (by rintro g rfl; exact ha)) (Nat.le_of_ble_eq_true rfl) ?_ rfl
  refine r_aret (v := some v) hK d_AL_get_14 rfl (Or.inl ⟨_, rfl⟩) ?_
  exact ⟨rfl, rfl⟩
set_option maxHeartbeats 1000000 in
theorem c_AL_grow_1 (X : gCx) (l : Launch) (g : gG) (a q : Nat) (ha : gk g a = 14) (hq : gx g = q) (n1 : a ≠ q) (hab : gr g 54 a = some (cxZ X)) : gMr X l (HoldP X eqG) M_AL_grow_1 1 1 10 [.ref a, .int (nI 1)] g (some q) (gSetR (gNewA g 4 10) 54 a (some q)) := by
  refine gM_intro (by decide) (Nat.le_of_ble_eq_true rfl) (fun K hK => ?_)
  show K 0 [(0, .ref a), (1, .int (nI 1))] [] g 1 10
  refine r_aload_n hK d_AL_grow_1_0 rfl 0 rfl ?_
  refine p_getR (f := 54) (v := some (cxZ X)) hK d_AL_grow_1_1 k_AL fd_AL_9_AL (by decide) rfl rfl (by rintro g rfl; exact ⟨ha, hab⟩) ?_
  refine p_elen hK d_AL_grow_1_4 ?_
  refine r_istore_n (lv' := [(2, .int (nI 0)), (0, .ref a), (1, .int (nI 1))]) hK d_AL_grow_1_5 rfl (by decide) rfl ?_
  refine r_iload_n hK d_AL_grow_1_6 rfl 0 rfl ?_
  refine r_nif_gt (a := 0) (tgt := 20) hK d_AL_grow_1_7 (by decide) (by decide) (fun z => absurd z (by decide)) (fun _ => ?_)
  refine r_aload_n hK d_AL_grow_1_10 rfl 1 rfl ?_
  refine p_getR (f := 54) (v := some (cxZ X)) hK d_AL_grow_1_11 k_AL fd_AL_9_AL (by decide) rfl rfl (by rintro g rfl; exact ⟨ha, hab⟩) ?_
  refine p_empty hK d_AL_grow_1_14 fs_AL_39 ?_
  refine r_acmp_eq (a := some (cxZ X)) (b := some (cxZ X)) (tgt := 45) hK d_AL_grow_1_17 (by decide) (fun c17 => ?_) (fun z => False.elim (z rfl))
  refine r_aload_n hK d_AL_grow_1_45 rfl 1 rfl ?_
  refine r_bipush (v := nI 10) hK d_AL_grow_1_46 (by decide) ?_
  refine r_iload_n hK d_AL_grow_1_48 rfl 2 rfl ?_
  refine r_mmax (c := nI 10) hK d_AL_grow_1_49 ml_AL_79 (by decide) (by decide) (Nat.le_of_ble_eq_true rfl) ?_
  refine p_newq (t := 4) (n := 10) (a := q) hK d_AL_grow_1_52 (by decide) (by decide) rfl (fun _ h => h.2.2.1.2.2) cl_AL_7 rfl (by decide) (by rintro g rfl; exact ⟨hq, rfl⟩) ?_
  refine r_dup_x1 hK d_AL_grow_1_55 rfl rfl ?_
  refine p_putR (k := 0) (f := 54) (v := some q) hK d_AL_grow_1_56 k_AL fd_AL_9_AL (by decide) rfl rfl rfl (by rintro g rfl; exact ⟨(by simp [gSetI, gSetR, gSetA, gSetB, gNew, gNewA, up2, up1, gx, gk, gl, gi, gr, ga, gb, hq, n1, ha]), rfl⟩) ?_
  refine r_aret (v := some q) hK d_AL_grow_1_59 rfl (Or.inr ⟨_, rfl⟩) ?_
  exact ⟨rfl, rfl⟩
set_option maxHeartbeats 1000000 in
theorem c_AL_grow_0 (X : gCx) (l : Launch) (g : gG) (a q : Nat) (ha : gk g a = 14) (hq : gx g = q) (n1 : a ≠ q) (hab : gr g 54 a = some (cxZ X)) (hn : gi g 55 a = nI 0) : gMr X l (HoldP X eqG) M_AL_grow_0 2 1 10 [.ref a] g (some q) (gSetR (gNewA g 4 10) 54 a (some q)) := by
  refine gM_intro (by decide) (Nat.le_of_ble_eq_true rfl) (fun K hK => ?_)
  show K 0 [(0, .ref a)] [] g 1 10
  refine r_aload_n hK d_AL_grow_0_0 rfl 0 rfl ?_
  refine r_aload_n hK d_AL_grow_0_1 rfl 0 rfl ?_
  refine p_getI (f := 55) (v := nI 0) hK d_AL_grow_0_2 k_AL fd_AL_48_AL (by decide) rfl rfl (by rintro g rfl; exact ⟨ha, hn⟩) ?_
  refine r_iconst (v := nI 1) hK d_AL_grow_0_5 (by decide) ?_
  refine r_iadd hK d_AL_grow_0_6 ?_
  refine r_tp (b := nI 1) (rfl) ?_
  refine r_callVr (As := [.int (nI 1)]) (b := a) (st := []) hK (c_AL_grow_1 X l g a q ha hq n1 hab) d_AL_grow_0_7 ml_AL_69 cv_AL_grow_1 rfl (by decide) (p_recv k_AL (by rintro g rfl; exact ha)) (Nat.le_of_ble_eq_true rfl) ?_ rfl
  refine r_aret (v := some q) hK d_AL_grow_0_10 rfl (Or.inr ⟨_, rfl⟩) ?_
  exact ⟨rfl, rfl⟩
set_option maxHeartbeats 1000000 in
theorem c_AL_add_3 (X : gCx) (l : Launch) (g : gG) (a b v n : Nat) (ha : gk g a = 14) (hb : gk g b = 104) (hl : gl g b = 10) (hn : n < 10) (C : String) (T : u_T) (N ci : Nat) (hC : gCl ci C T N) (hca : Cond.castable C "java/lang/Object" ∈ lw_tbl) (hv : gk g v = ci + 1) : gMv X l (HoldP X eqG) M_AL_add_3 3 1 10 [.ref a, .ref v, .ref b, .int (nI n)] g (gSetI (gSetB g b n (some v)) 55 a (nI (n + 1))) := by
  refine gM_intro (by decide) (Nat.le_of_ble_eq_true rfl) (fun K hK => ?_)
  show K 0 [(0, .ref a), (1, .ref v), (2, .ref b), (3, .int (nI n))] [] g 1 10
  refine r_iload_n hK d_AL_add_3_0 rfl 3 rfl ?_
  refine r_aload_n hK d_AL_add_3_1 rfl 2 rfl ?_
  refine p_alen (t := 4) hK d_AL_add_3_2 (by decide) (by rintro g rfl; exact ⟨hb, hl⟩) ?_
  refine r_ncmp_ne (a := n) (b := 10) (tgt := 11) hK d_AL_add_3_3 (by decide) (by omega) (by omega) (fun c3 => ?_) (fun z => False.elim (by omega))
  refine r_aload_n hK d_AL_add_3_11 rfl 2 rfl ?_
  refine r_iload_n hK d_AL_add_3_12 rfl 3 rfl ?_
  refine r_aload_n hK d_AL_add_3_13 rfl 1 rfl ?_
  refine p_aast (t := 4) hK n 10 d_AL_add_3_14 (by decide) (by decide) rfl rfl (by omega) (p_recv hC (by rintro g rfl; exact hv)) (Or.inr hca) (by rintro g rfl; exact ⟨hb, hl, rfl⟩) ?_
  refine r_aload_n hK d_AL_add_3_15 rfl 0 rfl ?_
  refine r_iload_n hK d_AL_add_3_16 rfl 3 rfl ?_
  refine r_iconst (v := nI 1) hK d_AL_add_3_17 (by decide) ?_
  refine r_iadd hK d_AL_add_3_18 ?_
  refine r_tp (b := nI (n + 1)) (nI_add _ _) ?_
  refine p_putI (k := 1) (f := 55) hK d_AL_add_3_19 k_AL fd_AL_48_AL (by decide) rfl rfl rfl rfl rfl (by rintro g rfl; exact ⟨ha, rfl⟩) ?_
  refine r_vret hK d_AL_add_3_22 rfl ?_
  exact ⟨rfl, rfl⟩
set_option maxHeartbeats 1000000 in
theorem c_AL_add_3_0 (X : gCx) (l : Launch) (g : gG) (a q : Nat) (ha : gk g a = 14) (hq : gx g = q) (n1 : a ≠ q) (hab : gr g 54 a = some (cxZ X)) (hn : gi g 55 a = nI 0) (v : Nat) (n2 : v ≠ q) (C : String) (T : u_T) (N ci : Nat) (hC : gCl ci C T N) (hca : Cond.castable C "java/lang/Object" ∈ lw_tbl) (hv : gk g v = ci + 1) : gMv X l (HoldP X eqG) M_AL_add_3 3 1 10 [.ref a, .ref v, .ref (cxZ X), .int (nI 0)] g (gSetI (gSetB (gSetR (gNewA g 4 10) 54 a (some q)) q 0 (some v)) 55 a (nI (0 + 1))) := by
  refine gM_intro (by decide) (Nat.le_of_ble_eq_true rfl) (fun K hK => ?_)
  show K 0 [(0, .ref a), (1, .ref v), (2, .ref (cxZ X)), (3, .int (nI 0))] [] g 1 10
  refine r_iload_n hK d_AL_add_3_0 rfl 3 rfl ?_
  refine r_aload_n hK d_AL_add_3_1 rfl 2 rfl ?_
  refine p_elen hK d_AL_add_3_2 ?_
  refine r_ncmp_ne (a := 0) (b := 0) (tgt := 11) hK d_AL_add_3_3 (by decide) (by decide) (by decide) (fun z => absurd z (by decide)) (fun _ => ?_)
  refine r_aload_n hK d_AL_add_3_6 rfl 0 rfl ?_
  refine r_callVr (As := []) (b := a) (st := []) hK (c_AL_grow_0 X l g a q ha hq n1 hab hn) d_AL_add_3_7 ml_AL_129 cv_AL_grow_0 rfl (by decide) (p_recv k_AL (by rintro g rfl; exact ha)) (Nat.le_of_ble_eq_true rfl) ?_ rfl
  refine r_astore_n (lv' := [(2, .ref q), (0, .ref a), (1, .ref v), (3, .int (nI 0))]) hK d_AL_add_3_10 rfl (by decide) rfl ?_
  refine r_aload_n hK d_AL_add_3_11 rfl 0 rfl ?_
  refine r_iload_n hK d_AL_add_3_12 rfl 3 rfl ?_
  refine r_aload_n hK d_AL_add_3_13 rfl 2 rfl ?_
  refine p_aast (t := 4) hK 0 10 d_AL_add_3_14 (by decide) (by decide) rfl rfl (by omega) (p_recv hC (by rintro g rfl; exact by simp [gSetI, gSetR, gSetA, gSetB, gNew, gNewA, up2, up1, gx, gk, gl, gi, gr, ga, gb, hq, n1, n2, hv])) (Or.inr hca) (by rintro g rfl; exact ⟨(by simp [gSetI, gSetR, gSetA, gSetB, gNew, gNewA, up2, up1, gx, gk, gl, gi, gr, ga, gb, hq, n1, n2]), (by simp [gSetI, gSetR, gSetA, gSetB, gNew, gNewA, up2, up1, gx, gk, gl, gi, gr, ga, gb, hq, n1, n2]), rfl⟩) ?_
  refine r_aload_n hK d_AL_add_3_15 rfl 1 rfl ?_
  refine r_iload_n hK d_AL_add_3_16 rfl 3 rfl ?_
  refine r_iconst (v := nI 1) hK d_AL_add_3_17 (by decide) ?_
  refine r_iadd hK d_AL_add_3_18 ?_
  refine r_tp (b := nI (0 + 1)) (nI_add _ _) ?_
  refine p_putI (k := 1) (f := 55) hK d_AL_add_3_19 k_AL fd_AL_48_AL (by decide) rfl rfl rfl rfl rfl (by rintro g rfl; exact ⟨(by simp [gSetI, gSetR, gSetA, gSetB, gNew, gNewA, up2, up1, gx, gk, gl, gi, gr, ga, gb, hq, n1, n2, ha]), rfl⟩) ?_
  refine r_vret hK d_AL_add_3_22 rfl ?_
  exact ⟨rfl, rfl⟩
set_option maxHeartbeats 1000000 in
theorem c_AL_add_1 (X : gCx) (l : Launch) (g : gG) (a b v n : Nat) (mc : Int32) (ha : gk g a = 14) (hmc : gi g 56 a = mc) (hab : gr g 54 a = some b) (hn : gi g 55 a = nI n) (hb : gk g b = 104) (hl : gl g b = 10) (hn10 : n < 10) (C : String) (T : u_T) (N ci : Nat) (hC : gCl ci C T N) (hca : Cond.castable C "java/lang/Object" ∈ lw_tbl) (hv : gk g v = ci + 1) : gMi X l (HoldP X eqG) M_AL_add_1 4 1 10 [.ref a, .ref v] g (nI 1) (gSetI (gSetB (gSetI g 56 a (mc + (nI 1))) b n (some v)) 55 a (nI (n + 1))) := by
  refine gM_intro (by decide) (Nat.le_of_ble_eq_true rfl) (fun K hK => ?_)
  show K 0 [(0, .ref a), (1, .ref v)] [] g 1 10
  refine r_aload_n hK d_AL_add_1_0 rfl 0 rfl ?_
  refine r_dup hK d_AL_add_1_1 rfl ?_
  refine p_getI (f := 56) (v := mc) hK d_AL_add_1_2 k_AL fd_AL_63_AL (by decide) rfl rfl (by rintro g rfl; exact ⟨ha, hmc⟩) ?_
  refine r_iconst (v := nI 1) hK d_AL_add_1_5 (by decide) ?_
  refine r_iadd hK d_AL_add_1_6 ?_
  refine p_putI (k := 2) (f := 56) hK d_AL_add_1_7 k_AL fd_AL_63_AL (by decide) rfl rfl rfl rfl rfl (by rintro g rfl; exact ⟨ha, rfl⟩) ?_
  refine r_aload_n hK d_AL_add_1_10 rfl 0 rfl ?_
  refine r_aload_n hK d_AL_add_1_11 rfl 1 rfl ?_
  refine r_aload_n hK d_AL_add_1_12 rfl 0 rfl ?_
  refine p_getR (f := 54) (v := some b) hK d_AL_add_1_13 k_AL fd_AL_9_AL (by decide) rfl rfl (by rintro g rfl; exact ⟨ha, (by simp [gSetI, gSetR, gSetA, gSetB, gNew, gNewA, up2, up1, gx, gk, gl, gi, gr, ga, gb, hab])⟩) ?_
  refine r_aload_n hK d_AL_add_1_16 rfl 0 rfl ?_
  refine p_getI (f := 55) (v := nI n) hK d_AL_add_1_17 k_AL fd_AL_48_AL (by decide) rfl rfl (by rintro g rfl; exact ⟨ha, (by simp [gSetI, gSetR, gSetA, gSetB, gNew, gNewA, up2, up1, gx, gk, gl, gi, gr, ga, gb, hn])⟩) ?_
  refine r_callVv (As := [.ref v, .ref b, .int (nI n)]) (b := a) (st := []) hK (c_AL_add_3 X l (gSetI g 56 a (mc + (nI 1))) a b v n (by simp [gSetI, gSetR, gSetA, gSetB, gNew, gNewA, up2, up1, gx, gk, gl, gi, gr, ga, gb, ha]) (by simp [gSetI, gSetR, gSetA, gSetB, gNew, gNewA, up2, up1, gx, gk, gl, gi, gr, ga, gb, hb]) (by simp [gSetI, gSetR, gSetA, gSetB, gNew, gNewA, up2, up1, gx, gk, gl, gi, gr, ga, gb, hl]) hn10 C T N ci hC hca (by simp [gSetI, gSetR, gSetA, gSetB, gNew, gNewA, up2, up1, gx, gk, gl, gi, gr, ga, gb, hv])) d_AL_add_1_20 ml_AL_131 cv_AL_add_3 rfl (by decide) (p_recv k_AL (by rintro g rfl; exact by simp [gSetI, gSetR, gSetA, gSetB, gNew, gNewA, up2, up1, gx, gk, gl, gi, gr, ga, gb, ha])) (Nat.le_of_ble_eq_true rfl) ?_ rfl
  refine r_iconst (v := nI 1) hK d_AL_add_1_23 (by decide) ?_
  refine r_iret hK d_AL_add_1_24 rfl (rfl) ?_
  exact ⟨rfl, rfl⟩
set_option maxHeartbeats 1000000 in
theorem c_AL_add_1_0 (X : gCx) (l : Launch) (g : gG) (a q v : Nat) (mc : Int32) (ha : gk g a = 14) (hq : gx g = q) (n1 : a ≠ q) (n2 : v ≠ q) (hmc : gi g 56 a = mc) (hab : gr g 54 a = some (cxZ X)) (hn : gi g 55 a = nI 0) (C : String) (T : u_T) (N ci : Nat) (hC : gCl ci C T N) (hca : Cond.castable C "java/lang/Object" ∈ lw_tbl) (hv : gk g v = ci + 1) : gMi X l (HoldP X eqG) M_AL_add_1 4 1 10 [.ref a, .ref v] g (nI 1) (gSetI (gSetB (gSetR (gNewA (gSetI g 56 a (mc + (nI 1))) 4 10) 54 a (some q)) q 0 (some v)) 55 a (nI (0 + 1))) := by
  refine gM_intro (by decide) (Nat.le_of_ble_eq_true rfl) (fun K hK => ?_)
  show K 0 [(0, .ref a), (1, .ref v)] [] g 1 10
  refine r_aload_n hK d_AL_add_1_0 rfl 0 rfl ?_
  refine r_dup hK d_AL_add_1_1 rfl ?_
  refine p_getI (f := 56) (v := mc) hK d_AL_add_1_2 k_AL fd_AL_63_AL (by decide) rfl rfl (by rintro g rfl; exact ⟨ha, hmc⟩) ?_
  refine r_iconst (v := nI 1) hK d_AL_add_1_5 (by decide) ?_
  refine r_iadd hK d_AL_add_1_6 ?_
  refine p_putI (k := 2) (f := 56) hK d_AL_add_1_7 k_AL fd_AL_63_AL (by decide) rfl rfl rfl rfl rfl (by rintro g rfl; exact ⟨ha, rfl⟩) ?_
  refine r_aload_n hK d_AL_add_1_10 rfl 0 rfl ?_
  refine r_aload_n hK d_AL_add_1_11 rfl 1 rfl ?_
  refine r_aload_n hK d_AL_add_1_12 rfl 0 rfl ?_
  refine p_getR (f := 54) (v := some (cxZ X)) hK d_AL_add_1_13 k_AL fd_AL_9_AL (by decide) rfl rfl (by rintro g rfl; exact ⟨ha, (by simp [gSetI, gSetR, gSetA, gSetB, gNew, gNewA, up2, up1, gx, gk, gl, gi, gr, ga, gb, hab])⟩) ?_
  refine r_aload_n hK d_AL_add_1_16 rfl 0 rfl ?_
  refine p_getI (f := 55) (v := nI 0) hK d_AL_add_1_17 k_AL fd_AL_48_AL (by decide) rfl rfl (by rintro g rfl; exact ⟨ha, (by simp [gSetI, gSetR, gSetA, gSetB, gNew, gNewA, up2, up1, gx, gk, gl, gi, gr, ga, gb, hn])⟩) ?_
  refine r_callVv (As := [.ref v, .ref (cxZ X), .int (nI 0)]) (b := a) (st := []) hK (c_AL_add_3_0 X l (gSetI g 56 a (mc + (nI 1))) a q (by simp [gSetI, gSetR, gSetA, gSetB, gNew, gNewA, up2, up1, gx, gk, gl, gi, gr, ga, gb, ha]) (by simp [gSetI, gSetR, gSetA, gSetB, gNew, gNewA, up2, up1, gx, gk, gl, gi, gr, ga, gb, hq]) n1 (by simp [gSetI, gSetR, gSetA, gSetB, gNew, gNewA, up2, up1, gx, gk, gl, gi, gr, ga, gb, hab]) (by simp [gSetI, gSetR, gSetA, gSetB, gNew, gNewA, up2, up1, gx, gk, gl, gi, gr, ga, gb, hn]) v n2 C T N ci hC hca (by simp [gSetI, gSetR, gSetA, gSetB, gNew, gNewA, up2, up1, gx, gk, gl, gi, gr, ga, gb, hv])) d_AL_add_1_20 ml_AL_131 cv_AL_add_3 rfl (by decide) (p_recv k_AL (by rintro g rfl; exact by simp [gSetI, gSetR, gSetA, gSetB, gNew, gNewA, up2, up1, gx, gk, gl, gi, gr, ga, gb, ha])) (Nat.le_of_ble_eq_true rfl) ?_ rfl
  refine r_iconst (v := nI 1) hK d_AL_add_1_23 (by decide) ?_
  refine r_iret hK d_AL_add_1_24 rfl (rfl) ?_
  exact ⟨rfl, rfl⟩
